section
theorem pk_us {f : Nat → Int32} {k : Nat} {x : Int32} : upd f k x k = x := if_pos rfl
theorem pk_un {f : Nat → Int32} {k j : Nat} {x : Int32} (h : j ≠ k) : upd f k x j = f j := if_neg h
theorem pk_uLs {f : Nat → Int64} {k : Nat} {x : Int64} : vp_updL f k x k = x := if_pos rfl
theorem pk_uLn {f : Nat → Int64} {k j : Nat} {x : Int64} (h : j ≠ k) : vp_updL f k x j = f j := if_neg h
theorem pk_sub {a b : Nat} (h : b ≤ a) : nI a - nI b = nI (a - b) := by
  obtain ⟨c, rfl⟩ : ∃ c, a = c + b := ⟨a - b, by omega⟩
  rw [← nI_add, Int32.add_sub_cancel, Nat.add_sub_cancel]
theorem pk_m1 (n : Nat) : nI (n + 1) + (-1) = nI n := by
  rw [← nI_1, Int32.add_assoc, show (1 : Int32) + (-1) = 0 from rfl, Int32.add_zero]
theorem pk_mul (a b : Nat) : nI a * nI b = nI (a * b) := (Int32.ofNat_mul a b).symm
theorem pk_div {a d : Nat} (ha : a < 2 ^ 31) (h0 : 0 < d) (hd : d < 2 ^ 31) : nI a / nI d = nI (a / d) := by
  apply Int32.toInt_inj.mp
  rw [lg_idiv_nonneg (by rw [nI_toInt ha]; omega) (by rw [nI_toInt hd]; omega), nI_toInt ha, nI_toInt hd, nI_toInt (Nat.lt_of_le_of_lt (Nat.div_le_self a d) ha)]
  first | rfl | exact (Int.natCast_ediv _ _).symm
theorem pk_rem {a d : Nat} (ha : a < 2 ^ 31) (h0 : 0 < d) (hd : d < 2 ^ 31) : nI a - nI a / nI d * nI d = nI (a % d) := by
  rw [pk_div ha h0 hd, pk_mul, pk_sub (Nat.div_mul_le_self a d)]
  exact congrArg nI (by have := Nat.div_add_mod' a d; omega)
theorem pk_sub_toInt {a b : Nat} (ha : a < 2 ^ 30) (hb : b < 2 ^ 30) : (nI a - nI b).toInt = (a : Int) - b := by
  rw [Int32.toInt_sub, nI_toInt (by omega), nI_toInt (by omega)]
  exact Int.bmod_eq_of_le (by omega) (by omega)
theorem pk_sneg {a b : Nat} (hb : b < 2 ^ 30) (h : a < b) : nI a - nI b < 0 := by
  rw [Int32.lt_iff_toInt_lt, pk_sub_toInt (by omega) hb, show (0 : Int32).toInt = 0 from by decide]
  omega
theorem pk_ix (x : Int32) {n : Nat} (hn : n < 2 ^ 31) : x < 0 ∨ nI n ≤ x ∨ ∃ j : Nat, j < n ∧ x = nI j := by
  by_cases h : x < 0
  · exact Or.inl h
  · obtain ⟨j, hj, rfl⟩ := nI_of h
    by_cases h2 : j < n
    · exact Or.inr (Or.inr ⟨j, h2, rfl⟩)
    · exact Or.inr (Or.inl (nI_le (by omega) hj))
theorem pk_le {x y : Int32} {A B : Prop} (a b : Nat) (f : a ≤ b → A) (g : b < a → B) (hx : x = nI a := by rfl) (hy : y = nI b := by rfl) (ha : a < 2 ^ 31 := by omega) (hb : b < 2 ^ 31 := by omega) : (x ≤ y → A) ∧ (¬ x ≤ y → B) := by
  subst hx hy
  rw [nI_leI ha hb]
  exact ⟨f, fun z => g (by omega)⟩
theorem pk_lt {x y : Int32} {A B : Prop} (a b : Nat) (f : a < b → A) (g : b ≤ a → B) (hx : x = nI a := by rfl) (hy : y = nI b := by rfl) (ha : a < 2 ^ 31 := by omega) (hb : b < 2 ^ 31 := by omega) : (x < y → A) ∧ (¬ x < y → B) := by
  subst hx hy
  rw [nI_ltI ha hb]
  exact ⟨f, fun z => g (by omega)⟩
theorem pk_eq {x y : Int32} {A B : Prop} (a b : Nat) (f : a = b → A) (g : a ≠ b → B) (hx : x = nI a := by rfl) (hy : y = nI b := by rfl) (ha : a < 2 ^ 31 := by omega) (hb : b < 2 ^ 31 := by omega) : (x = y → A) ∧ (¬ x = y → B) := by
  subst hx hy
  rw [nI_eq ha hb]
  exact ⟨f, g⟩
theorem pk_in {x : Int32} (n N : Nat) (h : n < N) (hx : x = nI n := by rfl) (hN : N < 2 ^ 31 := by omega) : vp_in x N := by
  subst hx
  exact vp_in_nI h hN
theorem pk_cl {x : Int32} (n : Nat) (hx : x = nI n := by rfl) (h : n < 2 ^ 31 := by omega) : x.toNatClampNeg = n := by
  subst hx
  exact nI_clamp h
theorem pk_tn {n : Nat} (h : n < 2 ^ 32) : (nI n).toBitVec.toNat = n := Nat.mod_eq_of_lt h
theorem pk_and (x : Int32) {m : Int32} (k : Nat) (hm : m.toBitVec.toNat = 2 ^ k - 1) : x &&& m = nI (x.toBitVec.toNat % 2 ^ k) := by
  apply Int32.toBitVec_inj.mp
  apply BitVec.eq_of_toNat_eq
  rw [Int32.toBitVec_and, BitVec.toNat_and, hm, Nat.and_two_pow_sub_one_eq_mod]
  show _ = (BitVec.ofNat 32 _).toNat
  rw [BitVec.toNat_ofNat]
  exact (Nat.mod_eq_of_lt (Nat.lt_of_le_of_lt (Nat.mod_le _ _) x.toBitVec.isLt)).symm
theorem pk_andN {n : Nat} (h : n < 2 ^ 32) {m : Int32} (k : Nat) (hm : m.toBitVec.toNat = 2 ^ k - 1) : nI n &&& m = nI (n % 2 ^ k) := by
  rw [pk_and _ k hm, pk_tn h]
theorem pk_andE (x : Int32) {m : Int32} (k : Nat) (hm : m.toBitVec.toNat = 2 ^ k - 1) : ∃ j : Nat, j < 2 ^ k ∧ x &&& m = nI j := ⟨_, Nat.mod_lt _ (Nat.two_pow_pos k), pk_and x k hm⟩
theorem pk_andIn (x : Int32) {m : Int32} (k : Nat) (hm : m.toBitVec.toNat = 2 ^ k - 1) (hk : k ≤ 30) : vp_in (x &&& m) (2 ^ k) := by
  obtain ⟨j, hj, e⟩ := pk_andE x k hm
  rw [e]
  exact vp_in_nI hj (Nat.lt_of_le_of_lt (Nat.pow_le_pow_right (by decide) hk) (by decide))
theorem pk_shl (a s : Int32) (k : Nat) (hs : (s.toBitVec.smod 32).toNat = k) : (a <<< s).toBitVec.toNat = a.toBitVec.toNat * 2 ^ k % 2 ^ 32 := by
  show (a.toBitVec <<< (s.toBitVec.smod 32).toNat).toNat = _
  rw [hs, BitVec.toNat_shiftLeft, Nat.shiftLeft_eq]
theorem pk_shlN {n : Nat} (s : Int32) (k : Nat) (hs : (s.toBitVec.smod 32).toNat = k) (h : n * 2 ^ k < 2 ^ 32) : nI n <<< s = nI (n * 2 ^ k) := by
  apply Int32.toBitVec_inj.mp
  apply BitVec.eq_of_toNat_eq
  have hn : n < 2 ^ 32 := Nat.lt_of_le_of_lt (Nat.le_mul_of_pos_right n (Nat.two_pow_pos k)) h
  rw [pk_shl _ _ k hs, pk_tn hn, pk_tn h, Nat.mod_eq_of_lt h]
theorem pk_shr (a s : Int32) (k : Nat) (hs : (s.toBitVec.smod 32).toNat = k) : (a >>> s).toInt = a.toInt >>> k := by
  show (a.toBitVec.sshiftRight (s.toBitVec.smod 32).toNat).toInt = _
  rw [hs, BitVec.toInt_sshiftRight]
  rfl
theorem pk_shrN {n : Nat} (h : n < 2 ^ 31) (s : Int32) (k : Nat) (hs : (s.toBitVec.smod 32).toNat = k) : nI n >>> s = nI (n / 2 ^ k) := by
  apply Int32.toInt_inj.mp
  have h2 : n / 2 ^ k ≤ n := Nat.div_le_self _ _
  rw [pk_shr _ _ k hs, nI_toInt h, nI_toInt (by omega), Int.shiftRight_eq_div_pow]
  rfl
theorem pk_ushr (x s : Int32) (k : Nat) (hs : ((s.toUInt32 &&& Int32.toUInt32 31).toBitVec % 32).toNat = k) : (x.toUInt32 >>> (s.toUInt32 &&& Int32.toUInt32 31)).toInt32.toBitVec.toNat = x.toBitVec.toNat / 2 ^ k := by
  have e : (x.toUInt32 >>> (s.toUInt32 &&& Int32.toUInt32 31)).toInt32.toBitVec = x.toBitVec >>> k := by
    rw [← hs]
    exact UInt32.toBitVec_shiftRight _ _
  rw [e, BitVec.toNat_ushiftRight, Nat.shiftRight_eq_div_pow]
theorem pk_ushrN {n : Nat} (hn : n < 2 ^ 32) (s : Int32) (k : Nat) (hs : ((s.toUInt32 &&& Int32.toUInt32 31).toBitVec % 32).toNat = k) : ((nI n).toUInt32 >>> (s.toUInt32 &&& Int32.toUInt32 31)).toInt32 = nI (n / 2 ^ k) := by
  apply Int32.toBitVec_inj.mp
  apply BitVec.eq_of_toNat_eq
  rw [pk_ushr _ s k hs, pk_tn hn, pk_tn (Nat.lt_of_le_of_lt (Nat.div_le_self _ _) hn)]
theorem pk_nb (z : Int32) : narrow .byte (.int z.toInt8.toInt32) = .int z.toInt8.toInt32 := congrArg Value.int (by simp)
theorem pk_ns (z : Int32) : narrow .short (.int z.toInt16.toInt32) = .int z.toInt16.toInt32 := congrArg Value.int (by simp)
theorem pk_fb (r : Int32) : fits .byte (.int r.toInt8.toInt32) = true := by
  have ⟨a, b⟩ := lg_i2b_range r
  have h1 : (-128 : Int32).toInt = -128 := by decide
  have h2 : (127 : Int32).toInt = 127 := by decide
  simp only [fits, Bool.and_eq_true, decide_eq_true_eq, Int32.le_iff_toInt_le, h1, h2]
  omega
theorem pk_fs (r : Int32) : fits .short (.int r.toInt16.toInt32) = true := by
  have ⟨a, b⟩ := lg_i2s_range r
  have h1 : (-32768 : Int32).toInt = -32768 := by decide
  have h2 : (32767 : Int32).toInt = 32767 := by decide
  simp only [fits, Bool.and_eq_true, decide_eq_true_eq, Int32.le_iff_toInt_le, h1, h2]
  omega
theorem pk_charN {q : Nat} (hq : q < 65536) : narrow .char (.int (nI q)) = .int (nI q) ∧ fits .char (.int (nI q)) = true := by
  constructor
  · have e : (nI q).toUInt32.toUInt16.toUInt32.toInt32 = nI q := by
      apply Int32.toBitVec_inj.mp
      apply BitVec.eq_of_toNat_eq
      show (nI q).toUInt32.toUInt16.toUInt32.toNat = q % 2 ^ 32
      rw [UInt16.toNat_toUInt32, UInt32.toNat_toUInt16, show (nI q).toUInt32.toNat = q % 2 ^ 32 from rfl]
      omega
    exact congrArg Value.int e
  · have a : (0 : Int32) ≤ nI q := nI_pos' (by omega)
    have b : nI q ≤ 65535 := nI_le (b := 65535) (by omega) (by decide)
    show (decide ((0 : Int32) ≤ nI q) && decide (nI q ≤ 65535)) = true
    rw [decide_eq_true a, decide_eq_true b]
    rfl
theorem pk_char (x : Int32) : (x.toUInt32 % 65536).toInt32 = nI (x.toBitVec.toNat % 65536) := by
  apply Int32.toBitVec_inj.mp
  apply BitVec.eq_of_toNat_eq
  rw [pk_tn (by omega)]
  show (x.toUInt32 % 65536).toNat = _
  rw [UInt32.toNat_mod]
  rfl
theorem pk_nc (x : Int32) : narrow .char (.int (x.toUInt32 % 65536).toInt32) = .int (x.toUInt32 % 65536).toInt32 := by
  rw [pk_char]
  exact (pk_charN (Nat.mod_lt _ (by decide))).1
theorem pk_fc (x : Int32) : fits .char (.int (x.toUInt32 % 65536).toInt32) = true := by
  rw [pk_char]
  exact (pk_charN (Nat.mod_lt _ (by decide))).2
theorem pk_vb (z : Int32) : vp_nar .byte z.toInt8.toInt32 = z.toInt8.toInt32 := by rw [vp_nar_byte]; simp
theorem pk_vs (z : Int32) : vp_nar .short z.toInt16.toInt32 = z.toInt16.toInt32 := by rw [vp_nar_short]; simp
theorem pk_vc (z : Int32) : vp_nar .char (z.toUInt32 % 65536).toInt32 = (z.toUInt32 % 65536).toInt32 := Value.int.inj (pk_nc z)
theorem pk_lT {n : Nat} (h : n < 2 ^ 63) : (lN n).toInt = (n : Int) := lg_ofNat_toInt h
theorem pk_lLT {a b : Nat} (ha : a < 2 ^ 63) (hb : b < 2 ^ 63) : lN a < lN b ↔ a < b := by
  rw [Int64.lt_iff_toInt_lt, pk_lT ha, pk_lT hb]; omega
theorem pk_lLE {a b : Nat} (ha : a < 2 ^ 63) (hb : b < 2 ^ 63) : lN a ≤ lN b ↔ a ≤ b := by
  rw [Int64.le_iff_toInt_le, pk_lT ha, pk_lT hb]; omega
theorem pk_lEQ {a b : Nat} (ha : a < 2 ^ 63) (hb : b < 2 ^ 63) : lN a = lN b ↔ a = b := by
  rw [← Int64.toInt_inj, pk_lT ha, pk_lT hb]; omega
theorem pk_lOf {x : Int64} (h : ¬ x < 0) : ∃ k : Nat, k < 2 ^ 63 ∧ x = lN k := by
  rw [Int64.lt_iff_toInt_lt] at h
  have h0 : (0 : Int64).toInt = 0 := by decide
  have hx := Int64.toInt_lt x
  refine ⟨x.toInt.toNat, by omega, Int64.toInt_inj.mp ?_⟩
  rw [pk_lT (by omega)]
  omega
theorem pk_lDiv {a b : Nat} (ha : a < 2 ^ 63) (h0 : 0 < b) (hb : b < 2 ^ 63) : lN a / lN b = lN (a / b) := by
  apply Int64.toInt_inj.mp
  rw [lg_ldiv_nonneg (by rw [pk_lT ha]; omega) (by rw [pk_lT hb]; omega), pk_lT ha, pk_lT hb, pk_lT (Nat.lt_of_le_of_lt (Nat.div_le_self a b) ha)]
  rfl
theorem pk_lRem {a b : Nat} (ha : a < 2 ^ 63) (h0 : 0 < b) (hb : b < 2 ^ 63) : lN a - lN a / lN b * lN b = lN (a % b) := by
  rw [pk_lDiv ha h0 hb, lN_mul, lN_sub (Nat.div_mul_le_self a b)]
  exact congrArg lN (by have := Nat.div_add_mod' a b; omega)
theorem pk_loop {σ : Type} (W : Nat → Nat → σ → Prop) (I : Nat → σ → Prop) (e i0 : Nat) (s : σ) (hi : i0 ≤ e) (h0 : I i0 s) (hx : ∀ n s, I e s → W (n + 1) e s)
    (hs : ∀ n i s, i < e → I i s → (∀ s', I (i + 1) s' → W n (i + 1) s') → W (n + 1) i s) : ∃ n, W n i0 s :=
  ⟨e + 1, loop_i W I e hx hs (e + 1) i0 s hi (by omega) h0⟩
theorem pk_loopD {σ : Type} (W : Nat → Nat → σ → Prop) (I : Nat → σ → Prop) (hx : ∀ n s, I 0 s → W (n + 1) 0 s)
    (hs : ∀ n i s, I (i + 1) s → (∀ s', I i s' → W n i s') → W (n + 1) (i + 1) s) : ∀ (e : Nat) (s : σ), I e s → W (e + 1) e s := by
  intro e
  induction e with
  | zero => exact fun s h => hx 0 s h
  | succ e ih => exact fun s h => hs (e + 1) e s h (fun s' h' => ih s' h')
theorem pk_least (P : Nat → Prop) (h : ∃ k, P k) : ∃ k, P k ∧ ∀ j, j < k → ¬ P j := by
  obtain ⟨k, hk⟩ := h
  induction k using Nat.strongRecOn with
  | ind k ih =>
    by_cases e : ∃ j, j < k ∧ P j
    · obtain ⟨j, hj, pj⟩ := e
      exact ih j hj pj
    · exact ⟨k, hk, fun j hj pj => e ⟨j, hj, pj⟩⟩
/-! ===== Int32 by its bits: bt x i ===== -/
def bt (x : Int32) (i : Nat) : Bool := x.toBitVec.getLsbD i
theorem b_ext {x y : Int32} (h : ∀ i, i < 32 → bt x i = bt y i) : x = y := Int32.toBitVec_inj.mp (BitVec.eq_of_getLsbD_eq (fun i hi => h i hi))
theorem b_or (x y : Int32) (i : Nat) : bt (x ||| y) i = (bt x i || bt y i) := by unfold bt; rw [Int32.toBitVec_or, BitVec.getLsbD_or]
theorem b_and (x y : Int32) (i : Nat) : bt (x &&& y) i = (bt x i && bt y i) := by unfold bt; rw [Int32.toBitVec_and, BitVec.getLsbD_and]
theorem b_xor (x y : Int32) (i : Nat) : bt (x ^^^ y) i = (bt x i ^^ bt y i) := by unfold bt; rw [Int32.toBitVec_xor, BitVec.getLsbD_xor]
theorem b_big {x : Int32} {i : Nat} (h : 32 ≤ i) : bt x i = false := BitVec.getLsbD_of_ge _ _ h
theorem b_255 (i : Nat) : bt 255 i = decide (i < 8) := by
  rcases Nat.lt_or_ge i 32 with h | h
  · exact (by decide +kernel : ∀ i, i < 32 → bt 255 i = decide (i < 8)) i h
  · rw [b_big h, decide_eq_false (by omega)]
theorem b_65535 (i : Nat) : bt 65535 i = decide (i < 16) := by
  rcases Nat.lt_or_ge i 32 with h | h
  · exact (by decide +kernel : ∀ i, i < 32 → bt 65535 i = decide (i < 16)) i h
  · rw [b_big h, decide_eq_false (by omega)]
theorem b_m1 : ∀ i, i < 32 → bt (-1) i = true := by decide +kernel
theorem b_0 (i : Nat) : bt 0 i = false := BitVec.getLsbD_zero
theorem s_l : ∀ n, n < 32 → ((nI n &&& 31).toBitVec.smod 32).toNat = n := by decide +kernel
theorem s_u : ∀ n, n < 32 → (((nI n).toUInt32 &&& Int32.toUInt32 31).toBitVec % 32).toNat = n := by decide +kernel
theorem b_shl (n : Nat) (hn : n < 32) (x : Int32) {i : Nat} (hi : i < 32) : bt (x <<< (nI n &&& 31)) i = (decide (n ≤ i) && bt x (i - n)) := by
  unfold bt
  rw [Int32.toBitVec_shiftLeft]
  show (x.toBitVec <<< ((nI n &&& 31).toBitVec.smod 32).toNat).getLsbD i = _
  rw [s_l n hn, BitVec.getLsbD_shiftLeft]
  rcases Nat.lt_or_ge i n with h | h
  · simp [h, Nat.not_le.mpr h]
  · simp [hi, h, Nat.not_lt.mpr h]
theorem b_ushr (n : Nat) (hn : n < 32) (x : Int32) (i : Nat) : bt ((x.toUInt32 >>> ((nI n).toUInt32 &&& Int32.toUInt32 31)).toInt32) i = bt x (n + i) := by
  show (x.toUInt32 >>> ((nI n).toUInt32 &&& Int32.toUInt32 31)).toBitVec.getLsbD i = x.toUInt32.toBitVec.getLsbD (n + i)
  rw [UInt32.toBitVec_shiftRight]
  show (x.toUInt32.toBitVec >>> (((nI n).toUInt32 &&& Int32.toUInt32 31).toBitVec % 32).toNat).getLsbD i = _
  rw [s_u n hn, BitVec.getLsbD_ushiftRight]
theorem b_sshr (n : Nat) (hn : n < 32) (x : Int32) {i : Nat} (hi : i < 32) : bt (x >>> (nI n &&& 31)) i = if n + i < 32 then bt x (n + i) else bt x 31 := by
  unfold bt
  rw [Int32.toBitVec_shiftRight]
  show (x.toBitVec.sshiftRight ((nI n &&& 31).toBitVec.smod 32).toNat).getLsbD i = _
  rw [s_l n hn, BitVec.getLsbD_sshiftRight, BitVec.msb_eq_getLsbD_last]
  simp [hi]
theorem b_shl8 (x : Int32) {i : Nat} (hi : i < 32) : bt (x <<< ((8 : Int32) &&& 31)) i = (decide (8 ≤ i) && bt x (i - 8)) := b_shl 8 (by omega) x hi
theorem b_shl16 (x : Int32) {i : Nat} (hi : i < 32) : bt (x <<< ((16 : Int32) &&& 31)) i = (decide (16 ≤ i) && bt x (i - 16)) := b_shl 16 (by omega) x hi
theorem b_shl24 (x : Int32) {i : Nat} (hi : i < 32) : bt (x <<< ((24 : Int32) &&& 31)) i = (decide (24 ≤ i) && bt x (i - 24)) := b_shl 24 (by omega) x hi
theorem b_sshr8 (x : Int32) {i : Nat} (hi : i < 32) : bt (x >>> ((8 : Int32) &&& 31)) i = if 8 + i < 32 then bt x (8 + i) else bt x 31 := b_sshr 8 (by omega) x hi
/-! ===== Int32 as a set of bits: test, set ===== -/
def nf_M (m : Int32) : Nat := 4294967296 - m.toBitVec.toNat
theorem nf_sh : ∀ l, l < 32 → ((1 : Int32) <<< (nI l &&& 31)).toBitVec = BitVec.twoPow 32 l := by decide +kernel
theorem nf_sl : ∀ l, l < 32 → (((nI l).toUInt32 &&& Int32.toUInt32 31).toBitVec % 32).toNat = l := by decide +kernel
theorem nf_tp : ∀ l, l < 32 → BitVec.twoPow 32 l ≠ 0#32 := by decide +kernel
theorem nf_bit (m : Int32) (l : Nat) (hl : l < 32) : ((m.toUInt32 >>> ((nI l).toUInt32 &&& Int32.toUInt32 31)).toInt32 &&& 1) = 0 ↔ (m &&& ((1 : Int32) <<< (nI l &&& 31))) = 0 := by
  have e : ((m.toUInt32 >>> ((nI l).toUInt32 &&& Int32.toUInt32 31)).toInt32).toBitVec = m.toBitVec >>> l := by
    show m.toBitVec >>> (((nI l).toUInt32 &&& Int32.toUInt32 31).toBitVec % 32) = m.toBitVec >>> l
    rw [BitVec.ushiftRight_eq', nf_sl l hl]
  rw [← Int32.toBitVec_inj, ← Int32.toBitVec_inj, Int32.toBitVec_and, Int32.toBitVec_and, nf_sh l hl, e, BitVec.and_twoPow]
  show (m.toBitVec >>> l &&& 1#32) = 0#32 ↔ _ = 0#32
  rw [BitVec.and_one_eq_setWidth_ofBool_getLsbD, BitVec.getLsbD_ushiftRight, Nat.add_zero]
  cases hb : m.toBitVec.getLsbD l
  · exact ⟨fun _ => by simp, fun _ => by decide⟩
  · exact ⟨fun z => absurd z (by decide), fun z => absurd ((if_pos rfl).symm.trans z) (nf_tp l hl)⟩
end
section
/-! ===== sums, cells, values ===== -/
def rc_sm (f : Nat → Nat) : Nat → Nat
  | 0 => 0
  | n + 1 => rc_sm f n + f n
theorem rc_sm_eq {f g : Nat → Nat} : ∀ n, (∀ j, j < n → f j = g j) → rc_sm f n = rc_sm g n := by
  intro n
  induction n with
  | zero => intro _; rfl
  | succ n ih =>
    intro h
    show rc_sm f n + f n = rc_sm g n + g n
    rw [ih (fun j hj => h j (by omega)), h n (by omega)]
theorem rc_sm_upd {f g : Nat → Nat} {x : Nat} (hg : ∀ j, j ≠ x → g j = f j) : ∀ n, x < n → rc_sm g n + f x = rc_sm f n + g x := by
  intro n
  induction n with
  | zero => intro h; omega
  | succ n ih =>
    intro h
    show rc_sm g n + g n + f x = rc_sm f n + f n + g x
    by_cases e : x = n
    · have := rc_sm_eq (f := g) (g := f) n (fun j hj => hg j (by omega))
      rw [this, e]; omega
    · have := ih (by omega)
      have h2 := hg n (by omega)
      omega
theorem rc_sm_le {f : Nat → Nat} {m : Nat} : ∀ n, (∀ j, j < n → f j ≤ m) → rc_sm f n ≤ n * m := by
  intro n
  induction n with
  | zero => intro _; exact Nat.zero_le _
  | succ n ih =>
    intro h
    have h1 := ih (fun j hj => h j (by omega))
    have h2 := h n (by omega)
    show rc_sm f n + f n ≤ (n + 1) * m
    rw [Nat.succ_mul]; omega
theorem rc_sm_mono {f g : Nat → Nat} : ∀ n, (∀ j, j < n → f j ≤ g j) → rc_sm f n ≤ rc_sm g n := by
  intro n
  induction n with
  | zero => intro _; exact Nat.zero_le _
  | succ n ih =>
    intro h
    have h1 := ih (fun j hj => h j (by omega))
    have h2 := h n (by omega)
    show rc_sm f n + f n ≤ rc_sm g n + g n
    omega
theorem rc_sm_add {f g : Nat → Nat} : ∀ n, rc_sm (fun j => f j + g j) n = rc_sm f n + rc_sm g n := by
  intro n
  induction n with
  | zero => rfl
  | succ n ih =>
    show rc_sm (fun j => f j + g j) n + (f n + g n) = rc_sm f n + f n + (rc_sm g n + g n)
    omega
theorem rc_sm_0 {f : Nat → Nat} : ∀ n, (∀ j, j < n → f j = 0) → rc_sm f n = 0 := by
  intro n
  induction n with
  | zero => intro _; rfl
  | succ n ih =>
    intro h
    show rc_sm f n + f n = 0
    rw [ih (fun j hj => h j (by omega)), h n (by omega)]
theorem rc_sm_ge {f : Nat → Nat} {x : Nat} : ∀ n, x < n → f x ≤ rc_sm f n := by
  intro n
  induction n with
  | zero => intro h; omega
  | succ n ih =>
    intro h
    show f x ≤ rc_sm f n + f n
    by_cases e : x = n
    · rw [e]; omega
    · have := ih (by omega); omega
theorem rc_sm_pos {f : Nat → Nat} : ∀ n, 0 < rc_sm f n → ∃ j, j < n ∧ 0 < f j := by
  intro n
  induction n with
  | zero => intro h; exact absurd h (Nat.lt_irrefl 0)
  | succ n ih =>
    intro h
    have h' : 0 < rc_sm f n + f n := h
    by_cases e : 0 < f n
    · exact ⟨n, by omega, e⟩
    · obtain ⟨j, hj, h2⟩ := ih (by omega)
      exact ⟨j, by omega, h2⟩
theorem rc_sm_swap {f : Nat → Nat → Nat} (m : Nat) : ∀ n, rc_sm (fun i => rc_sm (fun j => f i j) m) n = rc_sm (fun j => rc_sm (fun i => f i j) n) m := by
  intro n
  induction n with
  | zero => exact (rc_sm_0 m (fun _ _ => rfl)).symm
  | succ n ih =>
    show rc_sm (fun i => rc_sm (fun j => f i j) m) n + rc_sm (fun j => f n j) m = rc_sm (fun j => rc_sm (fun i => f i j) n + f n j) m
    rw [rc_sm_add, ih]
theorem rc_sm_one {g : Nat → Nat} {x : Nat} : ∀ n, x < n → rc_sm (fun j => if j = x then g j else 0) n = g x := by
  intro n
  induction n with
  | zero => intro h; omega
  | succ n ih =>
    intro h
    show rc_sm (fun j => if j = x then g j else 0) n + (if n = x then g n else 0) = g x
    by_cases e : n = x
    · rw [if_pos e, rc_sm_0 n (fun j hj => if_neg (by omega)), e]; omega
    · rw [if_neg e, ih (by omega)]; omega
/-- re-indexing a sum over a set by a map that is one-to-one on it -/
theorem rc_sm_map {M L : Nat → Bool} {s : Nat → Nat} {g : Nat → Nat} {n m : Nat}
    (h1 : ∀ c, c < n → L c = true → s c < m ∧ M (s c) = true)
    (h2 : ∀ c d, c < n → d < n → L c = true → L d = true → s c = s d → c = d)
    (h3 : ∀ c', c' < m → M c' = true → ∃ c, c < n ∧ L c = true ∧ s c = c') :
    rc_sm (fun c' => if M c' = true then g c' else 0) m = rc_sm (fun c => if L c = true then g (s c) else 0) n := by
  have e1 : rc_sm (fun c => if L c = true then g (s c) else 0) n = rc_sm (fun c => rc_sm (fun c' => if c' = s c then (if L c = true then g c' else 0) else 0) m) n := by
    refine rc_sm_eq n (fun c hc => ?_)
    by_cases hL : L c = true
    · exact (rc_sm_one (g := fun c' => if L c = true then g c' else 0) m (h1 c hc hL).1).symm
    · rw [if_neg hL]
      refine (rc_sm_0 m (fun c' _ => ?_)).symm
      rw [if_neg hL]; exact ite_self 0
  rw [e1, rc_sm_swap m n]
  refine rc_sm_eq m (fun c' hc' => ?_)
  by_cases hM : M c' = true
  · obtain ⟨c, hc, hL, hs⟩ := h3 c' hc' hM
    rw [if_pos hM]
    have : rc_sm (fun i => if c' = s i then (if L i = true then g c' else 0) else 0) n = rc_sm (fun i => if i = c then g c' else 0) n := by
      refine rc_sm_eq n (fun i hi => ?_)
      by_cases e : i = c
      · rw [if_pos e, e, if_pos hs.symm, if_pos hL]
      · rw [if_neg e]
        by_cases e2 : c' = s i
        · rw [if_pos e2]
          refine if_neg (fun hLi => e (h2 i c hi hc hLi hL (by rw [← e2, hs])))
        · exact if_neg e2
    rw [this]
    exact (rc_sm_one (g := fun _ => g c') n hc).symm
  · rw [if_neg hM]
    refine (rc_sm_0 n (fun i hi => ?_)).symm
    by_cases e2 : c' = s i
    · rw [if_pos e2]
      exact if_neg (fun hLi => hM (by rw [e2]; exact (h1 i hi hLi).2))
    · exact if_neg e2
/-- an Int32 out of a truth value -/
def rc_b (b : Bool) : Int32 := if b = true then 1 else 0
theorem rc_b1 : rc_b true = 1 := rfl
theorem rc_b0 : rc_b false = 0 := rfl
theorem rc_bz {b : Bool} : rc_b b = 0 ↔ b = false := by cases b <;> decide
theorem rc_nar0 : vp_nar .boolean 0 = 0 := rfl
theorem rc_nar1 : vp_nar .boolean 1 = 1 := rfl
theorem rc_nar {x : Int32} (h : x = 0 ∨ x = 1) : vp_nar .boolean x = x := by rcases h with rfl | rfl <;> rfl
/-- the value of cell c -/
def rc_cv (c : Nat) : Int64 := 4294967296 + (nI c).toInt64
theorem rc_cv_l {c : Nat} (h : c < 2 ^ 31) : rc_cv c = lN (4294967296 + c) := by
  unfold rc_cv
  rw [nI_l h, ← lN_add]; rfl
theorem rc_cv_ge {c : Nat} (h : c < 2 ^ 31) : ¬ rc_cv c < 4294967296 := by
  rw [rc_cv_l h, show (4294967296 : Int64) = lN 4294967296 from rfl, pk_lLT (by omega) (by omega)]
  omega
theorem rc_cv_of {c : Nat} (_h : c < 2 ^ 31) : (rc_cv c - 4294967296).toInt32 = nI c := by
  have e : rc_cv c - 4294967296 = (nI c).toInt64 := by
    unfold rc_cv
    rw [Int64.add_comm, Int64.add_sub_cancel]
  rw [e, Int32.toInt32_toInt64]
theorem rc_cv_inj {c d : Nat} (hc : c < 2 ^ 31) (hd : d < 2 ^ 31) (h : rc_cv c = rc_cv d) : c = d := by
  rw [rc_cv_l hc, rc_cv_l hd, pk_lEQ (by omega) (by omega)] at h
  omega
theorem rc_nv_lt (n : Int32) : n.toInt64 < 4294967296 := by
  rw [Int64.lt_iff_toInt_lt, Int32.toInt_toInt64]
  have := n.toInt_lt
  have e : (4294967296 : Int64).toInt = 4294967296 := by decide
  omega
theorem rc_nv_ne (n : Int32) : ¬ n.toInt64 = -4294967296 := by
  intro h
  have h2 : n.toInt64.toInt = (-4294967296 : Int64).toInt := by rw [h]
  rw [Int32.toInt_toInt64] at h2
  have := n.le_toInt
  have e : (-4294967296 : Int64).toInt = -4294967296 := by decide
  omega
theorem rc_cv_ne {c : Nat} (h : c < 2 ^ 31) : ¬ rc_cv c = -4294967296 := by
  intro e
  exact rc_cv_ge h (by rw [e]; decide)
theorem rc_nv_32 (n : Int32) : n.toInt64.toInt32 = n := Int32.toInt32_toInt64 n
theorem rc_nv_0 {n : Int32} : n.toInt64 = 0 ↔ n = 0 := by
  constructor
  · intro h
    have := rc_nv_32 n
    rw [h] at this
    exact this.symm
  · rintro rfl; rfl
theorem rc_cv_0 {c : Nat} (h : c < 2 ^ 31) : ¬ rc_cv c = 0 := by
  intro e
  exact rc_cv_ge h (by rw [e]; decide)
theorem rc_nv_cv {n : Int32} {c : Nat} (h : c < 2 ^ 31) : ¬ n.toInt64 = rc_cv c := by
  intro e
  exact rc_cv_ge h (by rw [← e]; exact rc_nv_lt n)
/-- 1 if v is cell c -/
def rc_d (v : Int64) (c : Nat) : Nat := if v = rc_cv c then 1 else 0
theorem rc_d_le (v : Int64) (c : Nat) : rc_d v c ≤ 1 := by unfold rc_d; split <;> omega
theorem rc_d_n {v : Int64} {c : Nat} (h : v < 4294967296) (hc : c < 2 ^ 31) : rc_d v c = 0 := if_neg (fun e => rc_cv_ge hc (by rw [← e]; exact h))
theorem rc_d_s (c : Nat) : rc_d (rc_cv c) c = 1 := if_pos rfl
theorem rc_d_o {c d : Nat} (hc : c < 2 ^ 31) (hd : d < 2 ^ 31) (h : d ≠ c) : rc_d (rc_cv c) d = 0 := if_neg (fun e => h (rc_cv_inj hc hd e).symm)
/-- a value that is a number or one of the 160 cells -/
def rc_gv (v : Int64) : Prop := v < 4294967296 ∨ ∃ c, c < 160 ∧ v = rc_cv c
/-- bits -/
theorem rc_bit (m : Int32) {i : Nat} (hi : i < 32) : (m &&& ((1 : Int32) <<< (nI i &&& 31))) = 0 ↔ bt m i = false := by
  constructor
  · intro h
    have h2 : bt (m &&& ((1 : Int32) <<< (nI i &&& 31))) i = bt 0 i := by rw [h]
    rw [b_and, b_shl i hi 1 hi, b_0, Nat.sub_self, decide_eq_true (Nat.le_refl i), show bt 1 0 = true from rfl] at h2
    simpa using h2
  · intro h
    refine b_ext (fun j hj => ?_)
    rw [b_and, b_shl i hi 1 hj, b_0]
    by_cases e : j = i
    · rw [e, h, Bool.false_and]
    · by_cases e2 : i ≤ j
      · have h3 : bt 1 (j - i) = false := (by decide +kernel : ∀ k, k < 32 → k ≠ 0 → bt 1 k = false) (j - i) (by omega) (by omega)
        rw [h3, Bool.and_false, Bool.and_false]
      · rw [decide_eq_false e2, Bool.false_and, Bool.and_false]
theorem rc_bit1 {i : Nat} (hi : i < 32) {j : Nat} (hj : j < 32) : bt ((1 : Int32) <<< (nI i &&& 31)) j = decide (j = i) := by
  rw [b_shl i hi 1 hj]
  by_cases e : j = i
  · rw [e, Nat.sub_self, decide_eq_true (Nat.le_refl i), decide_eq_true rfl]; rfl
  · rw [decide_eq_false e]
    by_cases e2 : i ≤ j
    · rw [(by decide +kernel : ∀ k, k < 32 → k ≠ 0 → bt 1 k = false) (j - i) (by omega) (by omega), Bool.and_false]
    · rw [decide_eq_false e2, Bool.false_and]
theorem rc_bit3 {i : Nat} (hi : i < 32) {j : Nat} (hj : j < 32) : bt ((3 : Int32) <<< (nI i &&& 31)) j = (decide (j = i) || decide (j = i + 1)) := by
  rw [b_shl i hi 3 hj]
  by_cases e2 : i ≤ j
  · rw [decide_eq_true e2, Bool.true_and]
    have h3 : ∀ k, k < 32 → bt 3 k = (decide (k = 0) || decide (k = 1)) := by decide +kernel
    rw [h3 (j - i) (by omega)]
    by_cases e : j = i
    · rw [e, Nat.sub_self, decide_eq_true rfl, decide_eq_true rfl, Bool.true_or, Bool.true_or]
    · by_cases e3 : j = i + 1
      · rw [decide_eq_true (show j - i = 1 by omega), decide_eq_true e3, Bool.or_true, Bool.or_true]
      · rw [decide_eq_false (show ¬ j - i = 0 by omega), decide_eq_false (show ¬ j - i = 1 by omega), decide_eq_false e, decide_eq_false e3]
  · rw [decide_eq_false e2, Bool.false_and, decide_eq_false (show ¬ j = i by omega), decide_eq_false (show ¬ j = i + 1 by omega)]; rfl
theorem rc_not (m : Int32) {i : Nat} (hi : i < 32) : bt (m ^^^ (-1)) i = !bt m i := by
  rw [b_xor, b_m1 i hi]; cases bt m i <;> rfl
theorem rc_eq0 {m : Int32} (h : ∀ i, i < 32 → bt m i = false) : m = 0 := b_ext (fun i hi => by rw [h i hi, b_0])
end
section
/-! ===== the counted heap, purely ===== -/
/-- holders of c: held variables, extra holds, fields of live cells -/
def hp_K (L : Nat → Bool) (fx sy vs : Nat → Int64) (H : Nat → Bool) (E : Nat → Nat) (c : Nat) : Nat :=
  rc_sm (fun x => if H x = true then rc_d (vs x) c else 0) 240 + E c + rc_sm (fun d => if L d = true then rc_d (fx d) c + rc_d (sy d) c else 0) 160
/-- the state of the counted heap while top dead cells wait on the stack wk -/
def hp_D (L : Nat → Bool) (fx sy vs : Nat → Int64) (H : Nat → Bool) (E : Nat → Nat) (cnt pl : Nat → Int32) (lv : Nat) (wk : Nat → Int32) (top : Nat) : Prop :=
  (∀ c, c < 160 → cnt c = nI (hp_K L fx sy vs H E c)) ∧
  (∀ c, c < 160 → (L c = true ↔ (0 < hp_K L fx sy vs H E c ∨ ∃ i, i < top ∧ wk i = nI c))) ∧
  (∀ i, i < top → ∃ c, c < 160 ∧ wk i = nI c ∧ hp_K L fx sy vs H E c = 0) ∧
  (∀ i j, i < j → j < top → wk i ≠ wk j) ∧
  lv = rc_sm (fun c => if L c = true then 1 else 0) 160 ∧
  (∀ i, lv ≤ i → i < 160 → ∃ c, c < 160 ∧ pl i = nI c ∧ L c = false) ∧
  (∀ i j, lv ≤ i → i < j → j < 160 → pl i ≠ pl j) ∧
  (∀ d, d < 160 → L d = true → rc_gv (fx d) ∧ rc_gv (sy d)) ∧
  (∀ x, x < 240 → H x = true → rc_gv (vs x))
theorem hp_Kle {L : Nat → Bool} {fx sy vs : Nat → Int64} {H : Nat → Bool} {E : Nat → Nat} {c b : Nat} (h : E c ≤ b) : hp_K L fx sy vs H E c ≤ 560 + b := by
  unfold hp_K
  have h1 : rc_sm (fun x => if H x = true then rc_d (vs x) c else 0) 240 ≤ 240 * 1 := rc_sm_le 240 (fun j _ => by
    (try dsimp only); split
    · exact rc_d_le _ _
    · omega)
  have h2 : rc_sm (fun d => if L d = true then rc_d (fx d) c + rc_d (sy d) c else 0) 160 ≤ 160 * 2 := rc_sm_le 160 (fun j _ => by
    (try dsimp only); split
    · have := rc_d_le (fx j) c; have := rc_d_le (sy j) c; omega
    · omega)
  omega
theorem hp_KE {L : Nat → Bool} {fx sy vs : Nat → Int64} {H : Nat → Bool} {E E' : Nat → Nat} {c k : Nat} (h : E' c = E c + k) : hp_K L fx sy vs H E' c = hp_K L fx sy vs H E c + k := by
  unfold hp_K; rw [h]; omega
/-- the extra holds may be named otherwise -/
theorem hp_DE {L : Nat → Bool} {fx sy vs : Nat → Int64} {H : Nat → Bool} {E E' : Nat → Nat} {cnt pl wk : Nat → Int32} {lv top : Nat} (h : ∀ c, c < 160 → E' c = E c)
    (D : hp_D L fx sy vs H E cnt pl lv wk top) : hp_D L fx sy vs H E' cnt pl lv wk top := by
  obtain ⟨d1, d2, d3, d4, d5, d6, d7, d8, d9⟩ := D
  have hK : ∀ c, c < 160 → hp_K L fx sy vs H E' c = hp_K L fx sy vs H E c := fun c hc => hp_KE (k := 0) (h c hc)
  refine ⟨fun c hc => by rw [hK c hc]; exact d1 c hc, fun c hc => by rw [hK c hc]; exact d2 c hc, fun i hi => ?_, d4, d5, d6, d7, d8, d9⟩
  obtain ⟨c, hc, e, k⟩ := d3 i hi
  exact ⟨c, hc, e, by rw [hK c hc]; exact k⟩
/-- the stack is of no account while it is empty -/
theorem hp_Dw {L : Nat → Bool} {fx sy vs : Nat → Int64} {H : Nat → Bool} {E : Nat → Nat} {cnt pl wk wk' : Nat → Int32} {lv : Nat}
    (D : hp_D L fx sy vs H E cnt pl lv wk 0) : hp_D L fx sy vs H E cnt pl lv wk' 0 := by
  obtain ⟨d1, d2, d3, d4, d5, d6, d7, d8, d9⟩ := D
  refine ⟨d1, fun c hc => ?_, fun i hi => by omega, fun i j _ hj => by omega, d5, d6, d7, d8, d9⟩
  rw [d2 c hc]
  constructor
  · rintro (h | ⟨i, hi, _⟩)
    · exact Or.inl h
    · omega
  · rintro (h | ⟨i, hi, _⟩)
    · exact Or.inl h
    · omega
/-- one hold more -/
theorem hp_ret {L : Nat → Bool} {fx sy vs : Nat → Int64} {H : Nat → Bool} {E : Nat → Nat} {cnt pl wk : Nat → Int32} {lv c : Nat} (hc : c < 160) (hL : L c = true)
    (D : hp_D L fx sy vs H E cnt pl lv wk 0) : hp_D L fx sy vs H (fun q => E q + rc_d (rc_cv c) q) (upd cnt c (cnt c + 1)) pl lv wk 0 := by
  obtain ⟨d1, d2, d3, d4, d5, d6, d7, d8, d9⟩ := D
  have hK : ∀ q, hp_K L fx sy vs H (fun q => E q + rc_d (rc_cv c) q) q = hp_K L fx sy vs H E q + rc_d (rc_cv c) q := fun q => hp_KE rfl
  refine ⟨fun q hq => ?_, fun q hq => ?_, fun i hi => by omega, fun i j _ hj => by omega, d5, d6, d7, d8, d9⟩
  · rw [hK q]
    by_cases e : q = c
    · rw [e, pk_us, rc_d_s, d1 c hc, nI_1]
    · rw [pk_un e, rc_d_o (by omega) (by omega) e]; exact d1 q hq
  · rw [hK q, d2 q hq]
    by_cases e : q = c
    · have := (d2 c hc).mp hL
      rw [e, rc_d_s]
      constructor
      · intro _; exact Or.inl (by omega)
      · intro _; exact this
    · rw [rc_d_o (by omega) (by omega) e]; exact Iff.rfl
/-- a hold of a number is none -/
theorem hp_ret0 {L : Nat → Bool} {fx sy vs : Nat → Int64} {H : Nat → Bool} {E : Nat → Nat} {cnt pl wk : Nat → Int32} {lv top : Nat} {v : Int64} (hv : v < 4294967296) :
    hp_D L fx sy vs H E cnt pl lv wk top ↔ hp_D L fx sy vs H (fun q => E q + rc_d v q) cnt pl lv wk top :=
  ⟨hp_DE (fun c hc => by rw [rc_d_n hv (by omega)]; rfl), hp_DE (fun c hc => by rw [rc_d_n hv (by omega)]; rfl)⟩
/-- one hold less, others are left -/
theorem hp_drop1 {L : Nat → Bool} {fx sy vs : Nat → Int64} {H : Nat → Bool} {E : Nat → Nat} {cnt pl wk : Nat → Int32} {lv top c : Nat} (hc : c < 160)
    (D : hp_D L fx sy vs H (fun q => E q + rc_d (rc_cv c) q) cnt pl lv wk top) (hE : E c ≤ 100) :
    (hp_K L fx sy vs H E c ≠ 0 → ¬ cnt c - 1 = 0 ∧ hp_D L fx sy vs H E (upd cnt c (cnt c - 1)) pl lv wk top) ∧
    (hp_K L fx sy vs H E c = 0 → cnt c - 1 = 0 ∧ hp_D L fx sy vs H E (upd cnt c (cnt c - 1)) pl lv (upd wk top (nI c)) (top + 1)) := by
  obtain ⟨d1, d2, d3, d4, d5, d6, d7, d8, d9⟩ := D
  have hK : ∀ q, hp_K L fx sy vs H (fun q => E q + rc_d (rc_cv c) q) q = hp_K L fx sy vs H E q + rc_d (rc_cv c) q := fun q => hp_KE rfl
  have hKc := hK c
  rw [rc_d_s] at hKc
  have hKo : ∀ q, q < 160 → q ≠ c → hp_K L fx sy vs H (fun q => E q + rc_d (rc_cv c) q) q = hp_K L fx sy vs H E q := fun q hq e => by rw [hK q, rc_d_o (by omega) (by omega) e]; rfl
  have hcc : cnt c - 1 = nI (hp_K L fx sy vs H E c) := by rw [d1 c hc, hKc, nI_pred]
  have n1 : ∀ q, q < 160 → upd cnt c (cnt c - 1) q = nI (hp_K L fx sy vs H E q) := fun q hq => by
    by_cases e : q = c
    · rw [e, pk_us, hcc]
    · rw [pk_un e, d1 q hq, hKo q hq e]
  have n3 : ∀ i, i < top → ∃ q, q < 160 ∧ q ≠ c ∧ wk i = nI q ∧ hp_K L fx sy vs H E q = 0 := fun i hi => by
    obtain ⟨q, hq, e, k⟩ := d3 i hi
    have : q ≠ c := fun z => by rw [z, hKc] at k; omega
    exact ⟨q, hq, this, e, by rw [← hKo q hq this]; exact k⟩
  have hKl : hp_K L fx sy vs H E c ≤ 660 := Nat.le_trans (hp_Kle hE) (by omega)
  have hLc : L c = true := (d2 c hc).mpr (Or.inl (by omega))
  constructor
  · intro hz
    refine ⟨by rw [hcc]; exact nI_ne0 (by omega) (by omega), n1, fun q hq => ?_, fun i hi => ?_, d4, d5, d6, d7, d8, d9⟩
    · by_cases e : q = c
      · rw [e]; exact ⟨fun _ => Or.inl (by omega), fun _ => hLc⟩
      · rw [d2 q hq, hKo q hq e]
    · obtain ⟨q, hq, _, e, k⟩ := n3 i hi
      exact ⟨q, hq, e, k⟩
  · intro hz
    refine ⟨by rw [hcc, hz]; rfl, n1, fun q hq => ?_, fun i hi => ?_, fun i j hij hj => ?_, d5, d6, d7, d8, d9⟩
    · by_cases e : q = c
      · rw [e]; exact ⟨fun _ => Or.inr ⟨top, by omega, pk_us⟩, fun _ => hLc⟩
      · rw [d2 q hq, hKo q hq e]
        constructor
        · rintro (h | ⟨i, hi, h⟩)
          · exact Or.inl h
          · exact Or.inr ⟨i, by omega, by rw [pk_un (by omega)]; exact h⟩
        · rintro (h | ⟨i, hi, h⟩)
          · exact Or.inl h
          · by_cases ei : i = top
            · rw [ei, pk_us] at h
              exact absurd ((nI_eq (by omega) (by omega)).mp h).symm e
            · rw [pk_un ei] at h
              exact Or.inr ⟨i, by omega, h⟩
    · by_cases ei : i = top
      · rw [ei, pk_us]; exact ⟨c, hc, rfl, hz⟩
      · rw [pk_un ei]
        obtain ⟨q, hq, _, e, k⟩ := n3 i (by omega)
        exact ⟨q, hq, e, k⟩
    · by_cases ej : j = top
      · rw [ej, pk_us, pk_un (by omega)]
        obtain ⟨q, hq, hne, e, k⟩ := n3 i (by omega)
        rw [e]
        exact fun z => hne ((nI_eq (by omega) (by omega)).mp z)
      · rw [pk_un (by omega), pk_un ej]
        exact d4 i j hij (by omega)
/-- the live set without d -/
def hp_rm (L : Nat → Bool) (d : Nat) : Nat → Bool := fun c => if c = d then false else L c
theorem hp_rm_sub {L : Nat → Bool} {d c : Nat} (h : hp_rm L d c = true) : L c = true := by
  unfold hp_rm at h
  split at h
  · exact absurd h (by decide)
  · exact h
/-- a dead cell is given back: its fields' holds become extra ones -/
theorem hp_pop {L : Nat → Bool} {fx sy vs : Nat → Int64} {H : Nat → Bool} {E : Nat → Nat} {cnt pl wk : Nat → Int32} {lv top d : Nat} (hd : d < 160)
    (D : hp_D L fx sy vs H E cnt pl lv wk (top + 1)) (hw : wk top = nI d) :
    0 < lv ∧ lv ≤ 160 ∧ rc_gv (fx d) ∧ rc_gv (sy d) ∧ hp_D (hp_rm L d) fx sy vs H (fun q => (E q + rc_d (sy d) q) + rc_d (fx d) q) cnt (upd pl (lv - 1) (nI d)) (lv - 1) wk top := by
  obtain ⟨d1, d2, d3, d4, d5, d6, d7, d8, d9⟩ := D
  have hLd : L d = true := (d2 d hd).mpr (Or.inr ⟨top, by omega, hw⟩)
  have hs := rc_sm_upd (f := fun c => if L c = true then 1 else 0) (g := fun c => if hp_rm L d c = true then 1 else 0) (x := d) (fun j hj => by (try dsimp only); unfold hp_rm; rw [if_neg hj]) 160 hd
  (try dsimp only at hs)
  rw [if_pos hLd, show hp_rm L d d = false from if_pos rfl, if_neg (by decide)] at hs
  have hle : rc_sm (fun c => if L c = true then 1 else 0) 160 ≤ 160 * 1 := rc_sm_le 160 (fun j _ => by (try dsimp only); split <;> omega)
  have hK : ∀ q, hp_K (hp_rm L d) fx sy vs H (fun q => (E q + rc_d (sy d) q) + rc_d (fx d) q) q = hp_K L fx sy vs H E q := fun q => by
    unfold hp_K
    have h := rc_sm_upd (f := fun d => if L d = true then rc_d (fx d) q + rc_d (sy d) q else 0) (g := fun d' => if hp_rm L d d' = true then rc_d (fx d') q + rc_d (sy d') q else 0) (x := d) (fun j hj => by (try dsimp only); unfold hp_rm; rw [if_neg hj]) 160 hd
    (try dsimp only at h)
    rw [if_pos hLd, show hp_rm L d d = false from if_pos rfl, if_neg (by decide)] at h
    (try dsimp only)
    omega
  have h0 : hp_K L fx sy vs H E d = 0 := by
    obtain ⟨c, hc, e, k⟩ := d3 top (by omega)
    rw [hw, nI_eq (by omega) (by omega)] at e
    rw [e]; exact k
  refine ⟨by omega, by omega, (d8 d hd hLd).1, (d8 d hd hLd).2, fun c hc => by rw [hK]; exact d1 c hc, fun c hc => ?_, fun i hi => ?_, fun i j hij hj => d4 i j hij (by omega), by omega, fun i hi hi2 => ?_, fun i j hi hij hj => ?_, fun q hq hL => d8 q hq (hp_rm_sub hL), d9⟩
  · rw [hK]
    by_cases e : c = d
    · rw [e, h0, show hp_rm L d d = false from if_pos rfl]
      refine ⟨fun z => absurd z (by decide), ?_⟩
      rintro (z | ⟨i, hi, z⟩)
      · omega
      · exact absurd (z.trans hw.symm) (d4 i top hi (by omega))
    · rw [show hp_rm L d c = L c from if_neg e, d2 c hc]
      constructor
      · rintro (z | ⟨i, hi, z⟩)
        · exact Or.inl z
        · by_cases ei : i = top
          · rw [ei, hw] at z
            exact absurd ((nI_eq (by omega) (by omega)).mp z).symm e
          · exact Or.inr ⟨i, by omega, z⟩
      · rintro (z | ⟨i, hi, z⟩)
        · exact Or.inl z
        · exact Or.inr ⟨i, by omega, z⟩
  · obtain ⟨c, hc, e, k⟩ := d3 i (by omega)
    exact ⟨c, hc, e, by rw [hK]; exact k⟩
  · by_cases ei : i = lv - 1
    · rw [ei, pk_us]; exact ⟨d, hd, rfl, if_pos rfl⟩
    · rw [pk_un ei]
      obtain ⟨c, hc, e, k⟩ := d6 i (by omega) hi2
      exact ⟨c, hc, e, by unfold hp_rm; rw [k]; exact ite_self _⟩
  · rw [pk_un (show j ≠ lv - 1 by omega)]
    by_cases ei : i = lv - 1
    · rw [ei, pk_us]
      obtain ⟨c, hc, e, k⟩ := d6 j (by omega) hj
      rw [e]
      intro z
      rw [nI_eq (by omega) (by omega)] at z
      rw [← z, hLd] at k
      exact absurd k (by decide)
    · rw [pk_un ei]; exact d7 i j (by omega) hij hj
/-- holds are counted: the heights of live set and stack -/
theorem hp_lv {L : Nat → Bool} {fx sy vs : Nat → Int64} {H : Nat → Bool} {E : Nat → Nat} {cnt pl wk : Nat → Int32} {lv top : Nat}
    (D : hp_D L fx sy vs H E cnt pl lv wk top) : lv ≤ 160 := by
  obtain ⟨d1, d2, d3, d4, d5, d6, d7, d8, d9⟩ := D
  have hle : rc_sm (fun c => if L c = true then 1 else 0) 160 ≤ 160 * 1 := rc_sm_le 160 (fun j _ => by (try dsimp only); split <;> omega)
  omega
/-- n different numbers below m: n <= m -/
theorem rc_pig : ∀ (m n : Nat) (f : Nat → Nat), (∀ i, i < n → f i < m) → (∀ i j, i < j → j < n → f i ≠ f j) → n ≤ m := by
  intro m n f h1 h2
  have e1 : rc_sm (fun i => rc_sm (fun c => if c = f i then 1 else 0) m) n = n := by
    have : rc_sm (fun i => rc_sm (fun c => if c = f i then 1 else 0) m) n = rc_sm (fun _ => 1) n := rc_sm_eq n (fun i hi => rc_sm_one (g := fun _ => 1) m (h1 i hi))
    rw [this]
    clear this h1 h2
    induction n with
    | zero => rfl
    | succ n ih => show rc_sm (fun _ => 1) n + 1 = n + 1; rw [ih]
  rw [rc_sm_swap m n] at e1
  have h3 : ∀ (c k : Nat), k ≤ n → rc_sm (fun i => if c = f i then 1 else 0) k ≤ 1 := by
    intro c k
    induction k with
    | zero => intro _; exact Nat.zero_le _
    | succ k ih =>
      intro hk
      show rc_sm (fun i => if c = f i then 1 else 0) k + (if c = f k then 1 else 0) ≤ 1
      by_cases e : c = f k
      · rw [if_pos e, rc_sm_0 k (fun i hi => if_neg (fun z => h2 i k hi (by omega) (by rw [← z, e])))]
        omega
      · rw [if_neg e]; have := ih (by omega); omega
  have h4 := rc_sm_le (f := fun c => rc_sm (fun i => if c = f i then 1 else 0) n) m (fun c _ => h3 c n (Nat.le_refl n))
  omega
theorem hp_top {L : Nat → Bool} {fx sy vs : Nat → Int64} {H : Nat → Bool} {E : Nat → Nat} {cnt pl wk : Nat → Int32} {lv top c : Nat}
    (D : hp_D L fx sy vs H E cnt pl lv wk top) (hc : c < 160) (hK : hp_K L fx sy vs H E c ≠ 0) : top < 160 := by
  obtain ⟨d1, d2, d3, d4, d5, d6, d7, d8, d9⟩ := D
  have := rc_pig 160 (top + 1) (fun i => if i = top then c else (wk i).toNatClampNeg) (fun i hi => by
    (try dsimp only)
    by_cases e : i = top
    · rw [if_pos e]; exact hc
    · rw [if_neg e]
      obtain ⟨q, hq, e2, k⟩ := d3 i (by omega)
      rw [e2, nI_clamp (by omega)]; exact hq) (fun i j hij hj => by
    (try dsimp only)
    rw [if_neg (show ¬ i = top by omega)]
    obtain ⟨q, hq, e2, k⟩ := d3 i (by omega)
    rw [e2, nI_clamp (by omega)]
    by_cases e : j = top
    · rw [if_pos e]
      intro z; rw [z] at k; exact hK k
    · rw [if_neg e]
      obtain ⟨q2, hq2, e3, k2⟩ := d3 j (by omega)
      rw [e3, nI_clamp (by omega)]
      intro z
      exact d4 i j hij (by omega) (by rw [e2, e3, z]))
  omega
/-- a hold passes from the extra ones to variable x -/
theorem hp_take {L : Nat → Bool} {fx sy vs : Nat → Int64} {H H' : Nat → Bool} {E : Nat → Nat} {cnt pl wk : Nat → Int32} {lv top x : Nat} (hx : x < 240)
    (h0 : H x = false) (h1 : H' x = true) (ho : ∀ y, y ≠ x → H' y = H y) (hg : rc_gv (vs x))
    (D : hp_D L fx sy vs H (fun q => E q + rc_d (vs x) q) cnt pl lv wk top) : hp_D L fx sy vs H' E cnt pl lv wk top := by
  obtain ⟨d1, d2, d3, d4, d5, d6, d7, d8, d9⟩ := D
  have hK : ∀ q, hp_K L fx sy vs H' E q = hp_K L fx sy vs H (fun q => E q + rc_d (vs x) q) q := fun q => by
    unfold hp_K
    have h := rc_sm_upd (f := fun x => if H x = true then rc_d (vs x) q else 0) (g := fun x => if H' x = true then rc_d (vs x) q else 0) (x := x) (fun j hj => by (try dsimp only); rw [ho j hj]) 240 hx
    (try dsimp only at h)
    rw [h0, h1, if_pos rfl, if_neg (by decide)] at h
    (try dsimp only)
    omega
  refine ⟨fun c hc => by rw [hK]; exact d1 c hc, fun c hc => by rw [hK]; exact d2 c hc, fun i hi => ?_, d4, d5, d6, d7, d8, fun y hy hH => ?_⟩
  · obtain ⟨c, hc, e, k⟩ := d3 i hi
    exact ⟨c, hc, e, by rw [hK]; exact k⟩
  · by_cases e : y = x
    · rw [e]; exact hg
    · exact d9 y hy (by rw [← ho y e]; exact hH)
/-- .. and back -/
theorem hp_give {L : Nat → Bool} {fx sy vs : Nat → Int64} {H H' : Nat → Bool} {E : Nat → Nat} {cnt pl wk : Nat → Int32} {lv top x : Nat} (hx : x < 240)
    (h0 : H x = true) (h1 : H' x = false) (ho : ∀ y, y ≠ x → H' y = H y)
    (D : hp_D L fx sy vs H E cnt pl lv wk top) : hp_D L fx sy vs H' (fun q => E q + rc_d (vs x) q) cnt pl lv wk top := by
  obtain ⟨d1, d2, d3, d4, d5, d6, d7, d8, d9⟩ := D
  have hK : ∀ q, hp_K L fx sy vs H' (fun q => E q + rc_d (vs x) q) q = hp_K L fx sy vs H E q := fun q => by
    unfold hp_K
    have h := rc_sm_upd (f := fun x => if H x = true then rc_d (vs x) q else 0) (g := fun x => if H' x = true then rc_d (vs x) q else 0) (x := x) (fun j hj => by (try dsimp only); rw [ho j hj]) 240 hx
    (try dsimp only at h)
    rw [h0, h1, if_pos rfl, if_neg (by decide)] at h
    (try dsimp only)
    omega
  refine ⟨fun c hc => by rw [hK]; exact d1 c hc, fun c hc => by rw [hK]; exact d2 c hc, fun i hi => ?_, d4, d5, d6, d7, d8, fun y hy hH => ?_⟩
  · obtain ⟨c, hc, e, k⟩ := d3 i hi
    exact ⟨c, hc, e, by rw [hK]; exact k⟩
  · by_cases e : y = x
    · rw [e, h1] at hH; exact absurd hH (by decide)
    · exact d9 y hy (by rw [← ho y e]; exact hH)
/-- variables that are not held may change -/
theorem hp_vs {L : Nat → Bool} {fx sy vs vs' : Nat → Int64} {H H' : Nat → Bool} {E : Nat → Nat} {cnt pl wk : Nat → Int32} {lv top : Nat} (hh : ∀ x, x < 240 → H' x = H x) (h : ∀ x, x < 240 → H x = true → vs' x = vs x)
    (D : hp_D L fx sy vs H E cnt pl lv wk top) : hp_D L fx sy vs' H' E cnt pl lv wk top := by
  obtain ⟨d1, d2, d3, d4, d5, d6, d7, d8, d9⟩ := D
  have hK : ∀ q, hp_K L fx sy vs' H' E q = hp_K L fx sy vs H E q := fun q => by
    unfold hp_K
    have : rc_sm (fun x => if H' x = true then rc_d (vs' x) q else 0) 240 = rc_sm (fun x => if H x = true then rc_d (vs x) q else 0) 240 := rc_sm_eq 240 (fun x hx => by
      (try dsimp only)
      rw [hh x hx]
      by_cases e : H x = true
      · rw [if_pos e, if_pos e, h x hx e]
      · rw [if_neg e, if_neg e])
    rw [this]
  refine ⟨fun c hc => by rw [hK]; exact d1 c hc, fun c hc => by rw [hK]; exact d2 c hc, fun i hi => ?_, d4, d5, d6, d7, d8, fun y hy hH => ?_⟩
  · obtain ⟨c, hc, e, k⟩ := d3 i hi
    exact ⟨c, hc, e, by rw [hK]; exact k⟩
  · rw [hh y hy] at hH
    rw [h y hy hH]; exact d9 y hy hH
/-- the live set with d -/
def hp_ad (L : Nat → Bool) (d : Nat) : Nat → Bool := fun c => if c = d then true else L c
/-- a live cell is one, a dead one holds nothing -/
theorem hp_dead {L : Nat → Bool} {fx sy vs : Nat → Int64} {H : Nat → Bool} {E : Nat → Nat} {cnt pl wk : Nat → Int32} {lv c : Nat}
    (D : hp_D L fx sy vs H E cnt pl lv wk 0) (hc : c < 160) : (cnt c = nI (hp_K L fx sy vs H E c)) ∧ (L c = true ↔ 0 < hp_K L fx sy vs H E c) := by
  obtain ⟨d1, d2, d3, d4, d5, d6, d7, d8, d9⟩ := D
  refine ⟨d1 c hc, (d2 c hc).trans ⟨?_, Or.inl⟩⟩
  rintro (h | ⟨i, hi, _⟩)
  · exact h
  · omega
/-- a cell is built: its own hold is an extra one, its fields' holds are still to be counted -/
theorem hp_build {L : Nat → Bool} {fx sy vs : Nat → Int64} {H : Nat → Bool} {E : Nat → Nat} {cnt pl wk : Nat → Int32} {lv c : Nat} {x y : Int64} (hc : c < 160)
    (hl : lv < 160) (hp : pl lv = nI c) (hx : rc_gv x) (hy : rc_gv y) (hxL : ∀ q, q < 160 → x = rc_cv q → L q = true) (hyL : ∀ q, q < 160 → y = rc_cv q → L q = true)
    (D : hp_D L fx sy vs H E cnt pl lv wk 0) :
    L c = false ∧ ∀ cnt', (∀ q, q < 160 → cnt' q = nI (hp_K (hp_ad L c) (vp_updL fx c x) (vp_updL sy c y) vs H (fun q => E q + rc_d (rc_cv c) q) q)) →
      hp_D (hp_ad L c) (vp_updL fx c x) (vp_updL sy c y) vs H (fun q => E q + rc_d (rc_cv c) q) cnt' pl (lv + 1) wk 0 := by
  have hLK := fun q hq => hp_dead D (c := q) hq
  obtain ⟨d1, d2, d3, d4, d5, d6, d7, d8, d9⟩ := D
  have hLc : L c = false := by
    obtain ⟨q, hq, e, k⟩ := d6 lv (Nat.le_refl _) hl
    rw [hp, nI_eq (by omega) (by omega)] at e
    rw [e]; exact k
  refine ⟨hLc, fun cnt' hcnt => ⟨hcnt, fun q hq => ?_, fun i hi => by omega, fun i j _ hj => by omega, ?_, fun i hi hi2 => ?_, fun i j hi hij hj => d7 i j (by omega) hij hj, fun q hq hL => ?_, d9⟩⟩
  · have hK : hp_K (hp_ad L c) (vp_updL fx c x) (vp_updL sy c y) vs H (fun q => E q + rc_d (rc_cv c) q) q = hp_K L fx sy vs H E q + rc_d (rc_cv c) q + rc_d x q + rc_d y q := by
      unfold hp_K
      have h := rc_sm_upd (f := fun d => if L d = true then rc_d (fx d) q + rc_d (sy d) q else 0) (g := fun d => if hp_ad L c d = true then rc_d (vp_updL fx c x d) q + rc_d (vp_updL sy c y d) q else 0) (x := c) (fun j hj => by
        (try dsimp only); unfold hp_ad; rw [if_neg hj, pk_uLn hj, pk_uLn hj]) 160 hc
      (try dsimp only at h)
      rw [hLc, show hp_ad L c c = true from if_pos rfl, if_pos rfl, if_neg (by decide), pk_uLs, pk_uLs] at h
      (try dsimp only)
      omega
    rw [hK]
    by_cases e : q = c
    · rw [e, rc_d_s, show hp_ad L c c = true from if_pos rfl]
      exact ⟨fun _ => Or.inl (by omega), fun _ => rfl⟩
    · rw [show hp_ad L c q = L q from if_neg e, rc_d_o (by omega) (by omega) e, (hLK q hq).2]
      constructor
      · intro h; exact Or.inl (by omega)
      · rintro (h | ⟨i, hi, _⟩)
        · by_cases ex : x = rc_cv q
          · exact (hLK q hq).2.mp (hxL q hq ex)
          · by_cases ey : y = rc_cv q
            · exact (hLK q hq).2.mp (hyL q hq ey)
            · rw [show rc_d x q = 0 from if_neg ex, show rc_d y q = 0 from if_neg ey] at h
              omega
        · omega
  · have hs := rc_sm_upd (f := fun c => if L c = true then 1 else 0) (g := fun q => if hp_ad L c q = true then 1 else 0) (x := c) (fun j hj => by (try dsimp only); unfold hp_ad; rw [if_neg hj]) 160 hc
    (try dsimp only at hs)
    rw [hLc, show hp_ad L c c = true from if_pos rfl, if_pos rfl, if_neg (by decide)] at hs
    omega
  · obtain ⟨q, hq, e, k⟩ := d6 i (by omega) hi2
    refine ⟨q, hq, e, ?_⟩
    have : q ≠ c := fun z => d7 lv i (Nat.le_refl _) (by omega) hi2 (by rw [hp, e, z])
    rw [show hp_ad L c q = L q from if_neg this]; exact k
  · by_cases e : q = c
    · rw [e, pk_uLs, pk_uLs]; exact ⟨hx, hy⟩
    · rw [pk_uLn e, pk_uLn e]
      rw [show hp_ad L c q = L q from if_neg e] at hL
      exact d8 q hq hL
theorem hp_buildK {L : Nat → Bool} {fx sy vs : Nat → Int64} {H : Nat → Bool} {E : Nat → Nat} {c q : Nat} {x y : Int64} (hc : c < 160) (hLc : L c = false) :
    hp_K (hp_ad L c) (vp_updL fx c x) (vp_updL sy c y) vs H (fun q => E q + rc_d (rc_cv c) q) q = hp_K L fx sy vs H E q + rc_d (rc_cv c) q + rc_d x q + rc_d y q := by
  unfold hp_K
  have h := rc_sm_upd (f := fun d => if L d = true then rc_d (fx d) q + rc_d (sy d) q else 0) (g := fun d => if hp_ad L c d = true then rc_d (vp_updL fx c x d) q + rc_d (vp_updL sy c y d) q else 0) (x := c) (fun j hj => by
    (try dsimp only); unfold hp_ad; rw [if_neg hj, pk_uLn hj, pk_uLn hj]) 160 hc
  (try dsimp only at h)
  rw [hLc, show hp_ad L c c = true from if_pos rfl, if_pos rfl, if_neg (by decide), pk_uLs, pk_uLs] at h
  (try dsimp only)
  omega
end
section
/-! ===== the text: prefix sums of turns ===== -/
def tx_t (kd : Nat → Int32) (i : Nat) : Int := if kd i = 4 then 1 else if kd i = 5 then 1 else if kd i = 6 then -1 else 0
def tx_s (kd : Nat → Int32) : Nat → Int
  | 0 => 0
  | n + 1 => tx_s kd n + tx_t kd n
/-- the text that begins at s is complete and ends before e -/
def tx_T (kd : Nat → Int32) (s e : Nat) : Prop := s < e ∧ tx_s kd e = tx_s kd s - 1 ∧ ∀ i, s ≤ i → i < e → tx_s kd s ≤ tx_s kd i
theorem tx_t4 {kd : Nat → Int32} {i : Nat} (h : kd i = 4) : tx_t kd i = 1 := if_pos h
theorem tx_t5 {kd : Nat → Int32} {i : Nat} (h : kd i = 5) : tx_t kd i = 1 := by unfold tx_t; rw [h]; rfl
theorem tx_t6 {kd : Nat → Int32} {i : Nat} (h : kd i = 6) : tx_t kd i = -1 := by unfold tx_t; rw [h]; rfl
theorem tx_t0 {kd : Nat → Int32} {i : Nat} (h4 : kd i ≠ 4) (h5 : kd i ≠ 5) (h6 : kd i ≠ 6) : tx_t kd i = 0 := by
  unfold tx_t; rw [if_neg h4, if_neg h5, if_neg h6]
theorem tx_tb (kd : Nat → Int32) (i : Nat) : -1 ≤ tx_t kd i ∧ tx_t kd i ≤ 1 := by
  unfold tx_t
  split
  · omega
  · split
    · omega
    · split <;> omega
theorem tx_t6' {kd : Nat → Int32} {i : Nat} (h : tx_t kd i < 0) : kd i = 6 := by
  unfold tx_t at h
  split at h
  · omega
  · split at h
    · omega
    · split at h
      · assumption
      · omega
theorem tx_t1' {kd : Nat → Int32} {i : Nat} (h : tx_t kd i = 1) : kd i = 4 ∨ kd i = 5 := by
  unfold tx_t at h
  split at h
  · left; assumption
  · split at h
    · right; assumption
    · split at h <;> omega
theorem tx_ss (kd : Nat → Int32) (i : Nat) : tx_s kd (i + 1) = tx_s kd i + tx_t kd i := rfl
theorem tx_uniq {kd : Nat → Int32} {s e e' : Nat} (h : tx_T kd s e) (h' : tx_T kd s e') : e = e' := by
  obtain ⟨h1, h2, h3⟩ := h
  obtain ⟨k1, k2, k3⟩ := h'
  rcases Nat.lt_trichotomy e e' with z | z | z
  · have := k3 e (by omega) z; omega
  · exact z
  · have := h3 e' (by omega) z; omega
theorem tx_6 {kd : Nat → Int32} {s : Nat} (h : kd s = 6) : tx_T kd s (s + 1) := by
  refine ⟨by omega, by rw [tx_ss, tx_t6 h]; omega, fun i h1 h2 => ?_⟩
  have : i = s := by omega
  rw [this]; exact Int.le_refl _
theorem tx_6e {kd : Nat → Int32} {s e : Nat} (h : kd s = 6) (T : tx_T kd s e) : e = s + 1 := tx_uniq T (tx_6 h)
theorem tx_0 {kd : Nat → Int32} {s e : Nat} (h : tx_t kd s = 0) (T : tx_T kd s e) : tx_T kd (s + 1) e := by
  obtain ⟨h1, h2, h3⟩ := T
  have e1 := tx_ss kd s
  rw [h] at e1
  have : s + 1 ≠ e := fun z => by rw [← z] at h2; omega
  exact ⟨by omega, by omega, fun i a b => by have := h3 i (by omega) b; omega⟩
theorem tx_0' {kd : Nat → Int32} {s e : Nat} (h : tx_t kd s = 0) (T : tx_T kd (s + 1) e) : tx_T kd s e := by
  obtain ⟨h1, h2, h3⟩ := T
  have e1 := tx_ss kd s
  rw [h] at e1
  refine ⟨by omega, by omega, fun i a b => ?_⟩
  by_cases z : i = s
  · rw [z]; exact Int.le_refl _
  · have := h3 i (by omega) b; omega
/-- where the sum falls below that at s, the text from s is complete -/
theorem tx_ex {kd : Nat → Int32} {s e : Nat} (h1 : s ≤ e) (h2 : tx_s kd e < tx_s kd s) : ∃ e', e' ≤ e ∧ tx_T kd s e' := by
  obtain ⟨k, ⟨k1, k2⟩, k3⟩ := pk_least (fun k => s ≤ k ∧ tx_s kd k < tx_s kd s) ⟨e, h1, h2⟩
  have hke : k ≤ e := by
    rcases Nat.lt_or_ge e k with z | z
    · exact absurd ⟨h1, h2⟩ (k3 e z)
    · exact z
  have hks : s ≠ k := fun z => by rw [← z] at k2; omega
  obtain ⟨j, rfl⟩ : ∃ j, k = j + 1 := ⟨k - 1, by omega⟩
  have hj : tx_s kd s ≤ tx_s kd j := by
    rcases Int.lt_or_le (tx_s kd j) (tx_s kd s) with z | z
    · exact absurd ⟨by omega, z⟩ (k3 j (by omega))
    · exact z
  have e1 := tx_ss kd j
  have b1 := tx_tb kd j
  refine ⟨j + 1, hke, by omega, by omega, fun i a b => ?_⟩
  rcases Int.lt_or_le (tx_s kd i) (tx_s kd s) with z | z
  · exact absurd ⟨a, z⟩ (k3 i b)
  · exact z
theorem tx_sub {kd : Nat → Int32} {s e i : Nat} (T : tx_T kd s e) (h1 : s ≤ i) (h2 : i < e) : ∃ e', e' ≤ e ∧ tx_T kd i e' :=
  tx_ex (by omega) (by have := T.2.1; have := T.2.2 i h1 h2; omega)
theorem tx_1 {kd : Nat → Int32} {s e : Nat} (h : tx_t kd s = 1) (T : tx_T kd s e) : ∃ m, m < e ∧ tx_T kd (s + 1) m ∧ tx_T kd m e := by
  obtain ⟨h1, h2, h3⟩ := T
  have e1 := tx_ss kd s
  rw [h] at e1
  obtain ⟨m, hm, M⟩ := tx_ex (kd := kd) (s := s + 1) (e := e) (by omega) (by omega)
  have m1 := M.2.1
  have hme : m ≠ e := fun z => by rw [z] at m1; omega
  have m0 := M.1
  exact ⟨m, by omega, M, by omega, by omega, fun i a b => by have := h3 i (by omega) b; omega⟩
theorem tx_1' {kd : Nat → Int32} {s m e : Nat} (h : tx_t kd s = 1) (T : tx_T kd (s + 1) m) (M : tx_T kd m e) : tx_T kd s e := by
  obtain ⟨h1, h2, h3⟩ := T
  obtain ⟨k1, k2, k3⟩ := M
  have e1 := tx_ss kd s
  rw [h] at e1
  refine ⟨by omega, by omega, fun i a b => ?_⟩
  by_cases z : i = s
  · rw [z]; exact Int.le_refl _
  · by_cases z2 : i < m
    · have := h3 i (by omega) z2; omega
    · have := k3 i (by omega) b; omega
theorem tx_scg {kd kd' : Nat → Int32} : ∀ n, (∀ i, i < n → kd' i = kd i) → tx_s kd' n = tx_s kd n := by
  intro n
  induction n with
  | zero => intro _; rfl
  | succ n ih =>
    intro h
    rw [tx_ss, tx_ss, ih (fun i hi => h i (by omega))]
    unfold tx_t
    rw [h n (by omega)]
theorem tx_cg {kd kd' : Nat → Int32} {n s e : Nat} (h : ∀ i, i < n → kd' i = kd i) (he : e ≤ n) : tx_T kd s e → tx_T kd' s e := by
  rintro ⟨h1, h2, h3⟩
  refine ⟨h1, ?_, fun i a b => ?_⟩
  · rw [tx_scg e (fun i hi => h i (by omega)), tx_scg s (fun i hi => h i (by omega))]; exact h2
  · rw [tx_scg i (fun j hj => h j (by omega)), tx_scg s (fun j hj => h j (by omega))]; exact h3 i a b
/-- every text ends with a ret -/
theorem tx_last {kd : Nat → Int32} {s e : Nat} (T : tx_T kd s (e + 1)) : kd e = 6 := by
  obtain ⟨h1, h2, h3⟩ := T
  have := h3 e (by omega) (by omega)
  have e1 := tx_ss kd e
  exact tx_t6' (by omega)
/-! ===== free variables ===== -/
/-- variable v is mentioned in the rows s .. e - 1 -/
def tx_mn (aO bO : Nat → Int32) (v s e : Nat) : Prop := ∃ j, s ≤ j ∧ j < e ∧ (aO j = nI v ∨ bO j = nI v)
theorem tx_mn1 {aO bO : Nat → Int32} {v s e : Nat} (h : s < e) : tx_mn aO bO v s e ↔ (aO s = nI v ∨ bO s = nI v) ∨ tx_mn aO bO v (s + 1) e := by
  constructor
  · rintro ⟨j, h1, h2, h3⟩
    by_cases z : j = s
    · rw [z] at h3; exact Or.inl h3
    · exact Or.inr ⟨j, by omega, h2, h3⟩
  · rintro (h3 | ⟨j, h1, h2, h3⟩)
    · exact ⟨s, by omega, h, h3⟩
    · exact ⟨j, by omega, h2, h3⟩
theorem tx_mn2 {aO bO : Nat → Int32} {v s m e : Nat} (h : s ≤ m) (h' : m ≤ e) : tx_mn aO bO v s e ↔ tx_mn aO bO v s m ∨ tx_mn aO bO v m e := by
  constructor
  · rintro ⟨j, h1, h2, h3⟩
    by_cases z : j < m
    · exact Or.inl ⟨j, h1, z, h3⟩
    · exact Or.inr ⟨j, by omega, h2, h3⟩
  · rintro (⟨j, h1, h2, h3⟩ | ⟨j, h1, h2, h3⟩)
    · exact ⟨j, h1, by omega, h3⟩
    · exact ⟨j, by omega, h2, h3⟩
theorem tx_mn0 {aO bO : Nat → Int32} {v s : Nat} : ¬ tx_mn aO bO v s s := by
  rintro ⟨j, h1, h2, _⟩; omega
/-- what one row of the text satisfies, with the scopes sc, the borrowed masks bw, and the rows up to lim known -/
def tx_W (ar mk kd ex lf rt sp us bo ln ot aO bO : Nat → Int32) (sc : Nat → Nat) (bw : Nat → Int32) (cm lim i : Nat) : Prop :=
  (kd i = 0 ∨ kd i = 1 ∨ kd i = 2 ∨ kd i = 3 ∨ kd i = 4 ∨ kd i = 5 ∨ kd i = 6) ∧
  (sp i = nI (sc i) ∧ bo i = bw i ∧ sc i ≤ 12 ∧ ∀ v, v < 32 → bt (bw i) v = true → v < sc i) ∧
  ((aO i = -1 ∧ lf i = 0) ∨ ∃ a, a < sc i ∧ aO i = nI a ∧ lf i = nI a) ∧
  ((bO i = -1 ∧ rt i = 0) ∨ ∃ b, b < sc i ∧ bO i = nI b ∧ rt i = nI b) ∧
  (∀ v, v < 32 → (bt (us i) v = true ↔ (aO i = nI v ∨ bO i = nI v))) ∧
  (kd i ≠ 0 → kd i ≠ 3 → aO i ≠ -1) ∧
  (kd i = 1 ∨ kd i = 2 → bO i ≠ -1) ∧
  (kd i = 3 → ∃ f, f < 6 ∧ f < cm ∧ ex i = nI f ∧ (ar f = 0 ∧ aO i = -1 ∧ bO i = -1 ∨ ar f = 1 ∧ aO i ≠ -1 ∧ bO i = -1 ∨ ar f = 2 ∧ aO i ≠ -1 ∧ bO i ≠ -1) ∧
    (∀ v, v < 32 → (bt (ln i) v = true ↔ (bt (bw i) v = false ∧ (aO i = nI v ∧ bt (mk f) 0 = true ∨ bO i = nI v ∧ bt (mk f) 1 = true))))) ∧
  (kd i = 0 ∨ kd i = 1 ∨ kd i = 2 ∨ kd i = 3 → sc (i + 1) = sc i + 1 ∧ sc (i + 1) ≤ 12 ∧ bw (i + 1) = bw i) ∧
  (kd i = 4 → sc (i + 1) = sc i + 2 ∧ sc (i + 1) ≤ 12 ∧ ∀ v, v < 32 → bt (bw (i + 1)) v = (bt (bw i) v || ((decide (v = sc i) || decide (v = sc i + 1)) && bt (bw i) (lf i).toNatClampNeg))) ∧
  (kd i = 5 → sc (i + 1) = sc i ∧ bw (i + 1) = bw i) ∧
  (kd i = 4 ∨ kd i = 5 → ∀ m, tx_T kd (i + 1) m → m ≤ lim → ot i = nI m ∧ sc m = sc i ∧ bw m = bw i)
/-- what the analysis has put down at row i -/
def tx_A (kd us fr af bd : Nat → Int32) (sc : Nat → Nat) (i : Nat) : Prop :=
  (∀ v, v < 32 → bt (fr i) v = (bt (us i) v || bt (af i) v)) ∧
  (kd i = 6 → (∀ v, v < 32 → bt (af i) v = false) ∧ bd i = 0) ∧
  (kd i = 4 ∨ kd i = 5 → ∀ m, tx_T kd (i + 1) m →
    (∀ v, v < 32 → bt (af i) v = ((bt (fr (i + 1)) v && !(decide (kd i = 4) && (decide (v = sc i) || decide (v = sc i + 1)))) || bt (fr m) v)) ∧
    bd i = (if bd (i + 1) ≤ bd m then bd m else bd (i + 1))) ∧
  (kd i = 0 ∨ kd i = 1 ∨ kd i = 2 ∨ kd i = 3 → (∀ v, v < 32 → bt (af i) v = (bt (fr (i + 1)) v && !decide (v = sc i))) ∧
    bd i = (if kd i = 2 then bd (i + 1) + 1 else bd (i + 1)))
theorem tx_w0 {x : Int32} (h : x = 0 ∨ x = 1 ∨ x = 2 ∨ x = 3) : x ≠ 4 ∧ x ≠ 5 ∧ x ≠ 6 := by
  rcases h with rfl | rfl | rfl | rfl <;> decide
/-- the bit of frees: in scope and mentioned in the text -/
theorem tx_F {ar mk kd ex lf rt sp us bo ln ot aO bO fr af bd : Nat → Int32} {sc : Nat → Nat} {bw : Nat → Int32} {cm b : Nat}
    (hW : ∀ i, i < b → tx_W ar mk kd ex lf rt sp us bo ln ot aO bO sc bw cm b i) (hA : ∀ i, i < b → tx_A kd us fr af bd sc i) (v : Nat) (hv : v < 32) :
    ∀ k i e, e ≤ i + k → e ≤ b → tx_T kd i e → (bt (fr i) v = true ↔ (v < sc i ∧ tx_mn aO bO v i e)) := by
  intro k
  induction k with
  | zero => intro i e h1 h2 T; have := T.1; omega
  | succ k ih =>
    intro i e h1 h2 T
    have hie := T.1
    obtain ⟨w1, ⟨-, -, w2, -⟩, w3, w4, w5, -, -, -, w9, w10, w11, w12⟩ := hW i (by omega)
    obtain ⟨a1, a2, a3, a4⟩ := hA i (by omega)
    have hus : bt (us i) v = true ↔ (v < sc i ∧ (aO i = nI v ∨ bO i = nI v)) := by
      rw [w5 v hv]
      refine ⟨fun h => ⟨?_, h⟩, fun h => h.2⟩
      rcases h with h | h
      · rcases w3 with ⟨z, -⟩ | ⟨a, ha, z, -⟩
        · rw [z] at h
          exact absurd h (by
            intro q
            have := congrArg Int32.toInt q
            rw [nI_toInt (by omega)] at this
            exact absurd this (by have e1 : (-1 : Int32).toInt = -1 := by decide
                                  omega))
        · rw [z, nI_eq (by omega) (by omega)] at h; omega
      · rcases w4 with ⟨z, -⟩ | ⟨a, ha, z, -⟩
        · rw [z] at h
          exact absurd h (by
            intro q
            have := congrArg Int32.toInt q
            rw [nI_toInt (by omega)] at this
            exact absurd this (by have e1 : (-1 : Int32).toInt = -1 := by decide
                                  omega))
        · rw [z, nI_eq (by omega) (by omega)] at h; omega
    rw [a1 v hv, Bool.or_eq_true, hus, tx_mn1 hie]
    have hk : (kd i = 0 ∨ kd i = 1 ∨ kd i = 2 ∨ kd i = 3) ∨ (kd i = 4 ∨ kd i = 5) ∨ kd i = 6 := by
      rcases w1 with h | h | h | h | h | h | h
      · exact Or.inl (Or.inl h)
      · exact Or.inl (Or.inr (Or.inl h))
      · exact Or.inl (Or.inr (Or.inr (Or.inl h)))
      · exact Or.inl (Or.inr (Or.inr (Or.inr h)))
      · exact Or.inr (Or.inl (Or.inl h))
      · exact Or.inr (Or.inl (Or.inr h))
      · exact Or.inr (Or.inr h)
    rcases hk with h | h | h
    · obtain ⟨n4, n5, n6⟩ := tx_w0 h
      have T1 := tx_0 (tx_t0 n4 n5 n6) T
      have I := ih (i + 1) e (by omega) h2 T1
      rw [(a4 h).1 v hv, Bool.and_eq_true, I, (w9 h).1, Bool.not_eq_true', decide_eq_false_iff_not]
      constructor
      · rintro (⟨p, q⟩ | ⟨⟨p, q⟩, r⟩)
        · exact ⟨p, Or.inl q⟩
        · exact ⟨by omega, Or.inr q⟩
      · rintro ⟨p, q | q⟩
        · exact Or.inl ⟨p, q⟩
        · exact Or.inr ⟨⟨by omega, q⟩, by omega⟩
    · have t1 : tx_t kd i = 1 := by rcases h with z | z; exact tx_t4 z; exact tx_t5 z
      obtain ⟨m, hm, T1, T2⟩ := tx_1 t1 T
      have m0 := T1.1
      have I1 := ih (i + 1) m (by omega) (by omega) T1
      have I2 := ih m e (by omega) h2 T2
      rw [(a3 h m T1).1 v hv, Bool.or_eq_true, Bool.and_eq_true, I1, I2, (w12 h m T1 (by omega)).2.1, tx_mn2 (s := i + 1) (m := m) (e := e) (by omega) (by omega)]
      rcases h with z | z
      · rw [(w10 z).1, decide_eq_true z, Bool.true_and, Bool.not_eq_true', Bool.or_eq_false_iff, decide_eq_false_iff_not, decide_eq_false_iff_not]
        constructor
        · rintro (⟨p, q⟩ | ⟨⟨p, q⟩, r⟩ | ⟨p, q⟩)
          · exact ⟨p, Or.inl q⟩
          · exact ⟨by omega, Or.inr (Or.inl q)⟩
          · exact ⟨p, Or.inr (Or.inr q)⟩
        · rintro ⟨p, q | q | q⟩
          · exact Or.inl ⟨p, q⟩
          · exact Or.inr (Or.inl ⟨⟨by omega, q⟩, by omega, by omega⟩)
          · exact Or.inr (Or.inr ⟨p, q⟩)
      · rw [(w11 z).1, decide_eq_false (show ¬ kd i = 4 by rw [z]; decide), Bool.false_and]
        constructor
        · rintro (⟨p, q⟩ | ⟨⟨p, q⟩, r⟩ | ⟨p, q⟩)
          · exact ⟨p, Or.inl q⟩
          · exact ⟨by omega, Or.inr (Or.inl q)⟩
          · exact ⟨p, Or.inr (Or.inr q)⟩
        · rintro ⟨p, q | q | q⟩
          · exact Or.inl ⟨p, q⟩
          · exact Or.inr (Or.inl ⟨⟨p, q⟩, rfl⟩)
          · exact Or.inr (Or.inr ⟨p, q⟩)
    · have he := tx_6e h T
      have hm : ¬ tx_mn aO bO v (i + 1) e := by rw [he]; exact tx_mn0
      rw [(a2 h).1 v hv]
      constructor
      · rintro (⟨p, q⟩ | z)
        · exact ⟨p, Or.inl q⟩
        · exact absurd z (by decide)
      · rintro ⟨p, q | q⟩
        · exact Or.inl ⟨p, q⟩
        · exact absurd q hm
end
section
/-! ===== the greatest number of cons on a way ===== -/
noncomputable def tx_en (kd : Nat → Int32) (s : Nat) : Nat := Classical.epsilon (fun e => tx_T kd s e)
theorem tx_en_T {kd : Nat → Int32} {s e : Nat} (T : tx_T kd s e) : tx_en kd s = e :=
  tx_uniq (Classical.epsilon_spec (p := fun e => tx_T kd s e) ⟨e, T⟩) T
/-- the cons from s on the way to r -/
noncomputable def tx_cn (kd : Nat → Int32) (s r k : Nat) : Nat := rc_sm (fun j => if s ≤ j ∧ kd j = 2 ∧ r < tx_en kd j then 1 else 0) k
theorem tx_cn0 {kd : Nat → Int32} {s r k : Nat} (h : k ≤ s) : tx_cn kd s r k = 0 := rc_sm_0 k (fun j hj => if_neg (fun z => by have := z.1; omega))
theorem tx_cnS {kd : Nat → Int32} {s r : Nat} (h : s < r) : tx_cn kd s r r = tx_cn kd (s + 1) r r + (if kd s = 2 ∧ r < tx_en kd s then 1 else 0) := by
  unfold tx_cn
  have u := rc_sm_upd (f := fun j => if s + 1 ≤ j ∧ kd j = 2 ∧ r < tx_en kd j then 1 else 0) (g := fun j => if s ≤ j ∧ kd j = 2 ∧ r < tx_en kd j then 1 else 0) (x := s) (fun j hj => by
    (try dsimp only)
    by_cases z : s ≤ j ∧ kd j = 2 ∧ r < tx_en kd j
    · rw [if_pos z, if_pos ⟨by omega, z.2⟩]
    · rw [if_neg z, if_neg (fun q => z ⟨by omega, q.2⟩)]) r h
  (try dsimp only at u)
  rw [if_neg (show ¬ (s + 1 ≤ s ∧ kd s = 2 ∧ r < tx_en kd s) from fun z => by have := z.1; omega)] at u
  by_cases z : kd s = 2 ∧ r < tx_en kd s
  · rw [if_pos (show s ≤ s ∧ kd s = 2 ∧ r < tx_en kd s from ⟨Nat.le_refl _, z⟩)] at u
    rw [if_pos z]; omega
  · rw [if_neg (show ¬ (s ≤ s ∧ kd s = 2 ∧ r < tx_en kd s) from fun q => z q.2)] at u
    rw [if_neg z]; omega
theorem tx_cn_le {kd : Nat → Int32} {s r k : Nat} : tx_cn kd s r k ≤ k := by
  have := rc_sm_le (f := fun j => if s ≤ j ∧ kd j = 2 ∧ r < tx_en kd j then 1 else 0) (m := 1) k (fun j _ => by (try dsimp only); split <;> omega)
  unfold tx_cn; omega
/-- B is the greatest number over the rets of the rows s .. e - 1 -/
def tx_B (kd : Nat → Int32) (s e B : Nat) : Prop :=
  (∀ r, s ≤ r → r < e → kd r = 6 → tx_cn kd s r r ≤ B) ∧ ∃ r, s ≤ r ∧ r < e ∧ kd r = 6 ∧ tx_cn kd s r r = B
theorem tx_bd {ar mk kd ex lf rt sp us bo ln ot aO bO fr af bd : Nat → Int32} {sc : Nat → Nat} {bw : Nat → Int32} {cm b : Nat} (hb : b ≤ 96)
    (hW : ∀ i, i < b → tx_W ar mk kd ex lf rt sp us bo ln ot aO bO sc bw cm b i) (hA : ∀ i, i < b → tx_A kd us fr af bd sc i) :
    ∀ k i e, e ≤ i + k → e ≤ b → tx_T kd i e → ∃ B, B ≤ k ∧ bd i = nI B ∧ tx_B kd i e B := by
  intro k
  induction k with
  | zero => intro i e h1 h2 T; have := T.1; omega
  | succ k ih =>
    intro i e h1 h2 T
    by_cases hkb : b ≤ k
    · obtain ⟨B, p1, p2⟩ := ih i e (by omega) h2 T
      exact ⟨B, by omega, p2⟩
    have hie := T.1
    obtain ⟨w1, -, -, -, -, -, -, -, -, -, -, w12⟩ := hW i (by omega)
    obtain ⟨-, a2, a3, a4⟩ := hA i (by omega)
    have hk : (kd i = 0 ∨ kd i = 1 ∨ kd i = 2 ∨ kd i = 3) ∨ (kd i = 4 ∨ kd i = 5) ∨ kd i = 6 := by
      rcases w1 with h | h | h | h | h | h | h
      · exact Or.inl (Or.inl h)
      · exact Or.inl (Or.inr (Or.inl h))
      · exact Or.inl (Or.inr (Or.inr (Or.inl h)))
      · exact Or.inl (Or.inr (Or.inr (Or.inr h)))
      · exact Or.inr (Or.inl (Or.inl h))
      · exact Or.inr (Or.inl (Or.inr h))
      · exact Or.inr (Or.inr h)
    rcases hk with h | h | h
    · obtain ⟨n4, n5, n6⟩ := tx_w0 h
      have T1 := tx_0 (tx_t0 n4 n5 n6) T
      obtain ⟨B, p1, p2, p3, r0, r1, r2, r3, r4⟩ := ih (i + 1) e (by omega) h2 T1
      have hen := tx_en_T T
      by_cases c : kd i = 2
      · refine ⟨B + 1, by omega, by rw [(a4 h).2, if_pos c, p2, nI_1], fun r q1 q2 q3 => ?_, r0, by omega, r2, r3, ?_⟩
        · have hri : r ≠ i := fun z => n6 (by rw [← z]; exact q3)
          rw [tx_cnS (by omega), if_pos ⟨c, by omega⟩]
          have := p3 r (by omega) q2 q3
          omega
        · rw [tx_cnS (by omega), if_pos ⟨c, by omega⟩, r4]
      · refine ⟨B, by omega, by rw [(a4 h).2, if_neg c, p2], fun r q1 q2 q3 => ?_, r0, by omega, r2, r3, ?_⟩
        · have hri : r ≠ i := fun z => n6 (by rw [← z]; exact q3)
          rw [tx_cnS (by omega), if_neg (fun z => c z.1)]
          have := p3 r (by omega) q2 q3
          omega
        · rw [tx_cnS (by omega), if_neg (fun z => c z.1), r4]; rfl
    · have t1 : tx_t kd i = 1 := by rcases h with z | z; exact tx_t4 z; exact tx_t5 z
      have c : kd i ≠ 2 := by rcases h with z | z <;> (rw [z]; decide)
      have n6 : kd i ≠ 6 := by rcases h with z | z <;> (rw [z]; decide)
      obtain ⟨m, hm, T1, T2⟩ := tx_1 t1 T
      have m0 := T1.1
      obtain ⟨B, p1, p2, p3, r0, r1, r2, r3, r4⟩ := ih (i + 1) m (by omega) (by omega) T1
      obtain ⟨C, s1, s2, s3, u0, u1, u2, u3, u4⟩ := ih m e (by omega) h2 T2
      have lo : ∀ r, i + 1 ≤ r → r < m → tx_cn kd i r r = tx_cn kd (i + 1) r r := fun r q1 q2 => by
        rw [tx_cnS (by omega), if_neg (fun z => c z.1)]; rfl
      have hi : ∀ r, m ≤ r → tx_cn kd i r r = tx_cn kd m r r := fun r q1 => by
        unfold tx_cn
        refine rc_sm_eq r (fun j hj => ?_)
        by_cases z : m ≤ j
        · by_cases q : kd j = 2 ∧ r < tx_en kd j
          · rw [if_pos ⟨by omega, q⟩, if_pos ⟨z, q⟩]
          · rw [if_neg (fun y => q y.2), if_neg (fun y => q y.2)]
        · rw [if_neg (show ¬ (m ≤ j ∧ kd j = 2 ∧ r < tx_en kd j) from fun y => z y.1)]
          refine if_neg (fun y => ?_)
          by_cases ji : j = i
          · exact c (by rw [← ji]; exact y.2.1)
          · obtain ⟨e', he', T3⟩ := tx_sub T1 (i := j) (by have := y.1; omega) (by omega)
            have := y.2.2
            rw [tx_en_T T3] at this
            omega
      have hBC : bd i = nI (if B ≤ C then C else B) := by
        rw [(a3 h m T1).2, p2, s2]
        by_cases z : B ≤ C
        · rw [if_pos z, if_pos (nI_le z (by omega))]
        · rw [if_neg z, if_neg (nI_ge (by omega) (by omega))]
      refine ⟨if B ≤ C then C else B, by split <;> omega, hBC, fun r q1 q2 q3 => ?_, ?_⟩
      · have hri : r ≠ i := fun z => n6 (by rw [← z]; exact q3)
        by_cases z : r < m
        · rw [lo r (by omega) z]
          have := p3 r (by omega) z q3
          split <;> omega
        · rw [hi r (by omega)]
          have := s3 r (by omega) q2 q3
          split <;> omega
      · by_cases z : B ≤ C
        · rw [if_pos z]; exact ⟨u0, by omega, u2, u3, by rw [hi u0 (by omega)]; exact u4⟩
        · rw [if_neg z]; exact ⟨r0, by omega, by omega, r3, by rw [lo r0 (by omega) r2]; exact r4⟩
    · have he := tx_6e h T
      refine ⟨0, by omega, (a2 h).2, fun r q1 q2 q3 => ?_, i, by omega, by omega, h, tx_cn0 (Nat.le_refl _)⟩
      have : r = i := by omega
      rw [this, tx_cn0 (Nat.le_refl _)]; exact Nat.le_refl _
theorem tx_B_uniq {kd : Nat → Int32} {s e B C : Nat} (h : tx_B kd s e B) (h' : tx_B kd s e C) : B = C := by
  obtain ⟨h1, r, h2, h3, h4, h5⟩ := h
  obtain ⟨k1, q, k2, k3, k4, k5⟩ := h'
  have := h1 q k2 k3 k4
  have := k1 r h2 h3 h4
  omega
end
section
/-! ===== X: retain, release, hold ===== -/
theorem hp_top' {L : Nat → Bool} {fx sy vs : Nat → Int64} {H : Nat → Bool} {E : Nat → Nat} {cnt pl wk : Nat → Int32} {lv top : Nat}
    (D : hp_D L fx sy vs H E cnt pl lv wk top) : top ≤ 160 := by
  obtain ⟨d1, d2, d3, d4, d5, d6, d7, d8, d9⟩ := D
  refine rc_pig 160 top (fun i => (wk i).toNatClampNeg) (fun i hi => ?_) (fun i j hij hj => ?_)
  · obtain ⟨q, hq, e2, k⟩ := d3 i hi
    (try dsimp only)
    rw [e2, nI_clamp (by omega)]; exact hq
  · (try dsimp only)
    obtain ⟨q, hq, e2, k⟩ := d3 i (by omega)
    obtain ⟨q2, hq2, e3, k2⟩ := d3 j hj
    rw [e2, e3, nI_clamp (by omega), nI_clamp (by omega)]
    intro z
    exact d4 i j hij hj (by rw [e2, e3, z])
section
variable {f_codeNum f_codeOp f_codeCon f_codeCall f_codeMatch f_codeIfZero f_codeRet : Int32} {f_cellBase f_unseen : Int64} {f_capacity f_depth f_complete f_open f_stored f_scope f_borrowedNow f_pending f_liveCells f_frames f_spareTotal f_state f_borrowing f_reusing f_keeping : Int32} {f_result : Int64} {f_steps f_fresh f_reused f_peak : Int32} {a_arities a_masks a_starts a_codes a_extras a_lefts a_rights a_scopes a_uses a_borrowed a_lends a_others a_frees a_afters a_builds a_pendingAt a_tags : Nat → Int32} {a_firsts a_seconds : Nat → Int64} {a_digests a_counts a_places a_work a_marks : Nat → Int32} {a_variables : Nat → Int64} {a_currents a_held a_spareCounts : Nat → Int32}
variable {L : Nat → Bool} {H : Nat → Bool} {E : Nat → Nat} {cnt pl wk : Nat → Int32} {lv top : Nat}
theorem xw_cellOf {post : Int32 → Prop} {c : Nat} (hc : c < 160) (h : post (nI c)) : wpX_cellOf post (f_codeNum, f_codeOp, f_codeCon, f_codeCall, f_codeMatch, f_codeIfZero, f_codeRet, f_cellBase, f_unseen, f_capacity, f_depth, f_complete, f_open, f_stored, f_scope, f_borrowedNow, f_pending, f_liveCells, f_frames, f_spareTotal, f_state, f_borrowing, f_reusing, f_keeping, f_result, f_steps, f_fresh, f_reused, f_peak, a_arities, a_masks, a_starts, a_codes, a_extras, a_lefts, a_rights, a_scopes, a_uses, a_borrowed, a_lends, a_others, a_frees, a_afters, a_builds, a_pendingAt, a_tags, a_firsts, a_seconds, a_digests, a_counts, a_places, a_work, a_marks, a_variables, a_currents, a_held, a_spareCounts) (rc_cv c) := by
  show post ((rc_cv c - 4294967296).toInt32)
  rw [rc_cv_of (by omega)]; exact h
theorem xw_isC {post : Int32 → Prop} {c : Nat} (hc : c < 160) (h : post 1) : wpX_isCell post (f_codeNum, f_codeOp, f_codeCon, f_codeCall, f_codeMatch, f_codeIfZero, f_codeRet, f_cellBase, f_unseen, f_capacity, f_depth, f_complete, f_open, f_stored, f_scope, f_borrowedNow, f_pending, f_liveCells, f_frames, f_spareTotal, f_state, f_borrowing, f_reusing, f_keeping, f_result, f_steps, f_fresh, f_reused, f_peak, a_arities, a_masks, a_starts, a_codes, a_extras, a_lefts, a_rights, a_scopes, a_uses, a_borrowed, a_lends, a_others, a_frees, a_afters, a_builds, a_pendingAt, a_tags, a_firsts, a_seconds, a_digests, a_counts, a_places, a_work, a_marks, a_variables, a_currents, a_held, a_spareCounts) (rc_cv c) :=
  br_f (rc_cv_ge (by omega)) h
theorem xw_isN {post : Int32 → Prop} {v : Int64} (hv : v < 4294967296) (h : post 0) : wpX_isCell post (f_codeNum, f_codeOp, f_codeCon, f_codeCall, f_codeMatch, f_codeIfZero, f_codeRet, f_cellBase, f_unseen, f_capacity, f_depth, f_complete, f_open, f_stored, f_scope, f_borrowedNow, f_pending, f_liveCells, f_frames, f_spareTotal, f_state, f_borrowing, f_reusing, f_keeping, f_result, f_steps, f_fresh, f_reused, f_peak, a_arities, a_masks, a_starts, a_codes, a_extras, a_lefts, a_rights, a_scopes, a_uses, a_borrowed, a_lends, a_others, a_frees, a_afters, a_builds, a_pendingAt, a_tags, a_firsts, a_seconds, a_digests, a_counts, a_places, a_work, a_marks, a_variables, a_currents, a_held, a_spareCounts) v := br_t hv h
theorem xw_ret {post : SX → Prop} {v : Int64} (hk : f_keeping = 0) (hv : rc_gv v) (hL : ∀ c, c < 160 → v = rc_cv c → L c = true)
    (D : hp_D L a_firsts a_seconds a_variables H E cnt pl lv wk 0)
    (hp : ∀ cnt', hp_D L a_firsts a_seconds a_variables H (fun q => E q + rc_d v q) cnt' pl lv wk 0 → post (f_codeNum, f_codeOp, f_codeCon, f_codeCall, f_codeMatch, f_codeIfZero, f_codeRet, f_cellBase, f_unseen, f_capacity, f_depth, f_complete, f_open, f_stored, f_scope, f_borrowedNow, f_pending, f_liveCells, f_frames, f_spareTotal, f_state, f_borrowing, f_reusing, f_keeping, f_result, f_steps, f_fresh, f_reused, f_peak, a_arities, a_masks, a_starts, a_codes, a_extras, a_lefts, a_rights, a_scopes, a_uses, a_borrowed, a_lends, a_others, a_frees, a_afters, a_builds, a_pendingAt, a_tags, a_firsts, a_seconds, a_digests, cnt', a_places, a_work, a_marks, a_variables, a_currents, a_held, a_spareCounts)) :
    wpX_retain post (f_codeNum, f_codeOp, f_codeCon, f_codeCall, f_codeMatch, f_codeIfZero, f_codeRet, f_cellBase, f_unseen, f_capacity, f_depth, f_complete, f_open, f_stored, f_scope, f_borrowedNow, f_pending, f_liveCells, f_frames, f_spareTotal, f_state, f_borrowing, f_reusing, f_keeping, f_result, f_steps, f_fresh, f_reused, f_peak, a_arities, a_masks, a_starts, a_codes, a_extras, a_lefts, a_rights, a_scopes, a_uses, a_borrowed, a_lends, a_others, a_frees, a_afters, a_builds, a_pendingAt, a_tags, a_firsts, a_seconds, a_digests, cnt, a_places, a_work, a_marks, a_variables, a_currents, a_held, a_spareCounts) v := by
  rcases hv with hv | ⟨c, hc, rfl⟩
  · exact br_t hk (xw_isN hv (br_t rfl (hp cnt ((hp_ret0 hv).mp D))))
  · refine br_t hk (xw_isC hc (br_f (by decide) (xw_cellOf hc ⟨vp_in_nI hc (by omega), vp_in_nI hc (by omega), nm_r (e' := upd cnt c (cnt c + 1)) ?_ (hp _ (hp_ret hc (hL c hc rfl) D))⟩)))
    rw [nI_clamp (by omega)]
theorem xw_drop {post : Int32 → SX → Prop} {v : Int64} (hv : rc_gv v) (hE : ∀ c, c < 160 → E c ≤ 100)
    (D : hp_D L a_firsts a_seconds a_variables H (fun q => E q + rc_d v q) cnt pl lv wk top)
    (hp : ∀ cnt' wk' top', hp_D L a_firsts a_seconds a_variables H E cnt' pl lv wk' top' → post (nI top') (f_codeNum, f_codeOp, f_codeCon, f_codeCall, f_codeMatch, f_codeIfZero, f_codeRet, f_cellBase, f_unseen, f_capacity, f_depth, f_complete, f_open, f_stored, f_scope, f_borrowedNow, f_pending, f_liveCells, f_frames, f_spareTotal, f_state, f_borrowing, f_reusing, f_keeping, f_result, f_steps, f_fresh, f_reused, f_peak, a_arities, a_masks, a_starts, a_codes, a_extras, a_lefts, a_rights, a_scopes, a_uses, a_borrowed, a_lends, a_others, a_frees, a_afters, a_builds, a_pendingAt, a_tags, a_firsts, a_seconds, a_digests, cnt', a_places, wk', a_marks, a_variables, a_currents, a_held, a_spareCounts)) :
    wpX_drop post (f_codeNum, f_codeOp, f_codeCon, f_codeCall, f_codeMatch, f_codeIfZero, f_codeRet, f_cellBase, f_unseen, f_capacity, f_depth, f_complete, f_open, f_stored, f_scope, f_borrowedNow, f_pending, f_liveCells, f_frames, f_spareTotal, f_state, f_borrowing, f_reusing, f_keeping, f_result, f_steps, f_fresh, f_reused, f_peak, a_arities, a_masks, a_starts, a_codes, a_extras, a_lefts, a_rights, a_scopes, a_uses, a_borrowed, a_lends, a_others, a_frees, a_afters, a_builds, a_pendingAt, a_tags, a_firsts, a_seconds, a_digests, cnt, a_places, wk, a_marks, a_variables, a_currents, a_held, a_spareCounts) v (nI top) := by
  unfold wpX_drop
  (try dsimp only)
  rcases hv with hv | ⟨c, hc, rfl⟩
  · exact xw_isN hv (br_t rfl (hp cnt wk top ((hp_ret0 hv).mpr D)))
  · have h1 := hp_drop1 hc D (hE c hc)
    have ht := hp_top D hc (by rw [hp_KE (E := E) (k := 1) (by (try dsimp only); rw [rc_d_s])]; omega)
    refine xw_isC hc (br_f (by decide) (xw_cellOf hc ⟨vp_in_nI hc (by omega), vp_in_nI hc (by omega), nm_r (e' := upd cnt c (cnt c - 1)) (by rw [nI_clamp (by omega)]) ⟨vp_in_nI hc (by omega), ?_⟩⟩))
    rw [nI_clamp (show c < 2 ^ 31 by omega), pk_us, nI_clamp (show top < 2 ^ 31 by omega)]
    by_cases z : hp_K L a_firsts a_seconds a_variables H E c = 0
    · refine br_t (h1.2 z).1 ⟨vp_in_nI ht (by omega), nm_e ?_⟩
      rw [nI_1]
      exact hp _ _ _ (h1.2 z).2
    · exact br_f (h1.1 z).1 (hp _ _ _ (h1.1 z).2)
theorem xw_rel {post : SX → Prop} (hE : ∀ c, c < 160 → E c ≤ 20) : ∀ (n : Nat) (L : Nat → Bool) (cnt pl wk : Nat → Int32) (lv top i : Nat),
    hp_D L a_firsts a_seconds a_variables H E cnt pl lv wk top → i + lv ≤ 160 → lv < n →
    (∀ L' cnt' pl' lv' wk', (∀ c, L' c = true → L c = true) → hp_D L' a_firsts a_seconds a_variables H E cnt' pl' lv' wk' 0 → post (f_codeNum, f_codeOp, f_codeCon, f_codeCall, f_codeMatch, f_codeIfZero, f_codeRet, f_cellBase, f_unseen, f_capacity, f_depth, f_complete, f_open, f_stored, f_scope, f_borrowedNow, f_pending, nI lv', f_frames, f_spareTotal, f_state, f_borrowing, f_reusing, f_keeping, f_result, f_steps, f_fresh, f_reused, f_peak, a_arities, a_masks, a_starts, a_codes, a_extras, a_lefts, a_rights, a_scopes, a_uses, a_borrowed, a_lends, a_others, a_frees, a_afters, a_builds, a_pendingAt, a_tags, a_firsts, a_seconds, a_digests, cnt', pl', wk', a_marks, a_variables, a_currents, a_held, a_spareCounts)) →
    wX_release_18 post n (nI top) (nI i) f_codeNum f_codeOp f_codeCon f_codeCall f_codeMatch f_codeIfZero f_codeRet f_cellBase f_unseen f_capacity f_depth f_complete f_open f_stored f_scope f_borrowedNow f_pending (nI lv) f_frames f_spareTotal f_state f_borrowing f_reusing f_keeping f_result f_steps f_fresh f_reused f_peak a_arities a_masks a_starts a_codes a_extras a_lefts a_rights a_scopes a_uses a_borrowed a_lends a_others a_frees a_afters a_builds a_pendingAt a_tags a_firsts a_seconds a_digests cnt pl wk a_marks a_variables a_currents a_held a_spareCounts := by
  intro n
  induction n with
  | zero => intro L cnt pl wk lv top i _ _ h; omega
  | succ n ih =>
    intro L cnt pl wk lv top i D hi hn hp
    cases top with
    | zero => exact br_c (fun _ => hp L cnt pl lv wk (fun _ h => h) D) (fun _ => br_t (by rw [nI_0]; exact Int32.le_refl _) (hp L cnt pl lv wk (fun _ h => h) D))
    | succ t =>
      have htop := hp_top' D
      obtain ⟨d, hd, hw, -⟩ := D.2.2.1 t (by omega)
      obtain ⟨h0, h1, g1, g2, D1⟩ := hp_pop hd D hw
      obtain ⟨l, rfl⟩ : ∃ l, lv = l + 1 := ⟨lv - 1, by omega⟩
      rw [Nat.add_sub_cancel] at D1
      refine br_f (nI_ge (b := 160) (by omega) (by omega)) (br_f (nI_nle (by omega) (by omega)) (nm_r (pk_m1 t) ⟨vp_in_nI (by omega) (by omega), nm_r (e' := nI d) (by rw [nI_clamp (by omega), hw]) (nm_r (nI_pred l) ⟨vp_in_nI (by omega) (by omega), nm_r (e' := upd pl l (nI d)) (by rw [nI_clamp (by omega)]) ⟨vp_in_nI hd (by omega), ?_⟩⟩)⟩))
      rw [nI_clamp (show d < 2 ^ 31 by omega)]
      refine xw_drop (E := fun q => E q + rc_d (a_seconds d) q) g1 (fun c hc => by have := hE c hc; have := rc_d_le (a_seconds d) c; (try dsimp only); omega) D1 (fun cnt1 wk1 top1 D2 => ⟨vp_in_nI hd (by omega), ?_⟩)
      refine xw_drop (E := E) g2 (fun c hc => by have := hE c hc; omega) D2 (fun cnt2 wk2 top2 D3 => nm_r (nI_1 i) ?_)
      exact ih _ cnt2 _ wk2 l top2 (i + 1) D3 (by omega) (by omega) (fun L' cnt' pl' lv' wk' hs D' => hp L' cnt' pl' lv' wk' (fun c hc => hp_rm_sub (hs c hc)) D')
theorem xw_release {post : SX → Prop} {v : Int64} (hk : f_keeping = 0) (hE : ∀ c, c < 160 → E c ≤ 20) (hv : rc_gv v)
    (D : hp_D L a_firsts a_seconds a_variables H (fun q => E q + rc_d v q) cnt pl lv wk 0)
    (hp : ∀ L' cnt' pl' lv' wk', (∀ c, L' c = true → L c = true) → hp_D L' a_firsts a_seconds a_variables H E cnt' pl' lv' wk' 0 → post (f_codeNum, f_codeOp, f_codeCon, f_codeCall, f_codeMatch, f_codeIfZero, f_codeRet, f_cellBase, f_unseen, f_capacity, f_depth, f_complete, f_open, f_stored, f_scope, f_borrowedNow, f_pending, nI lv', f_frames, f_spareTotal, f_state, f_borrowing, f_reusing, f_keeping, f_result, f_steps, f_fresh, f_reused, f_peak, a_arities, a_masks, a_starts, a_codes, a_extras, a_lefts, a_rights, a_scopes, a_uses, a_borrowed, a_lends, a_others, a_frees, a_afters, a_builds, a_pendingAt, a_tags, a_firsts, a_seconds, a_digests, cnt', pl', wk', a_marks, a_variables, a_currents, a_held, a_spareCounts)) :
    wpX_release post (f_codeNum, f_codeOp, f_codeCon, f_codeCall, f_codeMatch, f_codeIfZero, f_codeRet, f_cellBase, f_unseen, f_capacity, f_depth, f_complete, f_open, f_stored, f_scope, f_borrowedNow, f_pending, nI lv, f_frames, f_spareTotal, f_state, f_borrowing, f_reusing, f_keeping, f_result, f_steps, f_fresh, f_reused, f_peak, a_arities, a_masks, a_starts, a_codes, a_extras, a_lefts, a_rights, a_scopes, a_uses, a_borrowed, a_lends, a_others, a_frees, a_afters, a_builds, a_pendingAt, a_tags, a_firsts, a_seconds, a_digests, cnt, pl, wk, a_marks, a_variables, a_currents, a_held, a_spareCounts) v := by
  refine br_t hk ?_
  refine xw_drop (top := 0) (E := E) hv (fun c hc => by have := hE c hc; omega) D (fun cnt1 wk1 top1 D1 => ⟨161, ?_⟩)
  have := hp_lv D1
  exact xw_rel hE 161 L cnt1 pl wk1 lv top1 0 D1 (by omega) (by omega) hp
/-- the roots while row b changes from hd to mk -/
def hp_g (H : Nat → Bool) (b : Nat) (hd mk : Int32) (i : Nat) : Nat → Bool := fun x => if b ≤ x ∧ x < b + 12 then (if x - b < i then (bt hd (x - b) || bt mk (x - b)) else bt hd (x - b)) else H x
def hp_l (H : Nat → Bool) (b : Nat) (hd mk : Int32) (i : Nat) : Nat → Bool := fun x => if b ≤ x ∧ x < b + 12 then (if x - b < i then bt mk (x - b) else (bt hd (x - b) || bt mk (x - b))) else H x
def hp_h (H : Nat → Bool) (b : Nat) (mk : Int32) : Nat → Bool := fun x => if b ≤ x ∧ x < b + 12 then bt mk (x - b) else H x
theorem hp_g_o {H : Nat → Bool} {b : Nat} {hd mk : Int32} {i y : Nat} (h : y ≠ b + i) : hp_g H b hd mk (i + 1) y = hp_g H b hd mk i y := by
  unfold hp_g
  by_cases z : b ≤ y ∧ y < b + 12
  · rw [if_pos z, if_pos z]
    by_cases q : y - b < i
    · rw [if_pos q, if_pos (by omega)]
    · rw [if_neg q, if_neg (by omega)]
  · rw [if_neg z, if_neg z]
theorem hp_l_o {H : Nat → Bool} {b : Nat} {hd mk : Int32} {i y : Nat} (h : y ≠ b + i) : hp_l H b hd mk (i + 1) y = hp_l H b hd mk i y := by
  unfold hp_l
  by_cases z : b ≤ y ∧ y < b + 12
  · rw [if_pos z, if_pos z]
    by_cases q : y - b < i
    · rw [if_pos q, if_pos (by omega)]
    · rw [if_neg q, if_neg (by omega)]
  · rw [if_neg z, if_neg z]
theorem hp_g_i {H : Nat → Bool} {b : Nat} {hd mk : Int32} {i : Nat} (h : i < 12) : hp_g H b hd mk i (b + i) = bt hd i ∧ hp_g H b hd mk (i + 1) (b + i) = (bt hd i || bt mk i) := by
  unfold hp_g
  have z : b ≤ b + i ∧ b + i < b + 12 := ⟨by omega, by omega⟩
  have e : b + i - b = i := by omega
  constructor
  · rw [if_pos z, e, if_neg (Nat.lt_irrefl i)]
  · rw [if_pos z, e, if_pos (Nat.lt_succ_self i)]
theorem hp_l_i {H : Nat → Bool} {b : Nat} {hd mk : Int32} {i : Nat} (h : i < 12) : hp_l H b hd mk i (b + i) = (bt hd i || bt mk i) ∧ hp_l H b hd mk (i + 1) (b + i) = bt mk i := by
  unfold hp_l
  have z : b ≤ b + i ∧ b + i < b + 12 := ⟨by omega, by omega⟩
  have e : b + i - b = i := by omega
  constructor
  · rw [if_pos z, e, if_neg (Nat.lt_irrefl i)]
  · rw [if_pos z, e, if_pos (Nat.lt_succ_self i)]
theorem hp_gl {H : Nat → Bool} {b : Nat} {hd mk : Int32} {x : Nat} : hp_l H b hd mk 0 x = hp_g H b hd mk 12 x := by
  unfold hp_g hp_l
  by_cases z : b ≤ x ∧ x < b + 12
  · rw [if_pos z, if_pos z, if_neg (by omega), if_pos (by omega)]
  · rw [if_neg z, if_neg z]
theorem hp_lh {H : Nat → Bool} {b : Nat} {hd mk : Int32} {x : Nat} : hp_h H b mk x = hp_l H b hd mk 12 x := by
  unfold hp_h hp_l
  by_cases z : b ≤ x ∧ x < b + 12
  · rw [if_pos z, if_pos z, if_pos (by omega)]
  · rw [if_neg z, if_neg z]
theorem hp_g0 {H : Nat → Bool} {b : Nat} {hd mk : Int32} (h : ∀ i, i < 12 → H (b + i) = bt hd i) {x : Nat} : hp_g H b hd mk 0 x = H x := by
  unfold hp_g
  by_cases z : b ≤ x ∧ x < b + 12
  · rw [if_pos z, if_neg (by omega), ← h (x - b) (by omega)]
    exact congrArg H (by omega)
  · rw [if_neg z]
theorem hp_DH {H' : Nat → Bool} {fx sy vs : Nat → Int64} (h : ∀ x, x < 240 → H' x = H x) (D : hp_D L fx sy vs H E cnt pl lv wk top) : hp_D L fx sy vs H' E cnt pl lv wk top :=
  hp_vs h (fun _ _ _ => rfl) D
theorem xw_h78 {post : SX → Prop} {b : Nat} {hd mk x4 : Int32} (hb : b + 12 ≤ 240) (hk : f_keeping = 0) (hE : ∀ c, c < 160 → E c ≤ 20) (h4 : ∀ j, j < 12 → bt x4 j = (bt hd j && !bt mk j)) :
    ∀ (k n i : Nat) (L : Nat → Bool) (cnt pl wk : Nat → Int32) (lv : Nat), i + k = 12 → k < n →
    hp_D L a_firsts a_seconds a_variables (hp_l H b hd mk i) E cnt pl lv wk 0 →
    (∀ L' cnt' pl' lv' wk', (∀ c, L' c = true → L c = true) → hp_D L' a_firsts a_seconds a_variables (hp_h H b mk) E cnt' pl' lv' wk' 0 → post (f_codeNum, f_codeOp, f_codeCon, f_codeCall, f_codeMatch, f_codeIfZero, f_codeRet, f_cellBase, f_unseen, f_capacity, f_depth, f_complete, f_open, f_stored, f_scope, f_borrowedNow, f_pending, nI lv', f_frames, f_spareTotal, f_state, f_borrowing, f_reusing, f_keeping, f_result, f_steps, f_fresh, f_reused, f_peak, a_arities, a_masks, a_starts, a_codes, a_extras, a_lefts, a_rights, a_scopes, a_uses, a_borrowed, a_lends, a_others, a_frees, a_afters, a_builds, a_pendingAt, a_tags, a_firsts, a_seconds, a_digests, cnt', pl', wk', a_marks, a_variables, a_currents, a_held, a_spareCounts)) →
    wX_hold_78 post x4 (nI b) n (nI i) f_codeNum f_codeOp f_codeCon f_codeCall f_codeMatch f_codeIfZero f_codeRet f_cellBase f_unseen f_capacity f_depth f_complete f_open f_stored f_scope f_borrowedNow f_pending (nI lv) f_frames f_spareTotal f_state f_borrowing f_reusing f_keeping f_result f_steps f_fresh f_reused f_peak a_arities a_masks a_starts a_codes a_extras a_lefts a_rights a_scopes a_uses a_borrowed a_lends a_others a_frees a_afters a_builds a_pendingAt a_tags a_firsts a_seconds a_digests cnt pl wk a_marks a_variables a_currents a_held a_spareCounts := by
  intro k
  induction k with
  | zero =>
    intro n i L cnt pl wk lv hi hn D hp
    obtain ⟨n, rfl⟩ : ∃ m, n = m + 1 := ⟨n - 1, by omega⟩
    have : i = 12 := by omega
    subst this
    exact br_t (nI_le (a := 12) (by omega) (by omega)) (hp L cnt pl lv wk (fun _ h => h) (hp_DH (fun _ _ => hp_lh) D))
  | succ k ih =>
    intro n i L cnt pl wk lv hi hn D hp
    obtain ⟨n, rfl⟩ : ∃ m, n = m + 1 := ⟨n - 1, by omega⟩
    have e4 := h4 i (by omega)
    obtain ⟨l0, l1⟩ := hp_l_i (H := H) (b := b) (hd := hd) (mk := mk) (i := i) (by omega)
    refine br_f (nI_ge (b := 12) (by omega) (by omega)) ?_
    by_cases hbit : bt x4 i = true
    · rw [hbit] at e4
      have e5 : bt hd i = true ∧ bt mk i = false := by
        cases h1 : bt hd i <;> cases h2 : bt mk i <;> rw [h1, h2] at e4 <;> first | exact absurd e4 (by decide) | exact ⟨rfl, rfl⟩
      rw [e5.1, e5.2] at l0
      rw [e5.2] at l1
      refine br_f (fun z => by rw [rc_bit x4 (by omega), hbit] at z; exact absurd z (by decide)) ?_
      rw [nI_add, nI_clamp (show b + i < 2 ^ 31 by omega)]
      refine ⟨vp_in_nI (by omega) (by omega), ?_⟩
      have hg := D.2.2.2.2.2.2.2.2 (b + i) (by omega) (by rw [l0]; rfl)
      refine xw_release hk hE hg (hp_give (x := b + i) (H' := hp_l H b hd mk (i + 1)) (by omega) (by rw [l0]; rfl) l1 (fun y hy => hp_l_o hy) D) (fun L1 cnt1 pl1 lv1 wk1 hs1 D1 => nm_r (nI_1 i) ?_)
      exact ih n (i + 1) L1 cnt1 pl1 wk1 lv1 (by omega) (by omega) D1 (fun L' cnt' pl' lv' wk' hs D' => hp L' cnt' pl' lv' wk' (fun c hc => hs1 c (hs c hc)) D')
    · have hbit' : bt x4 i = false := by cases h : bt x4 i; rfl; exact absurd h hbit
      rw [hbit'] at e4
      refine br_t ((rc_bit x4 (by omega)).mpr hbit') (nm_r (nI_1 i) ?_)
      refine ih n (i + 1) L cnt pl wk lv (by omega) (by omega) (hp_DH (fun x _ => ?_) D) hp
      by_cases z : x = b + i
      · rw [z, l0, l1]
        cases h1 : bt hd i <;> cases h2 : bt mk i <;> rw [h1, h2] at e4 <;> first | rfl | exact absurd e4 (by decide)
      · exact hp_l_o z
theorem xw_h39 {post : SX → Prop} {b : Nat} {hd mk x3 x4 : Int32} (hb : b + 12 ≤ 240) (hk : f_keeping = 0) (hE : ∀ c, c < 160 → E c ≤ 20) (h3 : ∀ j, j < 12 → bt x3 j = (bt mk j && !bt hd j)) (h4 : ∀ j, j < 12 → bt x4 j = (bt hd j && !bt mk j))
    (hg : ∀ i, i < 12 → bt mk i = true → bt hd i = false → rc_gv (a_variables (b + i)) ∧ ∀ c, c < 160 → a_variables (b + i) = rc_cv c → L c = true)
    (hp : ∀ L' cnt' pl' lv' wk', (∀ c, L' c = true → L c = true) → hp_D L' a_firsts a_seconds a_variables (hp_h H b mk) E cnt' pl' lv' wk' 0 → post (f_codeNum, f_codeOp, f_codeCon, f_codeCall, f_codeMatch, f_codeIfZero, f_codeRet, f_cellBase, f_unseen, f_capacity, f_depth, f_complete, f_open, f_stored, f_scope, f_borrowedNow, f_pending, nI lv', f_frames, f_spareTotal, f_state, f_borrowing, f_reusing, f_keeping, f_result, f_steps, f_fresh, f_reused, f_peak, a_arities, a_masks, a_starts, a_codes, a_extras, a_lefts, a_rights, a_scopes, a_uses, a_borrowed, a_lends, a_others, a_frees, a_afters, a_builds, a_pendingAt, a_tags, a_firsts, a_seconds, a_digests, cnt', pl', wk', a_marks, a_variables, a_currents, a_held, a_spareCounts)) :
    ∀ (k n i : Nat) (cnt : Nat → Int32), i + k = 12 → k < n →
    hp_D L a_firsts a_seconds a_variables (hp_g H b hd mk i) E cnt pl lv wk 0 →
    wX_hold_39 post x3 x4 (nI b) n (nI i) f_codeNum f_codeOp f_codeCon f_codeCall f_codeMatch f_codeIfZero f_codeRet f_cellBase f_unseen f_capacity f_depth f_complete f_open f_stored f_scope f_borrowedNow f_pending (nI lv) f_frames f_spareTotal f_state f_borrowing f_reusing f_keeping f_result f_steps f_fresh f_reused f_peak a_arities a_masks a_starts a_codes a_extras a_lefts a_rights a_scopes a_uses a_borrowed a_lends a_others a_frees a_afters a_builds a_pendingAt a_tags a_firsts a_seconds a_digests cnt pl wk a_marks a_variables a_currents a_held a_spareCounts := by
  intro k
  induction k with
  | zero =>
    intro n i cnt hi hn D
    obtain ⟨n, rfl⟩ : ∃ m, n = m + 1 := ⟨n - 1, by omega⟩
    have : i = 12 := by omega
    subst this
    exact br_t (nI_le (a := 12) (by omega) (by omega)) ⟨13, xw_h78 hb hk hE h4 12 13 0 L cnt pl wk lv (by omega) (by omega) (hp_DH (fun _ _ => hp_gl) D) hp⟩
  | succ k ih =>
    intro n i cnt hi hn D
    obtain ⟨n, rfl⟩ : ∃ m, n = m + 1 := ⟨n - 1, by omega⟩
    have e4 := h3 i (by omega)
    obtain ⟨l0, l1⟩ := hp_g_i (H := H) (b := b) (hd := hd) (mk := mk) (i := i) (by omega)
    refine br_f (nI_ge (b := 12) (by omega) (by omega)) ?_
    by_cases hbit : bt x3 i = true
    · rw [hbit] at e4
      have e5 : bt hd i = false ∧ bt mk i = true := by
        cases h1 : bt hd i <;> cases h2 : bt mk i <;> rw [h1, h2] at e4 <;> first | exact absurd e4 (by decide) | exact ⟨rfl, rfl⟩
      rw [e5.1] at l0
      rw [e5.1, e5.2] at l1
      refine br_f (fun z => by rw [rc_bit x3 (by omega), hbit] at z; exact absurd z (by decide)) ?_
      rw [nI_add, nI_clamp (show b + i < 2 ^ 31 by omega)]
      refine ⟨vp_in_nI (by omega) (by omega), ?_⟩
      obtain ⟨hg1, hg2⟩ := hg i (by omega) e5.2 e5.1
      refine xw_ret hk hg1 hg2 D (fun cnt1 D1 => nm_r (nI_1 i) ?_)
      exact ih n (i + 1) cnt1 (by omega) (by omega) (hp_take (x := b + i) (by omega) l0 (by rw [l1]; rfl) (fun y hy => hp_g_o hy) hg1 D1)
    · have hbit' : bt x3 i = false := by cases h : bt x3 i; rfl; exact absurd h hbit
      rw [hbit'] at e4
      refine br_t ((rc_bit x3 (by omega)).mpr hbit') (nm_r (nI_1 i) ?_)
      refine ih n (i + 1) cnt (by omega) (by omega) (hp_DH (fun x _ => ?_) D)
      by_cases z : x = b + i
      · rw [z, l0, l1]
        cases h1 : bt hd i <;> cases h2 : bt mk i <;> rw [h1, h2] at e4 <;> first | rfl | exact absurd e4 (by decide)
      · exact hp_g_o z
/-- hold: row f of the roots becomes mk -/
theorem xw_hold {post : SX → Prop} {f : Nat} {mk : Int32} (hf : f < 20) (hk : f_keeping = 0) (hE : ∀ c, c < 160 → E c ≤ 20)
    (hH : ∀ i, i < 12 → H (f * 12 + i) = bt (a_held f) i)
    (hg : ∀ i, i < 12 → bt mk i = true → bt (a_held f) i = false → rc_gv (a_variables (f * 12 + i)) ∧ ∀ c, c < 160 → a_variables (f * 12 + i) = rc_cv c → L c = true)
    (D : hp_D L a_firsts a_seconds a_variables H E cnt pl lv wk 0)
    (hp : ∀ L' cnt' pl' lv' wk', (∀ c, L' c = true → L c = true) → hp_D L' a_firsts a_seconds a_variables (hp_h H (f * 12) mk) E cnt' pl' lv' wk' 0 → post (f_codeNum, f_codeOp, f_codeCon, f_codeCall, f_codeMatch, f_codeIfZero, f_codeRet, f_cellBase, f_unseen, f_capacity, f_depth, f_complete, f_open, f_stored, f_scope, f_borrowedNow, f_pending, nI lv', f_frames, f_spareTotal, f_state, f_borrowing, f_reusing, f_keeping, f_result, f_steps, f_fresh, f_reused, f_peak, a_arities, a_masks, a_starts, a_codes, a_extras, a_lefts, a_rights, a_scopes, a_uses, a_borrowed, a_lends, a_others, a_frees, a_afters, a_builds, a_pendingAt, a_tags, a_firsts, a_seconds, a_digests, cnt', pl', wk', a_marks, a_variables, a_currents, upd a_held f mk, a_spareCounts)) :
    wpX_hold post (f_codeNum, f_codeOp, f_codeCon, f_codeCall, f_codeMatch, f_codeIfZero, f_codeRet, f_cellBase, f_unseen, f_capacity, f_depth, f_complete, f_open, f_stored, f_scope, f_borrowedNow, f_pending, nI lv, f_frames, f_spareTotal, f_state, f_borrowing, f_reusing, f_keeping, f_result, f_steps, f_fresh, f_reused, f_peak, a_arities, a_masks, a_starts, a_codes, a_extras, a_lefts, a_rights, a_scopes, a_uses, a_borrowed, a_lends, a_others, a_frees, a_afters, a_builds, a_pendingAt, a_tags, a_firsts, a_seconds, a_digests, cnt, pl, wk, a_marks, a_variables, a_currents, a_held, a_spareCounts) (nI f) mk := by
  unfold wpX_hold
  (try dsimp only)
  rw [nI_clamp (show f < 2 ^ 31 by omega)]
  refine ⟨vp_in_nI hf (by omega), nm_e ⟨vp_in_nI hf (by omega), nm_e (nm_r (e' := nI (f * 12)) (pk_mul f 12) ⟨vp_in_nI hf (by omega), nm_e ⟨13, ?_⟩⟩)⟩⟩
  exact xw_h39 (hd := a_held f) (mk := mk) (by omega) hk hE (fun j hj => by rw [b_and, rc_not _ (by omega)]) (fun j hj => by rw [b_and, rc_not _ (by omega)]) hg hp 12 13 0 cnt (by omega) (by omega) (hp_DH (fun x _ => hp_g0 hH) D)
/-! keeping: holds are of no account -/
theorem xw_kret {post : SX → Prop} {v : Int64} (hk : ¬ f_keeping = 0) (h : post (f_codeNum, f_codeOp, f_codeCon, f_codeCall, f_codeMatch, f_codeIfZero, f_codeRet, f_cellBase, f_unseen, f_capacity, f_depth, f_complete, f_open, f_stored, f_scope, f_borrowedNow, f_pending, f_liveCells, f_frames, f_spareTotal, f_state, f_borrowing, f_reusing, f_keeping, f_result, f_steps, f_fresh, f_reused, f_peak, a_arities, a_masks, a_starts, a_codes, a_extras, a_lefts, a_rights, a_scopes, a_uses, a_borrowed, a_lends, a_others, a_frees, a_afters, a_builds, a_pendingAt, a_tags, a_firsts, a_seconds, a_digests, a_counts, a_places, a_work, a_marks, a_variables, a_currents, a_held, a_spareCounts)) : wpX_retain post (f_codeNum, f_codeOp, f_codeCon, f_codeCall, f_codeMatch, f_codeIfZero, f_codeRet, f_cellBase, f_unseen, f_capacity, f_depth, f_complete, f_open, f_stored, f_scope, f_borrowedNow, f_pending, f_liveCells, f_frames, f_spareTotal, f_state, f_borrowing, f_reusing, f_keeping, f_result, f_steps, f_fresh, f_reused, f_peak, a_arities, a_masks, a_starts, a_codes, a_extras, a_lefts, a_rights, a_scopes, a_uses, a_borrowed, a_lends, a_others, a_frees, a_afters, a_builds, a_pendingAt, a_tags, a_firsts, a_seconds, a_digests, a_counts, a_places, a_work, a_marks, a_variables, a_currents, a_held, a_spareCounts) v := br_f hk h
theorem xw_krel {post : SX → Prop} {v : Int64} (hk : ¬ f_keeping = 0) (h : post (f_codeNum, f_codeOp, f_codeCon, f_codeCall, f_codeMatch, f_codeIfZero, f_codeRet, f_cellBase, f_unseen, f_capacity, f_depth, f_complete, f_open, f_stored, f_scope, f_borrowedNow, f_pending, f_liveCells, f_frames, f_spareTotal, f_state, f_borrowing, f_reusing, f_keeping, f_result, f_steps, f_fresh, f_reused, f_peak, a_arities, a_masks, a_starts, a_codes, a_extras, a_lefts, a_rights, a_scopes, a_uses, a_borrowed, a_lends, a_others, a_frees, a_afters, a_builds, a_pendingAt, a_tags, a_firsts, a_seconds, a_digests, a_counts, a_places, a_work, a_marks, a_variables, a_currents, a_held, a_spareCounts)) : wpX_release post (f_codeNum, f_codeOp, f_codeCon, f_codeCall, f_codeMatch, f_codeIfZero, f_codeRet, f_cellBase, f_unseen, f_capacity, f_depth, f_complete, f_open, f_stored, f_scope, f_borrowedNow, f_pending, f_liveCells, f_frames, f_spareTotal, f_state, f_borrowing, f_reusing, f_keeping, f_result, f_steps, f_fresh, f_reused, f_peak, a_arities, a_masks, a_starts, a_codes, a_extras, a_lefts, a_rights, a_scopes, a_uses, a_borrowed, a_lends, a_others, a_frees, a_afters, a_builds, a_pendingAt, a_tags, a_firsts, a_seconds, a_digests, a_counts, a_places, a_work, a_marks, a_variables, a_currents, a_held, a_spareCounts) v := br_f hk h
theorem xw_k78 {post : SX → Prop} {b : Nat} {x4 : Int32} (hb : b + 12 ≤ 240) (hk : ¬ f_keeping = 0) (hp : post (f_codeNum, f_codeOp, f_codeCon, f_codeCall, f_codeMatch, f_codeIfZero, f_codeRet, f_cellBase, f_unseen, f_capacity, f_depth, f_complete, f_open, f_stored, f_scope, f_borrowedNow, f_pending, f_liveCells, f_frames, f_spareTotal, f_state, f_borrowing, f_reusing, f_keeping, f_result, f_steps, f_fresh, f_reused, f_peak, a_arities, a_masks, a_starts, a_codes, a_extras, a_lefts, a_rights, a_scopes, a_uses, a_borrowed, a_lends, a_others, a_frees, a_afters, a_builds, a_pendingAt, a_tags, a_firsts, a_seconds, a_digests, a_counts, a_places, a_work, a_marks, a_variables, a_currents, a_held, a_spareCounts)) :
    ∀ (k n i : Nat), i + k = 12 → k < n → wX_hold_78 post x4 (nI b) n (nI i) f_codeNum f_codeOp f_codeCon f_codeCall f_codeMatch f_codeIfZero f_codeRet f_cellBase f_unseen f_capacity f_depth f_complete f_open f_stored f_scope f_borrowedNow f_pending f_liveCells f_frames f_spareTotal f_state f_borrowing f_reusing f_keeping f_result f_steps f_fresh f_reused f_peak a_arities a_masks a_starts a_codes a_extras a_lefts a_rights a_scopes a_uses a_borrowed a_lends a_others a_frees a_afters a_builds a_pendingAt a_tags a_firsts a_seconds a_digests a_counts a_places a_work a_marks a_variables a_currents a_held a_spareCounts := by
  intro k
  induction k with
  | zero =>
    intro n i hi hn
    obtain ⟨n, rfl⟩ : ∃ m, n = m + 1 := ⟨n - 1, by omega⟩
    exact br_t (nI_le (a := 12) (by omega) (by omega)) hp
  | succ k ih =>
    intro n i hi hn
    obtain ⟨n, rfl⟩ : ∃ m, n = m + 1 := ⟨n - 1, by omega⟩
    refine br_f (nI_ge (b := 12) (by omega) (by omega)) (br_c (fun _ => nm_r (nI_1 i) (ih n (i + 1) (by omega) (by omega))) (fun _ => ?_))
    rw [nI_add, nI_clamp (show b + i < 2 ^ 31 by omega)]
    exact ⟨vp_in_nI (by omega) (by omega), xw_krel hk (nm_r (nI_1 i) (ih n (i + 1) (by omega) (by omega)))⟩
theorem xw_k39 {post : SX → Prop} {b : Nat} {x3 x4 : Int32} (hb : b + 12 ≤ 240) (hk : ¬ f_keeping = 0) (hp : post (f_codeNum, f_codeOp, f_codeCon, f_codeCall, f_codeMatch, f_codeIfZero, f_codeRet, f_cellBase, f_unseen, f_capacity, f_depth, f_complete, f_open, f_stored, f_scope, f_borrowedNow, f_pending, f_liveCells, f_frames, f_spareTotal, f_state, f_borrowing, f_reusing, f_keeping, f_result, f_steps, f_fresh, f_reused, f_peak, a_arities, a_masks, a_starts, a_codes, a_extras, a_lefts, a_rights, a_scopes, a_uses, a_borrowed, a_lends, a_others, a_frees, a_afters, a_builds, a_pendingAt, a_tags, a_firsts, a_seconds, a_digests, a_counts, a_places, a_work, a_marks, a_variables, a_currents, a_held, a_spareCounts)) :
    ∀ (k n i : Nat), i + k = 12 → k < n → wX_hold_39 post x3 x4 (nI b) n (nI i) f_codeNum f_codeOp f_codeCon f_codeCall f_codeMatch f_codeIfZero f_codeRet f_cellBase f_unseen f_capacity f_depth f_complete f_open f_stored f_scope f_borrowedNow f_pending f_liveCells f_frames f_spareTotal f_state f_borrowing f_reusing f_keeping f_result f_steps f_fresh f_reused f_peak a_arities a_masks a_starts a_codes a_extras a_lefts a_rights a_scopes a_uses a_borrowed a_lends a_others a_frees a_afters a_builds a_pendingAt a_tags a_firsts a_seconds a_digests a_counts a_places a_work a_marks a_variables a_currents a_held a_spareCounts := by
  intro k
  induction k with
  | zero =>
    intro n i hi hn
    obtain ⟨n, rfl⟩ : ∃ m, n = m + 1 := ⟨n - 1, by omega⟩
    exact br_t (nI_le (a := 12) (by omega) (by omega)) ⟨13, xw_k78 hb hk hp 12 13 0 (by omega) (by omega)⟩
  | succ k ih =>
    intro n i hi hn
    obtain ⟨n, rfl⟩ : ∃ m, n = m + 1 := ⟨n - 1, by omega⟩
    refine br_f (nI_ge (b := 12) (by omega) (by omega)) (br_c (fun _ => nm_r (nI_1 i) (ih n (i + 1) (by omega) (by omega))) (fun _ => ?_))
    rw [nI_add, nI_clamp (show b + i < 2 ^ 31 by omega)]
    exact ⟨vp_in_nI (by omega) (by omega), xw_kret hk (nm_r (nI_1 i) (ih n (i + 1) (by omega) (by omega)))⟩
theorem xw_khold {post : SX → Prop} {f : Nat} {mk : Int32} (hf : f < 20) (hk : ¬ f_keeping = 0) (hp : post (f_codeNum, f_codeOp, f_codeCon, f_codeCall, f_codeMatch, f_codeIfZero, f_codeRet, f_cellBase, f_unseen, f_capacity, f_depth, f_complete, f_open, f_stored, f_scope, f_borrowedNow, f_pending, f_liveCells, f_frames, f_spareTotal, f_state, f_borrowing, f_reusing, f_keeping, f_result, f_steps, f_fresh, f_reused, f_peak, a_arities, a_masks, a_starts, a_codes, a_extras, a_lefts, a_rights, a_scopes, a_uses, a_borrowed, a_lends, a_others, a_frees, a_afters, a_builds, a_pendingAt, a_tags, a_firsts, a_seconds, a_digests, a_counts, a_places, a_work, a_marks, a_variables, a_currents, upd a_held f mk, a_spareCounts)) : wpX_hold post (f_codeNum, f_codeOp, f_codeCon, f_codeCall, f_codeMatch, f_codeIfZero, f_codeRet, f_cellBase, f_unseen, f_capacity, f_depth, f_complete, f_open, f_stored, f_scope, f_borrowedNow, f_pending, f_liveCells, f_frames, f_spareTotal, f_state, f_borrowing, f_reusing, f_keeping, f_result, f_steps, f_fresh, f_reused, f_peak, a_arities, a_masks, a_starts, a_codes, a_extras, a_lefts, a_rights, a_scopes, a_uses, a_borrowed, a_lends, a_others, a_frees, a_afters, a_builds, a_pendingAt, a_tags, a_firsts, a_seconds, a_digests, a_counts, a_places, a_work, a_marks, a_variables, a_currents, a_held, a_spareCounts) (nI f) mk := by
  unfold wpX_hold
  (try dsimp only)
  rw [nI_clamp (show f < 2 ^ 31 by omega)]
  refine ⟨vp_in_nI hf (by omega), nm_e ⟨vp_in_nI hf (by omega), nm_e (nm_r (e' := nI (f * 12)) (pk_mul f 12) ⟨vp_in_nI hf (by omega), nm_e ⟨13, ?_⟩⟩)⟩⟩
  exact xw_k39 (by omega) hk hp 12 13 0 (by omega) (by omega)
end
end
section
/-! ===== both modes at once: counting or keeping ===== -/
def hx_S (kp : Int32) (L : Nat → Bool) (fx sy vs : Nat → Int64) (H : Nat → Bool) (E : Nat → Nat) (cnt pl : Nat → Int32) (lv : Nat) (wk : Nat → Int32) : Prop :=
  (kp = 0 → hp_D L fx sy vs H E cnt pl lv wk 0) ∧
  (¬ kp = 0 → lv ≤ 160 ∧ (∀ c, c < 160 → (L c = true ↔ c < lv)) ∧ (∀ i, lv ≤ i → i < 160 → pl i = nI i) ∧
    ∀ d, d < 160 → L d = true → rc_gv (fx d) ∧ rc_gv (sy d) ∧ ∀ c, c < 160 → (fx d = rc_cv c ∨ sy d = rc_cv c) → L c = true)
section
variable {kp : Int32} {L : Nat → Bool} {fx sy vs : Nat → Int64} {H : Nat → Bool} {E : Nat → Nat} {cnt pl wk : Nat → Int32} {lv : Nat}
theorem hp_Kch {c d : Nat} (hd : d < 160) (hL : L d = true) (h : fx d = rc_cv c ∨ sy d = rc_cv c) : 0 < hp_K L fx sy vs H E c := by
  unfold hp_K
  have := rc_sm_ge (f := fun d => if L d = true then rc_d (fx d) c + rc_d (sy d) c else 0) (x := d) 160 hd
  (try dsimp only at this)
  rw [if_pos hL] at this
  rcases h with h | h
  · rw [h, rc_d_s] at this; omega
  · rw [h, rc_d_s] at this; omega
theorem hp_Krt {c x : Nat} (hx : x < 240) (hH : H x = true) (h : vs x = rc_cv c) : 0 < hp_K L fx sy vs H E c := by
  unfold hp_K
  have := rc_sm_ge (f := fun x => if H x = true then rc_d (vs x) c else 0) (x := x) 240 hx
  (try dsimp only at this)
  rw [if_pos hH, h, rc_d_s] at this
  omega
theorem hp_KEx {c : Nat} (h : 0 < E c) : 0 < hp_K L fx sy vs H E c := by
  unfold hp_K; omega
/-- a holder: a held variable, an extra hold, or a field of a live cell -/
theorem hp_Kx {c : Nat} (h : 0 < hp_K L fx sy vs H E c) : (∃ x, x < 240 ∧ H x = true ∧ vs x = rc_cv c) ∨ 0 < E c ∨ ∃ d, d < 160 ∧ L d = true ∧ (fx d = rc_cv c ∨ sy d = rc_cv c) := by
  unfold hp_K at h
  by_cases h1 : 0 < rc_sm (fun x => if H x = true then rc_d (vs x) c else 0) 240
  · obtain ⟨x, hx, h2⟩ := rc_sm_pos 240 h1
    left
    refine ⟨x, hx, ?_⟩
    by_cases hH : H x = true
    · rw [if_pos hH] at h2
      unfold rc_d at h2
      split at h2
      · exact ⟨hH, by assumption⟩
      · omega
    · rw [if_neg hH] at h2; omega
  · by_cases h3 : 0 < E c
    · exact Or.inr (Or.inl h3)
    · right; right
      obtain ⟨d, hd, h2⟩ := rc_sm_pos (f := fun d => if L d = true then rc_d (fx d) c + rc_d (sy d) c else 0) 160 (by omega)
      refine ⟨d, hd, ?_⟩
      (try dsimp only at h2)
      by_cases hL : L d = true
      · rw [if_pos hL] at h2
        refine ⟨hL, ?_⟩
        by_cases e1 : fx d = rc_cv c
        · exact Or.inl e1
        · by_cases e2 : sy d = rc_cv c
          · exact Or.inr e2
          · rw [show rc_d (fx d) c = 0 from if_neg e1, show rc_d (sy d) c = 0 from if_neg e2] at h2; omega
      · rw [if_neg hL] at h2; omega
theorem hx_gv (S : hx_S kp L fx sy vs H E cnt pl lv wk) {d : Nat} (hd : d < 160) (hL : L d = true) : rc_gv (fx d) ∧ rc_gv (sy d) := by
  by_cases hk : kp = 0
  · exact (S.1 hk).2.2.2.2.2.2.2.1 d hd hL
  · have := (S.2 hk).2.2.2 d hd hL
    exact ⟨this.1, this.2.1⟩
theorem hx_ch (S : hx_S kp L fx sy vs H E cnt pl lv wk) {c d : Nat} (hd : d < 160) (hc : c < 160) (hL : L d = true) (h : fx d = rc_cv c ∨ sy d = rc_cv c) : L c = true := by
  by_cases hk : kp = 0
  · exact (hp_dead (S.1 hk) hc).2.mpr (hp_Kch hd hL h)
  · exact ((S.2 hk).2.2.2 d hd hL).2.2 c hc h
theorem hx_cnt {lv : Nat} : ∀ n, lv ≤ n → rc_sm (fun c => if c < lv then 1 else 0) n = lv := by
  intro n
  induction n with
  | zero => intro h; show 0 = lv; omega
  | succ n ih =>
    intro h
    show rc_sm (fun c => if c < lv then 1 else 0) n + (if n < lv then 1 else 0) = lv
    by_cases e : n < lv
    · rw [if_pos e]
      have : rc_sm (fun c => if c < lv then 1 else 0) n = rc_sm (fun c => if c < n then 1 else 0) n := rc_sm_eq n (fun j hj => by rw [if_pos hj, if_pos (by omega)])
      rw [this]
      have e2 : lv = n + 1 := by omega
      rw [e2]
      clear ih this h e e2
      have key : ∀ m k, k ≤ m → rc_sm (fun c => if c < m then 1 else 0) k = k := by
        intro m k
        induction k with
        | zero => intro _; rfl
        | succ k ih =>
          intro hk
          show rc_sm (fun c => if c < m then 1 else 0) k + (if k < m then 1 else 0) = k + 1
          rw [ih (by omega), if_pos (by omega)]
      rw [key n n (Nat.le_refl n)]
    · rw [if_neg e, ih (by omega)]; rfl
theorem hx_lv (S : hx_S kp L fx sy vs H E cnt pl lv wk) : lv = rc_sm (fun c => if L c = true then 1 else 0) 160 ∧ lv ≤ 160 := by
  by_cases hk : kp = 0
  · exact ⟨(S.1 hk).2.2.2.2.1, hp_lv (S.1 hk)⟩
  · obtain ⟨h1, h2, -, -⟩ := S.2 hk
    refine ⟨?_, h1⟩
    rw [← hx_cnt (lv := lv) 160 h1]
    rw [hx_cnt 160 h1]
    have : rc_sm (fun c => if L c = true then 1 else 0) 160 = rc_sm (fun c => if c < lv then 1 else 0) 160 := rc_sm_eq 160 (fun c hc => by
      by_cases e : c < lv
      · rw [if_pos e, if_pos ((h2 c hc).mpr e)]
      · rw [if_neg e, if_neg (fun z => e ((h2 c hc).mp z))])
    rw [this, hx_cnt 160 h1]
theorem hx_vs {vs' : Nat → Int64} {H' : Nat → Bool} (hh : ∀ x, x < 240 → H' x = H x) (h : ∀ x, x < 240 → H x = true → vs' x = vs x) (S : hx_S kp L fx sy vs H E cnt pl lv wk) : hx_S kp L fx sy vs' H' E cnt pl lv wk :=
  ⟨fun hk => hp_vs hh h (S.1 hk), fun hk => S.2 hk⟩
theorem hx_E {E' : Nat → Nat} (h : ∀ c, c < 160 → E' c = E c) (S : hx_S kp L fx sy vs H E cnt pl lv wk) : hx_S kp L fx sy vs H E' cnt pl lv wk :=
  ⟨fun hk => hp_DE h (S.1 hk), fun hk => S.2 hk⟩
theorem hx_w {wk' : Nat → Int32} (S : hx_S kp L fx sy vs H E cnt pl lv wk) : hx_S kp L fx sy vs H E cnt pl lv wk' :=
  ⟨fun hk => hp_Dw (S.1 hk), fun hk => S.2 hk⟩
end
def xg_m (bor fr bo : Int32) : Int32 := if bor = 0 then fr else fr &&& (bo ^^^ (-1))
/-- the digest of a value -/
def xg_d (dg : Nat → Int32) (v : Int64) : Int32 := if v < 4294967296 then 5 * v.toInt32 + 1 else dg ((v - 4294967296).toInt32.toNatClampNeg)
section
variable {f_codeNum f_codeOp f_codeCon f_codeCall f_codeMatch f_codeIfZero f_codeRet : Int32} {f_cellBase f_unseen : Int64} {f_capacity f_depth f_complete f_open f_stored f_scope f_borrowedNow f_pending f_liveCells f_frames f_spareTotal f_state f_borrowing f_reusing f_keeping : Int32} {f_result : Int64} {f_steps f_fresh f_reused f_peak : Int32} {a_arities a_masks a_starts a_codes a_extras a_lefts a_rights a_scopes a_uses a_borrowed a_lends a_others a_frees a_afters a_builds a_pendingAt a_tags : Nat → Int32} {a_firsts a_seconds : Nat → Int64} {a_digests a_counts a_places a_work a_marks : Nat → Int32} {a_variables : Nat → Int64} {a_currents a_held a_spareCounts : Nat → Int32}
variable {L : Nat → Bool} {H : Nat → Bool} {E : Nat → Nat} {cnt pl wk : Nat → Int32} {lv : Nat}
theorem xx_ret {post : SX → Prop} {v : Int64} (hv : rc_gv v) (hL : ∀ c, c < 160 → v = rc_cv c → L c = true)
    (S : hx_S f_keeping L a_firsts a_seconds a_variables H E cnt pl lv wk)
    (hp : ∀ cnt', hx_S f_keeping L a_firsts a_seconds a_variables H (fun q => E q + rc_d v q) cnt' pl lv wk → post (f_codeNum, f_codeOp, f_codeCon, f_codeCall, f_codeMatch, f_codeIfZero, f_codeRet, f_cellBase, f_unseen, f_capacity, f_depth, f_complete, f_open, f_stored, f_scope, f_borrowedNow, f_pending, f_liveCells, f_frames, f_spareTotal, f_state, f_borrowing, f_reusing, f_keeping, f_result, f_steps, f_fresh, f_reused, f_peak, a_arities, a_masks, a_starts, a_codes, a_extras, a_lefts, a_rights, a_scopes, a_uses, a_borrowed, a_lends, a_others, a_frees, a_afters, a_builds, a_pendingAt, a_tags, a_firsts, a_seconds, a_digests, cnt', a_places, a_work, a_marks, a_variables, a_currents, a_held, a_spareCounts)) :
    wpX_retain post (f_codeNum, f_codeOp, f_codeCon, f_codeCall, f_codeMatch, f_codeIfZero, f_codeRet, f_cellBase, f_unseen, f_capacity, f_depth, f_complete, f_open, f_stored, f_scope, f_borrowedNow, f_pending, f_liveCells, f_frames, f_spareTotal, f_state, f_borrowing, f_reusing, f_keeping, f_result, f_steps, f_fresh, f_reused, f_peak, a_arities, a_masks, a_starts, a_codes, a_extras, a_lefts, a_rights, a_scopes, a_uses, a_borrowed, a_lends, a_others, a_frees, a_afters, a_builds, a_pendingAt, a_tags, a_firsts, a_seconds, a_digests, cnt, a_places, a_work, a_marks, a_variables, a_currents, a_held, a_spareCounts) v := by
  by_cases hk : f_keeping = 0
  · exact xw_ret hk hv hL (S.1 hk) (fun cnt' D => hp cnt' ⟨fun _ => D, fun z => absurd hk z⟩)
  · exact xw_kret hk (hp cnt ⟨fun z => absurd z hk, fun _ => S.2 hk⟩)
theorem xx_release {post : SX → Prop} {v : Int64} (hE : ∀ c, c < 160 → E c ≤ 20) (hv : rc_gv v)
    (S : hx_S f_keeping L a_firsts a_seconds a_variables H (fun q => E q + rc_d v q) cnt pl lv wk)
    (hp : ∀ L' cnt' pl' lv' wk', (∀ c, L' c = true → L c = true) → (¬ f_keeping = 0 → L' = L ∧ lv' = lv) → hx_S f_keeping L' a_firsts a_seconds a_variables H E cnt' pl' lv' wk' → post (f_codeNum, f_codeOp, f_codeCon, f_codeCall, f_codeMatch, f_codeIfZero, f_codeRet, f_cellBase, f_unseen, f_capacity, f_depth, f_complete, f_open, f_stored, f_scope, f_borrowedNow, f_pending, nI lv', f_frames, f_spareTotal, f_state, f_borrowing, f_reusing, f_keeping, f_result, f_steps, f_fresh, f_reused, f_peak, a_arities, a_masks, a_starts, a_codes, a_extras, a_lefts, a_rights, a_scopes, a_uses, a_borrowed, a_lends, a_others, a_frees, a_afters, a_builds, a_pendingAt, a_tags, a_firsts, a_seconds, a_digests, cnt', pl', wk', a_marks, a_variables, a_currents, a_held, a_spareCounts)) :
    wpX_release post (f_codeNum, f_codeOp, f_codeCon, f_codeCall, f_codeMatch, f_codeIfZero, f_codeRet, f_cellBase, f_unseen, f_capacity, f_depth, f_complete, f_open, f_stored, f_scope, f_borrowedNow, f_pending, nI lv, f_frames, f_spareTotal, f_state, f_borrowing, f_reusing, f_keeping, f_result, f_steps, f_fresh, f_reused, f_peak, a_arities, a_masks, a_starts, a_codes, a_extras, a_lefts, a_rights, a_scopes, a_uses, a_borrowed, a_lends, a_others, a_frees, a_afters, a_builds, a_pendingAt, a_tags, a_firsts, a_seconds, a_digests, cnt, pl, wk, a_marks, a_variables, a_currents, a_held, a_spareCounts) v := by
  by_cases hk : f_keeping = 0
  · exact xw_release hk hE hv (S.1 hk) (fun L' cnt' pl' lv' wk' hs D => hp L' cnt' pl' lv' wk' hs (fun z => absurd hk z) ⟨fun _ => D, fun z => absurd hk z⟩)
  · exact xw_krel hk (hp L cnt pl lv wk (fun _ h => h) (fun _ => ⟨rfl, rfl⟩) ⟨fun z => absurd z hk, fun _ => S.2 hk⟩)
theorem xx_hold {post : SX → Prop} {f : Nat} {mk : Int32} (hf : f < 20) (hE : ∀ c, c < 160 → E c ≤ 20)
    (hH : ∀ i, i < 12 → H (f * 12 + i) = bt (a_held f) i)
    (hg : ∀ i, i < 12 → bt mk i = true → bt (a_held f) i = false → rc_gv (a_variables (f * 12 + i)) ∧ ∀ c, c < 160 → a_variables (f * 12 + i) = rc_cv c → L c = true)
    (S : hx_S f_keeping L a_firsts a_seconds a_variables H E cnt pl lv wk)
    (hp : ∀ L' cnt' pl' lv' wk', (∀ c, L' c = true → L c = true) → (¬ f_keeping = 0 → L' = L ∧ lv' = lv) → hx_S f_keeping L' a_firsts a_seconds a_variables (hp_h H (f * 12) mk) E cnt' pl' lv' wk' → post (f_codeNum, f_codeOp, f_codeCon, f_codeCall, f_codeMatch, f_codeIfZero, f_codeRet, f_cellBase, f_unseen, f_capacity, f_depth, f_complete, f_open, f_stored, f_scope, f_borrowedNow, f_pending, nI lv', f_frames, f_spareTotal, f_state, f_borrowing, f_reusing, f_keeping, f_result, f_steps, f_fresh, f_reused, f_peak, a_arities, a_masks, a_starts, a_codes, a_extras, a_lefts, a_rights, a_scopes, a_uses, a_borrowed, a_lends, a_others, a_frees, a_afters, a_builds, a_pendingAt, a_tags, a_firsts, a_seconds, a_digests, cnt', pl', wk', a_marks, a_variables, a_currents, upd a_held f mk, a_spareCounts)) :
    wpX_hold post (f_codeNum, f_codeOp, f_codeCon, f_codeCall, f_codeMatch, f_codeIfZero, f_codeRet, f_cellBase, f_unseen, f_capacity, f_depth, f_complete, f_open, f_stored, f_scope, f_borrowedNow, f_pending, nI lv, f_frames, f_spareTotal, f_state, f_borrowing, f_reusing, f_keeping, f_result, f_steps, f_fresh, f_reused, f_peak, a_arities, a_masks, a_starts, a_codes, a_extras, a_lefts, a_rights, a_scopes, a_uses, a_borrowed, a_lends, a_others, a_frees, a_afters, a_builds, a_pendingAt, a_tags, a_firsts, a_seconds, a_digests, cnt, pl, wk, a_marks, a_variables, a_currents, a_held, a_spareCounts) (nI f) mk := by
  by_cases hk : f_keeping = 0
  · exact xw_hold hf hk hE hH hg (S.1 hk) (fun L' cnt' pl' lv' wk' hs D => hp L' cnt' pl' lv' wk' hs (fun z => absurd hk z) ⟨fun _ => D, fun z => absurd hk z⟩)
  · exact xw_khold hf hk (hp L cnt pl lv wk (fun _ h => h) (fun _ => ⟨rfl, rfl⟩) ⟨fun z => absurd z hk, fun _ => S.2 hk⟩)
theorem xx_goOn {post : SX → Prop} {f s : Nat} (hf : f < 20) (hs : s < 96) (hE : ∀ c, c < 160 → E c ≤ 20)
    (hH : ∀ i, i < 12 → H (f * 12 + i) = bt (a_held f) i)
    (hg : ∀ i, i < 12 → bt (xg_m f_borrowing (a_frees s) (a_borrowed s)) i = true → bt (a_held f) i = false → rc_gv (a_variables (f * 12 + i)) ∧ ∀ c, c < 160 → a_variables (f * 12 + i) = rc_cv c → L c = true)
    (S : hx_S f_keeping L a_firsts a_seconds a_variables H E cnt pl lv wk)
    (hp : ∀ L' cnt' pl' lv' wk', (∀ c, L' c = true → L c = true) → (¬ f_keeping = 0 → L' = L ∧ lv' = lv) → hx_S f_keeping L' a_firsts a_seconds a_variables (hp_h H (f * 12) (xg_m f_borrowing (a_frees s) (a_borrowed s))) E cnt' pl' lv' wk' → post (f_codeNum, f_codeOp, f_codeCon, f_codeCall, f_codeMatch, f_codeIfZero, f_codeRet, f_cellBase, f_unseen, f_capacity, f_depth, f_complete, f_open, f_stored, f_scope, f_borrowedNow, f_pending, nI lv', f_frames, f_spareTotal, f_state, f_borrowing, f_reusing, f_keeping, f_result, f_steps, f_fresh, f_reused, f_peak, a_arities, a_masks, a_starts, a_codes, a_extras, a_lefts, a_rights, a_scopes, a_uses, a_borrowed, a_lends, a_others, a_frees, a_afters, a_builds, a_pendingAt, a_tags, a_firsts, a_seconds, a_digests, cnt', pl', wk', a_marks, a_variables, upd a_currents f (nI s), upd a_held f (xg_m f_borrowing (a_frees s) (a_borrowed s)), a_spareCounts)) :
    wpX_goOn post (f_codeNum, f_codeOp, f_codeCon, f_codeCall, f_codeMatch, f_codeIfZero, f_codeRet, f_cellBase, f_unseen, f_capacity, f_depth, f_complete, f_open, f_stored, f_scope, f_borrowedNow, f_pending, nI lv, f_frames, f_spareTotal, f_state, f_borrowing, f_reusing, f_keeping, f_result, f_steps, f_fresh, f_reused, f_peak, a_arities, a_masks, a_starts, a_codes, a_extras, a_lefts, a_rights, a_scopes, a_uses, a_borrowed, a_lends, a_others, a_frees, a_afters, a_builds, a_pendingAt, a_tags, a_firsts, a_seconds, a_digests, cnt, pl, wk, a_marks, a_variables, a_currents, a_held, a_spareCounts) (nI f) (nI s) := by
  unfold wpX_goOn
  (try dsimp only)
  rw [nI_clamp (show f < 2 ^ 31 by omega), nI_clamp (show s < 2 ^ 31 by omega)]
  refine ⟨vp_in_nI hf (by omega), nm_e ⟨vp_in_nI hs (by omega), nm_e ?_⟩⟩
  by_cases hb : f_borrowing = 0
  · have e : xg_m f_borrowing (a_frees s) (a_borrowed s) = a_frees s := if_pos hb
    rw [e] at hg hp
    refine br_t hb ?_
    unfold wX_goOn_32
    exact xx_hold hf hE hH hg S hp
  · have e : xg_m f_borrowing (a_frees s) (a_borrowed s) = a_frees s &&& (a_borrowed s ^^^ (-1)) := if_neg hb
    rw [e] at hg hp
    refine br_f hb ⟨vp_in_nI hs (by omega), nm_e ?_⟩
    unfold wX_goOn_32
    exact xx_hold hf hE hH hg S hp
/-! building -/
theorem xx_dig {post : Int32 → Prop} {v : Int64} (hv : rc_gv v) (h : post (xg_d a_digests v)) : wpX_digestOf post (f_codeNum, f_codeOp, f_codeCon, f_codeCall, f_codeMatch, f_codeIfZero, f_codeRet, f_cellBase, f_unseen, f_capacity, f_depth, f_complete, f_open, f_stored, f_scope, f_borrowedNow, f_pending, f_liveCells, f_frames, f_spareTotal, f_state, f_borrowing, f_reusing, f_keeping, f_result, f_steps, f_fresh, f_reused, f_peak, a_arities, a_masks, a_starts, a_codes, a_extras, a_lefts, a_rights, a_scopes, a_uses, a_borrowed, a_lends, a_others, a_frees, a_afters, a_builds, a_pendingAt, a_tags, a_firsts, a_seconds, a_digests, a_counts, a_places, a_work, a_marks, a_variables, a_currents, a_held, a_spareCounts) v := by
  unfold wpX_digestOf
  (try dsimp only)
  rcases hv with hv | ⟨c, hc, rfl⟩
  · unfold xg_d at h
    rw [if_pos hv] at h
    exact xw_isN hv (br_t rfl h)
  · unfold xg_d at h
    rw [if_neg (rc_cv_ge (by omega)), rc_cv_of (by omega)] at h
    exact xw_isC hc (br_f (by decide) (xw_cellOf hc ⟨vp_in_nI hc (by omega), h⟩))
theorem xx_rraw {post : SX → Prop} {v : Int64} {F : Nat → Nat} (hk : f_keeping = 0) (hv : rc_gv v) (hF : ∀ q, q < 160 → cnt q = nI (F q))
    (hp : ∀ cnt', (∀ q, q < 160 → cnt' q = nI (F q + rc_d v q)) → post (f_codeNum, f_codeOp, f_codeCon, f_codeCall, f_codeMatch, f_codeIfZero, f_codeRet, f_cellBase, f_unseen, f_capacity, f_depth, f_complete, f_open, f_stored, f_scope, f_borrowedNow, f_pending, f_liveCells, f_frames, f_spareTotal, f_state, f_borrowing, f_reusing, f_keeping, f_result, f_steps, f_fresh, f_reused, f_peak, a_arities, a_masks, a_starts, a_codes, a_extras, a_lefts, a_rights, a_scopes, a_uses, a_borrowed, a_lends, a_others, a_frees, a_afters, a_builds, a_pendingAt, a_tags, a_firsts, a_seconds, a_digests, cnt', a_places, a_work, a_marks, a_variables, a_currents, a_held, a_spareCounts)) :
    wpX_retain post (f_codeNum, f_codeOp, f_codeCon, f_codeCall, f_codeMatch, f_codeIfZero, f_codeRet, f_cellBase, f_unseen, f_capacity, f_depth, f_complete, f_open, f_stored, f_scope, f_borrowedNow, f_pending, f_liveCells, f_frames, f_spareTotal, f_state, f_borrowing, f_reusing, f_keeping, f_result, f_steps, f_fresh, f_reused, f_peak, a_arities, a_masks, a_starts, a_codes, a_extras, a_lefts, a_rights, a_scopes, a_uses, a_borrowed, a_lends, a_others, a_frees, a_afters, a_builds, a_pendingAt, a_tags, a_firsts, a_seconds, a_digests, cnt, a_places, a_work, a_marks, a_variables, a_currents, a_held, a_spareCounts) v := by
  rcases hv with hv | ⟨c, hc, rfl⟩
  · exact br_t hk (xw_isN hv (br_t rfl (hp cnt (fun q hq => by rw [rc_d_n hv (by omega)]; exact hF q hq))))
  · refine br_t hk (xw_isC hc (br_f (by decide) (xw_cellOf hc ⟨vp_in_nI hc (by omega), vp_in_nI hc (by omega), nm_r (e' := upd cnt c (cnt c + 1)) ?_ (hp _ (fun q hq => ?_))⟩)))
    · rw [nI_clamp (by omega)]
    · by_cases e : q = c
      · rw [e, pk_us, rc_d_s, hF c hc, nI_1]
      · rw [pk_un e, rc_d_o (by omega) (by omega) e]; exact hF q hq
theorem hx_free {kp : Int32} {fx sy vs : Nat → Int64} (S : hx_S kp L fx sy vs H E cnt pl lv wk) (hl : lv < 160) : ∃ c, c < 160 ∧ pl lv = nI c ∧ L c = false ∧ (¬ kp = 0 → c = lv) := by
  by_cases hk : kp = 0
  · obtain ⟨c, h1, h2, h3⟩ := (S.1 hk).2.2.2.2.2.1 lv (Nat.le_refl _) hl
    exact ⟨c, h1, h2, h3, fun z => absurd hk z⟩
  · obtain ⟨h1, h2, h3, -⟩ := S.2 hk
    refine ⟨lv, hl, h3 lv (Nat.le_refl _) hl, ?_, fun _ => rfl⟩
    cases h : L lv
    · rfl
    · exact absurd ((h2 lv hl).mp h) (Nat.lt_irrefl _)
theorem xx_build {post : Int64 → SX → Prop} {tag : Int32} {x y : Int64} (hl : lv < 160) (hx : rc_gv x) (hy : rc_gv y)
    (hxL : ∀ q, q < 160 → x = rc_cv q → L q = true) (hyL : ∀ q, q < 160 → y = rc_cv q → L q = true)
    (S : hx_S f_keeping L a_firsts a_seconds a_variables H E cnt pl lv wk)
    (hp : ∀ c cnt', c < 160 → L c = false → (¬ f_keeping = 0 → c = lv) → hx_S f_keeping (hp_ad L c) (vp_updL a_firsts c x) (vp_updL a_seconds c y) a_variables H (fun q => E q + rc_d (rc_cv c) q) cnt' pl (lv + 1) wk →
      post (rc_cv c) (f_codeNum, f_codeOp, f_codeCon, f_codeCall, f_codeMatch, f_codeIfZero, f_codeRet, f_cellBase, f_unseen, f_capacity, f_depth, f_complete, f_open, f_stored, f_scope, f_borrowedNow, f_pending, nI (lv + 1), f_frames, f_spareTotal, f_state, f_borrowing, f_reusing, f_keeping, f_result, f_steps, f_fresh, f_reused, f_peak, a_arities, a_masks, a_starts, a_codes, a_extras, a_lefts, a_rights, a_scopes, a_uses, a_borrowed, a_lends, a_others, a_frees, a_afters, a_builds, a_pendingAt, upd a_tags c tag, vp_updL a_firsts c x, vp_updL a_seconds c y, upd a_digests c ((((31 * xg_d a_digests x) + (1009 * xg_d a_digests y)) + tag) + 2), cnt', pl, a_work, a_marks, a_variables, a_currents, a_held, a_spareCounts)) :
    wpX_build post (f_codeNum, f_codeOp, f_codeCon, f_codeCall, f_codeMatch, f_codeIfZero, f_codeRet, f_cellBase, f_unseen, f_capacity, f_depth, f_complete, f_open, f_stored, f_scope, f_borrowedNow, f_pending, nI lv, f_frames, f_spareTotal, f_state, f_borrowing, f_reusing, f_keeping, f_result, f_steps, f_fresh, f_reused, f_peak, a_arities, a_masks, a_starts, a_codes, a_extras, a_lefts, a_rights, a_scopes, a_uses, a_borrowed, a_lends, a_others, a_frees, a_afters, a_builds, a_pendingAt, a_tags, a_firsts, a_seconds, a_digests, cnt, pl, a_work, a_marks, a_variables, a_currents, a_held, a_spareCounts) tag x y := by
  obtain ⟨c, hc, hpl, hLc, hck⟩ := hx_free S hl
  unfold wpX_build
  (try dsimp only)
  rw [nI_clamp (show lv < 2 ^ 31 by omega)]
  refine ⟨vp_in_nI hl (by omega), nm_r hpl (nm_r (nI_1 lv) (xx_dig hx (xx_dig hy ?_)))⟩
  rw [nI_clamp (show c < 2 ^ 31 by omega)]
  refine ⟨vp_in_nI hc (by omega), nm_e ⟨vp_in_nI hc (by omega), nm_e ⟨vp_in_nI hc (by omega), nm_e ⟨vp_in_nI hc (by omega), nm_e ⟨vp_in_nI hc (by omega), nm_e ?_⟩⟩⟩⟩⟩
  by_cases hk : f_keeping = 0
  · obtain ⟨-, hB⟩ := hp_build hc hl hpl hx hy hxL hyL (S.1 hk)
    have hd := fun q hq => hp_dead (S.1 hk) (c := q) hq
    refine xx_rraw (F := fun q => hp_K L a_firsts a_seconds a_variables H E q + rc_d (rc_cv c) q) hk hx (fun q hq => ?_) (fun cnt1 h1 => ?_)
    · by_cases e : q = c
      · have h0 : hp_K L a_firsts a_seconds a_variables H E c = 0 := by
          rcases Nat.eq_zero_or_pos (hp_K L a_firsts a_seconds a_variables H E c) with z | z
          · exact z
          · have := (hd c hc).2.mpr z
            rw [hLc] at this; exact absurd this (by decide)
        rw [e, pk_us, rc_d_s, h0]; rfl
      · rw [pk_un e, rc_d_o (by omega) (by omega) e]; exact (hd q hq).1
    · refine xx_rraw (F := fun q => hp_K L a_firsts a_seconds a_variables H E q + rc_d (rc_cv c) q + rc_d x q) hk hy h1 (fun cnt2 h2 => ?_)
      have := hp c cnt2 hc hLc hck ⟨fun _ => hB cnt2 (fun q hq => by rw [hp_buildK hc hLc]; exact h2 q hq), fun z => absurd hk z⟩
      exact this
  · refine xw_kret hk (xw_kret hk ?_)
    obtain ⟨h1, h2, h3, h4⟩ := S.2 hk
    have ec := hck hk
    have := hp c (upd cnt c 1) hc hLc hck ⟨fun z => absurd z hk, fun _ => ⟨by omega, fun q hq => ?_, fun i hi hi2 => h3 i (by omega) hi2, fun d hd hL => ?_⟩⟩
    · exact this
    · by_cases e : q = c
      · rw [e, show hp_ad L c c = true from if_pos rfl]; exact ⟨fun _ => by omega, fun _ => rfl⟩
      · rw [show hp_ad L c q = L q from if_neg e, h2 q hq]; constructor <;> omega
    · have mono : ∀ q, L q = true → hp_ad L c q = true := fun q h => by
        unfold hp_ad; split; rfl; exact h
      by_cases e : d = c
      · rw [e, pk_uLs, pk_uLs]
        refine ⟨hx, hy, fun q hq h => mono q ?_⟩
        rcases h with h | h
        · exact hxL q hq h
        · exact hyL q hq h
      · rw [show hp_ad L c d = L d from if_neg e] at hL
        rw [pk_uLn e, pk_uLn e]
        obtain ⟨g1, g2, g3⟩ := h4 d hd hL
        exact ⟨g1, g2, fun q hq h => mono q (g3 q hq h)⟩
end
end
section
/-! ===== Y: turn, end, progress, needed, lent, holds, builds ===== -/
theorem yw_div {f v : Nat} (hf : f < 20) (hv : v < 12) : nI (f * 12 + v) / 12 = nI f := by
  have := pk_div (a := f * 12 + v) (d := 12) (by omega) (by omega) (by omega)
  rw [show (f * 12 + v) / 12 = f by omega] at this
  exact this
theorem yw_rem {f v : Nat} (hf : f < 20) (hv : v < 12) : nI (f * 12 + v) - nI (f * 12 + v) / 12 * 12 = nI v := by
  have := pk_rem (a := f * 12 + v) (d := 12) (by omega) (by omega) (by omega)
  rw [show (f * 12 + v) % 12 = v by omega] at this
  exact this
section
variable {g_cap g_most g_functions g_open g_stored g_scope g_state g_bits g_frames g_steps g_fresh g_reused g_peak g_resultCell g_resultNum g_seen : Int32} {b_firstOf b_arityOf b_maskOf b_kindOf b_numOf b_scopeOf b_aOf b_bOf b_cur b_spare b_varCell b_varNum b_borrowed b_tagOf b_fieldCell b_fieldNum b_marked b_digestOf : Nat → Int32}
theorem yw_turn {post : Int32 → Prop} {i : Nat} (hi : i < 96) (h1 : tx_t b_kindOf i = 1 → post 1) (h2 : tx_t b_kindOf i = -1 → post (-1)) (h0 : tx_t b_kindOf i = 0 → post 0) : wpY_turn post (g_cap, g_most, g_functions, g_open, g_stored, g_scope, g_state, g_bits, g_frames, g_steps, g_fresh, g_reused, g_peak, g_resultCell, g_resultNum, g_seen, b_firstOf, b_arityOf, b_maskOf, b_kindOf, b_numOf, b_scopeOf, b_aOf, b_bOf, b_cur, b_spare, b_varCell, b_varNum, b_borrowed, b_tagOf, b_fieldCell, b_fieldNum, b_marked, b_digestOf) (nI i) := by
  unfold wpY_turn
  (try dsimp only)
  rw [nI_clamp (show i < 2 ^ 31 by omega)]
  refine ⟨vp_in_nI hi (by omega), br_c (fun h => h1 (tx_t4 h)) (fun n4 => ⟨vp_in_nI hi (by omega), br_c (fun h => h1 (tx_t5 h)) (fun n5 => ⟨vp_in_nI hi (by omega), br_c (fun h => h2 (tx_t6 h)) (fun n6 => h0 (tx_t0 n4 n5 n6))⟩)⟩)⟩
theorem yw_end_T {post : Int32 → Prop} {s e st : Nat} (hT : tx_T b_kindOf s e) (he : e ≤ st) (hst : st ≤ 96) (h : post (nI e)) :
    ∀ (k n i w : Nat), i + k = e → k < n → s ≤ i → (w : Int) = 1 + tx_s b_kindOf i - tx_s b_kindOf s → wY_end_4 post g_cap g_most g_functions g_open (nI st) g_scope g_state g_bits g_frames g_steps g_fresh g_reused g_peak g_resultCell g_resultNum g_seen b_firstOf b_arityOf b_maskOf b_kindOf b_numOf b_scopeOf b_aOf b_bOf b_cur b_spare b_varCell b_varNum b_borrowed b_tagOf b_fieldCell b_fieldNum b_marked b_digestOf n (nI w) (nI i) := by
  intro k
  induction k with
  | zero =>
    intro n i w hi hn hs hw
    obtain ⟨n, rfl⟩ : ∃ m, n = m + 1 := ⟨n - 1, by omega⟩
    have : i = e := by omega
    subst this
    have := hT.2.1
    have hw0 : w = 0 := by omega
    subst hw0
    exact br_c (fun _ => br_t rfl h) (fun _ => br_t (Int32.le_refl _) (br_t rfl h))
  | succ k ih =>
    intro n i w hi hn hs hw
    obtain ⟨n, rfl⟩ : ∃ m, n = m + 1 := ⟨n - 1, by omega⟩
    have hge := hT.2.2 i hs (by omega)
    have hw1 : 0 < w := by omega
    have hwb : w ≤ 97 := by
      have key : ∀ d, tx_s b_kindOf (s + d) ≤ tx_s b_kindOf s + d := by
        intro d
        induction d with
        | zero => exact Int.le_of_eq (by simp)
        | succ d ihd =>
          have := (tx_tb b_kindOf (s + d)).2
          rw [← Nat.add_assoc, tx_ss]
          omega
      have := key (i - s)
      rw [show s + (i - s) = i by omega] at this
      omega
    have e1 := tx_ss b_kindOf i
    refine br_f (nI_ge (by omega) (by omega)) (br_f (nI_nle hw1 (by omega)) (yw_turn (by omega) (fun t => nm_r (nI_1 w) (nm_r (nI_1 i) ?_)) (fun t => nm_r (e' := nI (w - 1)) ?_ (nm_r (nI_1 i) ?_)) (fun t => nm_r (e' := nI w) (Int32.add_zero _) (nm_r (nI_1 i) ?_))))
    · exact ih n (i + 1) (w + 1) (by omega) (by omega) (by omega) (by rw [e1, t]; omega)
    · obtain ⟨m, rfl⟩ : ∃ m, w = m + 1 := ⟨w - 1, by omega⟩
      rw [Nat.add_sub_cancel]; exact pk_m1 m
    · exact ih n (i + 1) (w - 1) (by omega) (by omega) (by omega) (by rw [e1, t]; omega)
    · exact ih n (i + 1) w (by omega) (by omega) (by omega) (by rw [e1, t]; omega)
theorem yw_endT {post : Int32 → Prop} {s e st : Nat} (hT : tx_T b_kindOf s e) (he : e ≤ st) (hst : st ≤ 96) (h : post (nI e)) : wpY_end post (g_cap, g_most, g_functions, g_open, nI st, g_scope, g_state, g_bits, g_frames, g_steps, g_fresh, g_reused, g_peak, g_resultCell, g_resultNum, g_seen, b_firstOf, b_arityOf, b_maskOf, b_kindOf, b_numOf, b_scopeOf, b_aOf, b_bOf, b_cur, b_spare, b_varCell, b_varNum, b_borrowed, b_tagOf, b_fieldCell, b_fieldNum, b_marked, b_digestOf) (nI s) := by
  have := hT.1
  exact ⟨e - s + 1, yw_end_T hT he hst h (e - s) (e - s + 1) s 1 (by omega) (by omega) (by omega) (by omega)⟩
theorem yw_end_F {post : Int32 → Prop} {s st : Nat} (hN : ∀ i, s ≤ i → i ≤ st → tx_s b_kindOf s ≤ tx_s b_kindOf i) (hst : st ≤ 96) (h : post (-1)) :
    ∀ (k n i w : Nat), i + k = st → k < n → s ≤ i → (w : Int) = 1 + tx_s b_kindOf i - tx_s b_kindOf s → wY_end_4 post g_cap g_most g_functions g_open (nI st) g_scope g_state g_bits g_frames g_steps g_fresh g_reused g_peak g_resultCell g_resultNum g_seen b_firstOf b_arityOf b_maskOf b_kindOf b_numOf b_scopeOf b_aOf b_bOf b_cur b_spare b_varCell b_varNum b_borrowed b_tagOf b_fieldCell b_fieldNum b_marked b_digestOf n (nI w) (nI i) := by
  intro k
  induction k with
  | zero =>
    intro n i w hi hn hs hw
    obtain ⟨n, rfl⟩ : ∃ m, n = m + 1 := ⟨n - 1, by omega⟩
    have : i = st := by omega
    subst this
    have := hN i hs (by omega)
    have hwb : w ≤ 97 := by
      have key : ∀ d, tx_s b_kindOf (s + d) ≤ tx_s b_kindOf s + d := by
        intro d
        induction d with
        | zero => exact Int.le_of_eq (by simp)
        | succ d ihd =>
          have := (tx_tb b_kindOf (s + d)).2
          rw [← Nat.add_assoc, tx_ss]
          omega
      have := key (i - s)
      rw [show s + (i - s) = i by omega] at this
      omega
    exact br_t (Int32.le_refl _) (br_f (nI_ne0 (by omega) (by omega)) h)
  | succ k ih =>
    intro n i w hi hn hs hw
    obtain ⟨n, rfl⟩ : ∃ m, n = m + 1 := ⟨n - 1, by omega⟩
    have hge := hN i hs (by omega)
    have hw1 : 0 < w := by omega
    have hwb : w ≤ 97 := by
      have key : ∀ d, tx_s b_kindOf (s + d) ≤ tx_s b_kindOf s + d := by
        intro d
        induction d with
        | zero => exact Int.le_of_eq (by simp)
        | succ d ihd =>
          have := (tx_tb b_kindOf (s + d)).2
          rw [← Nat.add_assoc, tx_ss]
          omega
      have := key (i - s)
      rw [show s + (i - s) = i by omega] at this
      omega
    have e1 := tx_ss b_kindOf i
    refine br_f (nI_ge (by omega) (by omega)) (br_f (nI_nle hw1 (by omega)) (yw_turn (by omega) (fun t => nm_r (nI_1 w) (nm_r (nI_1 i) ?_)) (fun t => nm_r (e' := nI (w - 1)) ?_ (nm_r (nI_1 i) ?_)) (fun t => nm_r (e' := nI w) (Int32.add_zero _) (nm_r (nI_1 i) ?_))))
    · exact ih n (i + 1) (w + 1) (by omega) (by omega) (by omega) (by rw [e1, t]; omega)
    · obtain ⟨m, rfl⟩ : ∃ m, w = m + 1 := ⟨w - 1, by omega⟩
      rw [Nat.add_sub_cancel]; exact pk_m1 m
    · exact ih n (i + 1) (w - 1) (by omega) (by omega) (by omega) (by rw [e1, t]; omega)
    · exact ih n (i + 1) w (by omega) (by omega) (by omega) (by rw [e1, t]; omega)
theorem yw_endF {post : Int32 → Prop} {s st : Nat} (hs : s ≤ st) (hN : ∀ i, s ≤ i → i ≤ st → tx_s b_kindOf s ≤ tx_s b_kindOf i) (hst : st ≤ 96) (h : post (-1)) : wpY_end post (g_cap, g_most, g_functions, g_open, nI st, g_scope, g_state, g_bits, g_frames, g_steps, g_fresh, g_reused, g_peak, g_resultCell, g_resultNum, g_seen, b_firstOf, b_arityOf, b_maskOf, b_kindOf, b_numOf, b_scopeOf, b_aOf, b_bOf, b_cur, b_spare, b_varCell, b_varNum, b_borrowed, b_tagOf, b_fieldCell, b_fieldNum, b_marked, b_digestOf) (nI s) :=
  ⟨st - s + 1, yw_end_F hN hst h (st - s) (st - s + 1) s 1 (by omega) (by omega) (by omega) (by omega)⟩
/-- what progress answers -/
def yw_pg (post : Int32 → Prop) (x1 fn st op sp w : Int32) : Prop :=
  ((x1 = 0 → (post fn)) ∧ (¬ x1 = 0 → (((x1 = 1 → (post st)) ∧ (¬ x1 = 1 → (((x1 = 2 → (((op = 0 → (post (-1))) ∧ (¬ op = 0 → (post sp))))) ∧ (¬ x1 = 2 → (((x1 = 3 → (post w)) ∧ (¬ x1 = 3 → (post (-1)))))))))))))
theorem yw_pr {post : Int32 → Prop} {x1 : Int32} {b0 st p : Nat} (hst : st ≤ 96) (hO : ∀ i, b0 ≤ i → i ≤ st → tx_s b_kindOf b0 ≤ tx_s b_kindOf i) (hp : (p : Int) = tx_s b_kindOf st - tx_s b_kindOf b0)
    (h : yw_pg post x1 g_functions (nI st) g_open g_scope (nI p)) :
    ∀ (k n i w : Nat), i + k = st → k < n → b0 ≤ i → (w : Int) = tx_s b_kindOf i - tx_s b_kindOf b0 → wY_progress_26 post x1 g_cap g_most g_functions g_open (nI st) g_scope g_state g_bits g_frames g_steps g_fresh g_reused g_peak g_resultCell g_resultNum g_seen b_firstOf b_arityOf b_maskOf b_kindOf b_numOf b_scopeOf b_aOf b_bOf b_cur b_spare b_varCell b_varNum b_borrowed b_tagOf b_fieldCell b_fieldNum b_marked b_digestOf n (nI w) (nI i) := by
  intro k
  induction k with
  | zero =>
    intro n i w hi hn hs hw
    obtain ⟨n, rfl⟩ : ∃ m, n = m + 1 := ⟨n - 1, by omega⟩
    have : i = st := by omega
    subst this
    have : w = p := by omega
    subst this
    exact br_t (Int32.le_refl _) h
  | succ k ih =>
    intro n i w hi hn hs hw
    obtain ⟨n, rfl⟩ : ∃ m, n = m + 1 := ⟨n - 1, by omega⟩
    have e1 := tx_ss b_kindOf i
    have h2 := hO (i + 1) (by omega) (by omega)
    refine br_f (nI_ge (by omega) (by omega)) (yw_turn (by omega) (fun t => nm_r (nI_1 w) (nm_r (nI_1 i) ?_)) (fun t => nm_r (e' := nI (w - 1)) ?_ (nm_r (nI_1 i) ?_)) (fun t => nm_r (e' := nI w) (Int32.add_zero _) (nm_r (nI_1 i) ?_)))
    · exact ih n (i + 1) (w + 1) (by omega) (by omega) (by omega) (by rw [e1, t]; omega)
    · rw [e1, t] at h2
      obtain ⟨m, rfl⟩ : ∃ m, w = m + 1 := ⟨w - 1, by omega⟩
      rw [Nat.add_sub_cancel]; exact pk_m1 m
    · rw [e1, t] at h2
      exact ih n (i + 1) (w - 1) (by omega) (by omega) (by omega) (by rw [e1, t]; omega)
    · exact ih n (i + 1) w (by omega) (by omega) (by omega) (by rw [e1, t]; omega)
theorem yw_prO {post : Int32 → Prop} {x1 : Int32} {cm b0 st p : Nat} (ho : ¬ g_open = 0) (hcm : cm < 6) (hb : b_firstOf cm = nI b0) (hbs : b0 ≤ st) (hst : st ≤ 96) (hO : ∀ i, b0 ≤ i → i ≤ st → tx_s b_kindOf b0 ≤ tx_s b_kindOf i) (hp : (p : Int) = tx_s b_kindOf st - tx_s b_kindOf b0)
    (h : yw_pg post x1 (nI cm) (nI st) g_open g_scope (nI p)) : wpY_progress post (g_cap, g_most, nI cm, g_open, nI st, g_scope, g_state, g_bits, g_frames, g_steps, g_fresh, g_reused, g_peak, g_resultCell, g_resultNum, g_seen, b_firstOf, b_arityOf, b_maskOf, b_kindOf, b_numOf, b_scopeOf, b_aOf, b_bOf, b_cur, b_spare, b_varCell, b_varNum, b_borrowed, b_tagOf, b_fieldCell, b_fieldNum, b_marked, b_digestOf) x1 := by
  unfold wpY_progress
  (try dsimp only)
  rw [nI_clamp (show cm < 2 ^ 31 by omega)]
  exact br_f ho ⟨vp_in_nI hcm (by omega), nm_r hb ⟨st - b0 + 1, yw_pr hst hO hp h (st - b0) (st - b0 + 1) b0 0 (by omega) (by omega) (by omega) (by omega)⟩⟩
theorem yw_prC {post : Int32 → Prop} {x1 : Int32} {st : Nat} (ho : g_open = 0) (hst : st ≤ 96) (h : yw_pg post x1 g_functions (nI st) g_open g_scope 0) : wpY_progress post (g_cap, g_most, g_functions, g_open, nI st, g_scope, g_state, g_bits, g_frames, g_steps, g_fresh, g_reused, g_peak, g_resultCell, g_resultNum, g_seen, b_firstOf, b_arityOf, b_maskOf, b_kindOf, b_numOf, b_scopeOf, b_aOf, b_bOf, b_cur, b_spare, b_varCell, b_varNum, b_borrowed, b_tagOf, b_fieldCell, b_fieldNum, b_marked, b_digestOf) x1 :=
  br_t ho ⟨1, yw_pr (b0 := st) (p := 0) hst (fun i h1 h2 => by rw [show i = st by omega]; exact Int.le_refl _) (by omega) h 0 1 st 0 (by omega) (by omega) (by omega) (by omega)⟩
theorem yw_n70 {post : Int32 → Prop} {v e : Nat} (he : e ≤ 96) : ∀ (k n i : Nat), i + k = e → k < n → (tx_mn b_aOf b_bOf v i e → post 1) → (¬ tx_mn b_aOf b_bOf v i e → post 0) → wY_needed_70 post (nI v) (nI e) g_cap g_most g_functions g_open g_stored g_scope g_state g_bits g_frames g_steps g_fresh g_reused g_peak g_resultCell g_resultNum g_seen b_firstOf b_arityOf b_maskOf b_kindOf b_numOf b_scopeOf b_aOf b_bOf b_cur b_spare b_varCell b_varNum b_borrowed b_tagOf b_fieldCell b_fieldNum b_marked b_digestOf n (nI i) := by
  intro k
  induction k with
  | zero =>
    intro n i hi hn h1 h0
    obtain ⟨n, rfl⟩ : ∃ m, n = m + 1 := ⟨n - 1, by omega⟩
    have : i = e := by omega
    subst this
    exact br_t (Int32.le_refl _) (h0 tx_mn0)
  | succ k ih =>
    intro n i hi hn h1 h0
    obtain ⟨n, rfl⟩ : ∃ m, n = m + 1 := ⟨n - 1, by omega⟩
    have hm := tx_mn1 (aO := b_aOf) (bO := b_bOf) (v := v) (show i < e by omega)
    refine br_f (nI_ge (by omega) (by omega)) ⟨vp_in_nI (by omega) (by omega), ?_⟩
    rw [nI_clamp (show i < 2 ^ 31 by omega)]
    refine br_c (fun z => h1 (hm.mpr (Or.inl (Or.inl z)))) (fun z => ⟨vp_in_nI (by omega) (by omega), br_c (fun q => h1 (hm.mpr (Or.inl (Or.inr q)))) (fun q => nm_r (nI_1 i) ?_)⟩)
    exact ih n (i + 1) (by omega) (by omega) (fun y => h1 (hm.mpr (Or.inr y))) (fun y => h0 (fun w => by
      rcases hm.mp w with (w | w) | w
      · exact z w
      · exact q w
      · exact y w))
theorem yw_n37 {post : Int32 → Prop} {f v s t e st d : Nat} {m : Int32} (hf : f < 20) (hs : s < 96) (hcu : b_cur f = nI s) (hd : b_scopeOf s = nI d) (hd2 : d ≤ 12) (hv : v < 12) (hst : st ≤ 96) (hT : tx_T b_kindOf t e) (he : e ≤ st)
    (hm : bt m v = true ↔ (v < d ∧ tx_mn b_aOf b_bOf v t e)) (h : post (rc_b (bt m v))) : wY_needed_37 post (nI f) (nI v) (nI t) g_cap g_most g_functions g_open (nI st) g_scope g_state g_bits g_frames g_steps g_fresh g_reused g_peak g_resultCell g_resultNum g_seen b_firstOf b_arityOf b_maskOf b_kindOf b_numOf b_scopeOf b_aOf b_bOf b_cur b_spare b_varCell b_varNum b_borrowed b_tagOf b_fieldCell b_fieldNum b_marked b_digestOf := by
  unfold wY_needed_37
  rw [nI_clamp (show f < 2 ^ 31 by omega), hcu, nI_clamp (show s < 2 ^ 31 by omega), hd]
  have ht := hT.1
  refine ⟨vp_in_nI hf (by omega), vp_in_nI hs (by omega), pk_le d v (fun z => ⟨1, br_t (nI_pos' (by omega)) ?_⟩) (fun z => yw_endT hT he hst ⟨e - t + 1, ?_⟩)⟩
  · have : bt m v = false := by
      cases q : bt m v
      · rfl
      · have := (hm.mp q).1; omega
    rw [this] at h; exact h
  · refine yw_n70 (by omega) (e - t) (e - t + 1) t (by omega) (by omega) (fun q => ?_) (fun q => ?_)
    · rw [hm.mpr ⟨z, q⟩] at h; exact h
    · have : bt m v = false := by
        cases q' : bt m v
        · rfl
        · exact absurd (hm.mp q').2 q
      rw [this] at h; exact h
/-- needed: the bit v of the mask m -/
theorem yw_needed {post : Int32 → Prop} {f v s e st d n : Nat} {m : Int32} (hf : f < n) (hn : n ≤ 20) (hs : s < 96) (hcu : b_cur f = nI s) (hd : b_scopeOf s = nI d) (hd2 : d ≤ 12) (hv : v < 12) (hst : st ≤ 96)
    (hT : tx_T b_kindOf (if f + 1 = n then s else s + 1) e) (he : e ≤ st)
    (hm : bt m v = true ↔ (v < d ∧ tx_mn b_aOf b_bOf v (if f + 1 = n then s else s + 1) e)) (h : post (rc_b (bt m v))) : wpY_needed post (g_cap, g_most, g_functions, g_open, nI st, g_scope, g_state, g_bits, nI n, g_steps, g_fresh, g_reused, g_peak, g_resultCell, g_resultNum, g_seen, b_firstOf, b_arityOf, b_maskOf, b_kindOf, b_numOf, b_scopeOf, b_aOf, b_bOf, b_cur, b_spare, b_varCell, b_varNum, b_borrowed, b_tagOf, b_fieldCell, b_fieldNum, b_marked, b_digestOf) (nI (f * 12 + v)) := by
  unfold wpY_needed
  (try dsimp only)
  obtain ⟨k, rfl⟩ : ∃ k, n = k + 1 := ⟨n - 1, by omega⟩
  refine ⟨by decide, nm_r (yw_div (by omega) hv) ⟨by decide, nm_r (yw_rem (by omega) hv) ?_⟩⟩
  rw [nI_pred k, nI_clamp (show f < 2 ^ 31 by omega), hcu]
  by_cases z : f = k
  · rw [if_pos (by omega)] at hT hm
    exact br_t (by rw [z]) ⟨vp_in_nI (by omega) (by omega), yw_n37 (by omega) hs hcu hd hd2 hv hst hT he hm h⟩
  · rw [if_neg (by omega)] at hT hm
    refine br_f (fun q => z ((nI_eq (by omega) (by omega)).mp q)) ⟨vp_in_nI (by omega) (by omega), ?_⟩
    rw [nI_1]
    exact yw_n37 (by omega) hs hcu hd hd2 hv hst hT he hm h
theorem yw_and1 {x : Int32} : (x &&& 1) = 0 ↔ bt x 0 = false := by
  have := rc_bit x (i := 0) (by omega)
  exact this
theorem yw_and2 {x : Int32} : (x &&& 2) = 0 ↔ bt x 1 = false := by
  have := rc_bit x (i := 1) (by omega)
  exact this
theorem yw_and4 {x : Int32} : (x &&& 4) = 0 ↔ bt x 2 = false := by
  have := rc_bit x (i := 2) (by omega)
  exact this
/-- lent: what a call of the rows lends -/
theorem yw_lent {post : Int32 → Prop} {f v s n g : Nat} {r : Bool} (hf : f < n) (hn : n ≤ 20) (hs : s < 96) (hcu : b_cur f = nI s) (hv : v < 12)
    (hx : f + 1 ≠ n → b_numOf s = nI g ∧ g < 6)
    (h0 : bt g_bits 0 = false → r = false) (h1 : f + 1 = n → r = false) (h2 : ¬ b_borrowed (f * 12 + v) = 0 → r = false)
    (h3 : bt g_bits 0 = true → f + 1 ≠ n → b_borrowed (f * 12 + v) = 0 → (r = true ↔ (b_aOf s = nI v ∧ bt (b_maskOf g) 0 = true ∨ b_bOf s = nI v ∧ bt (b_maskOf g) 1 = true)))
    (h : post (rc_b r)) : wpY_lent post (g_cap, g_most, g_functions, g_open, g_stored, g_scope, g_state, g_bits, nI n, g_steps, g_fresh, g_reused, g_peak, g_resultCell, g_resultNum, g_seen, b_firstOf, b_arityOf, b_maskOf, b_kindOf, b_numOf, b_scopeOf, b_aOf, b_bOf, b_cur, b_spare, b_varCell, b_varNum, b_borrowed, b_tagOf, b_fieldCell, b_fieldNum, b_marked, b_digestOf) (nI (f * 12 + v)) := by
  unfold wpY_lent
  (try dsimp only)
  obtain ⟨k, rfl⟩ : ∃ k, n = k + 1 := ⟨n - 1, by omega⟩
  refine ⟨by decide, nm_r (yw_div (by omega) hv) ⟨by decide, nm_r (yw_rem (by omega) hv) ?_⟩⟩
  rw [nI_pred k, nI_clamp (show f < 2 ^ 31 by omega), nI_clamp (show f * 12 + v < 2 ^ 31 by omega)]
  refine ⟨vp_in_nI (by omega) (by omega), nm_r hcu ?_⟩
  rw [nI_clamp (show s < 2 ^ 31 by omega)]
  refine br_c (fun z => ?_) (fun z => ?_)
  · rw [h0 (yw_and1.mp z)] at h; exact h
  · have z1 : bt g_bits 0 = true := by
      cases q : bt g_bits 0
      · exact absurd (yw_and1.mpr q) z
      · rfl
    by_cases e : f = k
    · rw [h1 (by omega)] at h
      exact br_t (by rw [e]) h
    · refine br_f (fun q => e ((nI_eq (by omega) (by omega)).mp q)) ⟨vp_in_nI (by omega) (by omega), br_c (fun q => ?_) (fun q => ?_)⟩
      · obtain ⟨hg, hg6⟩ := hx (by omega)
        have h3' := h3 z1 (by omega) q
        rw [hg, nI_clamp (show g < 2 ^ 31 by omega)]
        have tail : (¬ (b_aOf s = nI v ∧ bt (b_maskOf g) 0 = true)) → wY_lent_80 post (nI v) (nI s) (b_maskOf g) g_cap g_most g_functions g_open g_stored g_scope g_state g_bits (nI (k + 1)) g_steps g_fresh g_reused g_peak g_resultCell g_resultNum g_seen b_firstOf b_arityOf b_maskOf b_kindOf b_numOf b_scopeOf b_aOf b_bOf b_cur b_spare b_varCell b_varNum b_borrowed b_tagOf b_fieldCell b_fieldNum b_marked b_digestOf := by
          intro na
          unfold wY_lent_80
          rw [nI_clamp (show s < 2 ^ 31 by omega)]
          refine ⟨vp_in_nI hs (by omega), br_c (fun qb => br_c (fun q2 => ?_) (fun q2 => ?_)) (fun qb => ?_)⟩
          · have : r = false := by
              cases hr : r
              · rfl
              · rcases h3'.mp hr with w | w
                · exact absurd w na
                · have := yw_and2.mp q2
                  rw [this] at w; exact absurd w.2 (by decide)
            rw [this] at h; exact h
          · have : bt (b_maskOf g) 1 = true := by
              cases w : bt (b_maskOf g) 1
              · exact absurd (yw_and2.mpr w) q2
              · rfl
            rw [h3'.mpr (Or.inr ⟨qb, this⟩)] at h; exact h
          · have : r = false := by
              cases hr : r
              · rfl
              · rcases h3'.mp hr with w | w
                · exact absurd w na
                · exact absurd w.1 qb
            rw [this] at h; exact h
        refine ⟨vp_in_nI hs (by omega), vp_in_nI hg6 (by omega), nm_e ⟨vp_in_nI hs (by omega), br_c (fun qa => br_c (fun q2 => ?_) (fun q2 => ?_)) (fun qa => ?_)⟩⟩
        · refine tail (fun w => ?_)
          have := yw_and1.mp q2
          rw [this] at w; exact absurd w.2 (by decide)
        · have : bt (b_maskOf g) 0 = true := by
            cases w : bt (b_maskOf g) 0
            · exact absurd (yw_and1.mpr w) q2
            · rfl
          rw [h3'.mpr (Or.inl ⟨qa, this⟩)] at h; exact h
        · exact tail (fun w => qa w.1)
      · rw [h2 q] at h; exact h
end
end
section
section
variable {g_cap g_most g_functions g_open g_stored g_scope g_state g_bits g_frames g_steps g_fresh g_reused g_peak g_resultCell g_resultNum g_seen : Int32} {b_firstOf b_arityOf b_maskOf b_kindOf b_numOf b_scopeOf b_aOf b_bOf b_cur b_spare b_varCell b_varNum b_borrowed b_tagOf b_fieldCell b_fieldNum b_marked b_digestOf : Nat → Int32}
theorem yw_b23 {post : Int32 → Prop} {J : Int32 → Int32 → Prop} {s e st r best : Nat} (hT : tx_T b_kindOf s e) (he : e ≤ st) (hst : st ≤ 96) (hr : r < e) (hb : best ≤ 96)
    (h6 : b_kindOf r = 6 → J (nI (if tx_cn b_kindOf s r r ≤ best then best else tx_cn b_kindOf s r r)) (nI (r + 1))) (hn6 : ¬ b_kindOf r = 6 → J (nI best) (nI (r + 1))) :
    ∀ (k n i : Nat), i + k = r → k < n → s ≤ i → wY_builds_23 post J (nI s) (nI best) (nI e) (nI r) g_cap g_most g_functions g_open (nI st) g_scope g_state g_bits g_frames g_steps g_fresh g_reused g_peak g_resultCell g_resultNum g_seen b_firstOf b_arityOf b_maskOf b_kindOf b_numOf b_scopeOf b_aOf b_bOf b_cur b_spare b_varCell b_varNum b_borrowed b_tagOf b_fieldCell b_fieldNum b_marked b_digestOf n (nI (tx_cn b_kindOf s r i)) (nI i) := by
  intro k
  induction k with
  | zero =>
    intro n i hi hn hs
    obtain ⟨n, rfl⟩ : ∃ m, n = m + 1 := ⟨n - 1, by omega⟩
    have : i = r := by omega
    subst this
    refine br_t (Int32.le_refl _) ⟨vp_in_nI (by omega) (by omega), ?_⟩
    rw [nI_clamp (show i < 2 ^ 31 by omega)]
    have hcl := tx_cn_le (kd := b_kindOf) (s := s) (r := i) (k := i)
    refine br_c (fun z => ?_) (fun z => nm_r (nI_1 i) (hn6 z))
    have h6' := h6 z
    refine pk_le (tx_cn b_kindOf s i i) best (fun q => nm_r (nI_1 i) ?_) (fun q => nm_r (nI_1 i) ?_)
    · rw [if_pos q] at h6'; exact h6'
    · rw [if_neg (by omega)] at h6'; exact h6'
  | succ k ih =>
    intro n i hi hn hs
    obtain ⟨n, rfl⟩ : ∃ m, n = m + 1 := ⟨n - 1, by omega⟩
    have hcl := tx_cn_le (kd := b_kindOf) (s := s) (r := r) (k := i)
    have e1 : tx_cn b_kindOf s r (i + 1) = tx_cn b_kindOf s r i + (if s ≤ i ∧ b_kindOf i = 2 ∧ r < tx_en b_kindOf i then 1 else 0) := rfl
    refine br_f (nI_ge (by omega) (by omega)) ⟨vp_in_nI (by omega) (by omega), ?_⟩
    rw [nI_clamp (show i < 2 ^ 31 by omega)]
    have ihn := ih n (i + 1) (by omega) (by omega) (by omega)
    refine br_c (fun z => ?_) (fun z => nm_r (nI_1 i) ?_)
    · obtain ⟨e', he', T'⟩ := tx_sub hT hs (by omega)
      have hen := tx_en_T T'
      refine yw_endT T' (by omega) hst (pk_le e' r (fun q => nm_r (nI_1 i) ?_) (fun q => nm_r (nI_1 _) (nm_r (nI_1 i) ?_)))
      · rw [e1, if_neg (fun w => by have := w.2.2; omega)] at ihn; exact ihn
      · rw [e1, if_pos ⟨hs, z, by omega⟩] at ihn; exact ihn
    · rw [e1, if_neg (fun w => z w.2.1)] at ihn; exact ihn
theorem yw_b11 {post : Int32 → Prop} {s e st B : Nat} (hT : tx_T b_kindOf s e) (he : e ≤ st) (hst : st ≤ 96) (hB : tx_B b_kindOf s e B) (h : post (nI B)) :
    ∀ (k n r best : Nat), r + k = e → k < n → s ≤ r → best ≤ 96 → (∀ q, s ≤ q → q < r → b_kindOf q = 6 → tx_cn b_kindOf s q q ≤ best) →
      (best = 0 ∨ ∃ q, s ≤ q ∧ q < r ∧ b_kindOf q = 6 ∧ tx_cn b_kindOf s q q = best) → wY_builds_11 post (nI s) (nI e) g_cap g_most g_functions g_open (nI st) g_scope g_state g_bits g_frames g_steps g_fresh g_reused g_peak g_resultCell g_resultNum g_seen b_firstOf b_arityOf b_maskOf b_kindOf b_numOf b_scopeOf b_aOf b_bOf b_cur b_spare b_varCell b_varNum b_borrowed b_tagOf b_fieldCell b_fieldNum b_marked b_digestOf n (nI best) (nI r) := by
  intro k
  induction k with
  | zero =>
    intro n r best hr hn hs hb96 h1 h2
    obtain ⟨n, rfl⟩ : ∃ m, n = m + 1 := ⟨n - 1, by omega⟩
    have : r = e := by omega
    subst this
    have hB' : tx_B b_kindOf s r best := by
      refine ⟨h1, ?_⟩
      rcases h2 with z | z
      · have hs0 := hT.1
        obtain ⟨l, rfl⟩ : ∃ l, r = l + 1 := ⟨r - 1, by omega⟩
        have h6 := tx_last hT
        have := h1 l (by omega) (by omega) h6
        exact ⟨l, by omega, by omega, h6, by omega⟩
      · exact z
    rw [tx_B_uniq hB hB'] at h
    exact br_t (Int32.le_refl _) h
  | succ k ih =>
    intro n r best hr hn hs hb96 h1 h2
    obtain ⟨n, rfl⟩ : ∃ m, n = m + 1 := ⟨n - 1, by omega⟩
    have hcl := tx_cn_le (kd := b_kindOf) (s := s) (r := r) (k := r)
    refine br_f (nI_ge (by omega) (by omega)) ⟨r - s + 1, ?_⟩
    have go : (b_kindOf r = 6 → wY_builds_11 post (nI s) (nI e) g_cap g_most g_functions g_open (nI st) g_scope g_state g_bits g_frames g_steps g_fresh g_reused g_peak g_resultCell g_resultNum g_seen b_firstOf b_arityOf b_maskOf b_kindOf b_numOf b_scopeOf b_aOf b_bOf b_cur b_spare b_varCell b_varNum b_borrowed b_tagOf b_fieldCell b_fieldNum b_marked b_digestOf n (nI (if tx_cn b_kindOf s r r ≤ best then best else tx_cn b_kindOf s r r)) (nI (r + 1))) → (¬ b_kindOf r = 6 → wY_builds_11 post (nI s) (nI e) g_cap g_most g_functions g_open (nI st) g_scope g_state g_bits g_frames g_steps g_fresh g_reused g_peak g_resultCell g_resultNum g_seen b_firstOf b_arityOf b_maskOf b_kindOf b_numOf b_scopeOf b_aOf b_bOf b_cur b_spare b_varCell b_varNum b_borrowed b_tagOf b_fieldCell b_fieldNum b_marked b_digestOf n (nI best) (nI (r + 1))) →
        wY_builds_23 post (wY_builds_11 post (nI s) (nI e) g_cap g_most g_functions g_open (nI st) g_scope g_state g_bits g_frames g_steps g_fresh g_reused g_peak g_resultCell g_resultNum g_seen b_firstOf b_arityOf b_maskOf b_kindOf b_numOf b_scopeOf b_aOf b_bOf b_cur b_spare b_varCell b_varNum b_borrowed b_tagOf b_fieldCell b_fieldNum b_marked b_digestOf n) (nI s) (nI best) (nI e) (nI r) g_cap g_most g_functions g_open (nI st) g_scope g_state g_bits g_frames g_steps g_fresh g_reused g_peak g_resultCell g_resultNum g_seen b_firstOf b_arityOf b_maskOf b_kindOf b_numOf b_scopeOf b_aOf b_bOf b_cur b_spare b_varCell b_varNum b_borrowed b_tagOf b_fieldCell b_fieldNum b_marked b_digestOf (r - s + 1) 0 (nI s) := fun g1 g2 => by
      have b0 : wY_builds_23 post (wY_builds_11 post (nI s) (nI e) g_cap g_most g_functions g_open (nI st) g_scope g_state g_bits g_frames g_steps g_fresh g_reused g_peak g_resultCell g_resultNum g_seen b_firstOf b_arityOf b_maskOf b_kindOf b_numOf b_scopeOf b_aOf b_bOf b_cur b_spare b_varCell b_varNum b_borrowed b_tagOf b_fieldCell b_fieldNum b_marked b_digestOf n) (nI s) (nI best) (nI e) (nI r) g_cap g_most g_functions g_open (nI st) g_scope g_state g_bits g_frames g_steps g_fresh g_reused g_peak g_resultCell g_resultNum g_seen b_firstOf b_arityOf b_maskOf b_kindOf b_numOf b_scopeOf b_aOf b_bOf b_cur b_spare b_varCell b_varNum b_borrowed b_tagOf b_fieldCell b_fieldNum b_marked b_digestOf (r - s + 1) (nI (tx_cn b_kindOf s r s)) (nI s) :=
        yw_b23 hT he hst (r := r) (by omega) hb96 g1 g2 (r - s) (r - s + 1) s (by omega) (by omega) (by omega)
      rw [tx_cn0 (Nat.le_refl s)] at b0; exact b0
    refine go (fun z => ?_) (fun z => ?_)
    · refine ih n (r + 1) _ (by omega) (by omega) (by omega) (by split <;> omega) (fun q q1 q2 q3 => ?_) ?_
      · by_cases w : q = r
        · rw [w]; split <;> omega
        · have := h1 q q1 (by omega) q3
          split <;> omega
      · by_cases w : tx_cn b_kindOf s r r ≤ best
        · rw [if_pos w]
          rcases h2 with y | ⟨q, q1, q2, q3, q4⟩
          · exact Or.inl y
          · exact Or.inr ⟨q, q1, by omega, q3, q4⟩
        · rw [if_neg w]
          exact Or.inr ⟨r, hs, by omega, z, rfl⟩
    · refine ih n (r + 1) best (by omega) (by omega) (by omega) hb96 (fun q q1 q2 q3 => ?_) ?_
      · exact h1 q q1 (by
          have : q ≠ r := fun w => z (by rw [← w]; exact q3)
          omega) q3
      · rcases h2 with y | ⟨q, q1, q2, q3, q4⟩
        · exact Or.inl y
        · exact Or.inr ⟨q, q1, by omega, q3, q4⟩
theorem yw_builds {post : Int32 → Prop} {s e st B : Nat} (hT : tx_T b_kindOf s e) (he : e ≤ st) (hst : st ≤ 96) (hB : tx_B b_kindOf s e B) (h : post (nI B)) : wpY_builds post (g_cap, g_most, g_functions, g_open, nI st, g_scope, g_state, g_bits, g_frames, g_steps, g_fresh, g_reused, g_peak, g_resultCell, g_resultNum, g_seen, b_firstOf, b_arityOf, b_maskOf, b_kindOf, b_numOf, b_scopeOf, b_aOf, b_bOf, b_cur, b_spare, b_varCell, b_varNum, b_borrowed, b_tagOf, b_fieldCell, b_fieldNum, b_marked, b_digestOf) (nI s) := by
  have h0 := hT.1
  exact yw_endT hT he hst ⟨e - s + 1, yw_b11 hT he hst hB h (e - s) (e - s + 1) s 0 (by omega) (by omega) (by omega) (by omega) (fun q q1 q2 _ => by omega) (Or.inl rfl)⟩
end
end
section
/-! ===== Y: mark ===== -/
/-- a set that the fields don't leave -/
def ym_cl (fc fn : Nat → Int32) (P : Nat → Prop) : Prop := ∀ x, x < 320 → P (x / 2) → ¬ fc x = 0 → ∀ c, c < 160 → fn x = nI c → P c
/-- all fields are valid -/
def ym_ok (fc fn : Nat → Int32) : Prop := ∀ x, x < 320 → ¬ fc x = 0 → ∃ c, c < 160 ∧ fn x = nI c
/-- the marks are truth values -/
def ym_m (M : Nat → Int32) : Prop := ∀ c, c < 160 → M c = 0 ∨ M c = 1
def ym_n (M : Nat → Int32) : Nat := rc_sm (fun c => if M c = 0 then 0 else 1) 160
theorem ym_mu {M : Nat → Int32} {k : Nat} {x : Int32} (h : ym_m M) (hx : x = 0 ∨ x = 1) : ym_m (upd M k x) := fun c hc => by
  unfold upd; split; exact hx; exact h c hc
theorem ym_nu {M : Nat → Int32} {k : Nat} (hk : k < 160) (h : M k = 0) : ym_n (upd M k 1) = ym_n M + 1 := by
  unfold ym_n
  have := rc_sm_upd (f := fun c => if M c = 0 then 0 else 1) (g := fun c => if upd M k 1 c = 0 then 0 else 1) (x := k) (fun j hj => by (try dsimp only); rw [pk_un hj]) 160 hk
  (try dsimp only at this)
  rw [pk_us, if_pos h, if_neg (by decide)] at this
  omega
theorem ym_nle (M : Nat → Int32) : ym_n M ≤ 160 := by
  have := rc_sm_le (f := fun c => if M c = 0 then 0 else 1) (m := 1) 160 (fun j _ => by (try dsimp only); split <;> omega)
  unfold ym_n; omega
theorem ym_full {M : Nat → Int32} (h : 160 ≤ ym_n M) : ∀ c, c < 160 → ¬ M c = 0 := by
  intro c hc hz
  have := ym_nu hc hz
  have := ym_nle (upd M c 1)
  omega
theorem ym_half {x : Nat} (hx : x < 320) : nI x / 2 = nI (x / 2) := pk_div (d := 2) (by omega) (by omega) (by omega)
section
variable {g_cap g_most g_functions g_open g_stored g_scope g_state g_bits g_frames g_steps g_fresh g_reused g_peak g_resultCell g_resultNum g_seen : Int32} {b_firstOf b_arityOf b_maskOf b_kindOf b_numOf b_scopeOf b_aOf b_bOf b_cur b_spare b_varCell b_varNum b_borrowed b_tagOf b_fieldCell b_fieldNum b_marked b_digestOf : Nat → Int32}
theorem ym_235 {post : Int32 → SY → Prop} (h : post (nI (ym_n b_marked)) (g_cap, g_most, g_functions, g_open, g_stored, g_scope, g_state, g_bits, g_frames, g_steps, g_fresh, g_reused, g_peak, g_resultCell, g_resultNum, g_seen, b_firstOf, b_arityOf, b_maskOf, b_kindOf, b_numOf, b_scopeOf, b_aOf, b_bOf, b_cur, b_spare, b_varCell, b_varNum, b_borrowed, b_tagOf, b_fieldCell, b_fieldNum, b_marked, b_digestOf)) : ∀ (k n i : Nat), i + k = 160 → k < n → wY_mark_235 post g_cap g_most g_functions g_open g_stored g_scope g_state g_bits g_frames g_steps g_fresh g_reused g_peak g_resultCell g_resultNum g_seen b_firstOf b_arityOf b_maskOf b_kindOf b_numOf b_scopeOf b_aOf b_bOf b_cur b_spare b_varCell b_varNum b_borrowed b_tagOf b_fieldCell b_fieldNum b_marked b_digestOf n (nI (rc_sm (fun c => if b_marked c = 0 then 0 else 1) i)) (nI i) := by
  intro k
  induction k with
  | zero =>
    intro n i hi hn
    obtain ⟨n, rfl⟩ : ∃ m, n = m + 1 := ⟨n - 1, by omega⟩
    have : i = 160 := by omega
    subst this
    exact br_t (Int32.le_refl _) h
  | succ k ih =>
    intro n i hi hn
    obtain ⟨n, rfl⟩ : ∃ m, n = m + 1 := ⟨n - 1, by omega⟩
    have ihn := ih n (i + 1) (by omega) (by omega)
    have e1 : rc_sm (fun c => if b_marked c = 0 then 0 else 1) (i + 1) = rc_sm (fun c => if b_marked c = 0 then 0 else 1) i + (if b_marked i = 0 then 0 else 1) := rfl
    refine br_f (nI_ge (b := 160) (by omega) (by omega)) ⟨vp_in_nI (by omega) (by omega), ?_⟩
    rw [nI_clamp (show i < 2 ^ 31 by omega)]
    refine br_c (fun z => nm_r (nI_1 i) ?_) (fun z => nm_r (nI_1 _) (nm_r (nI_1 i) ?_))
    · rw [e1, if_pos z] at ihn; exact ihn
    · rw [e1, if_neg z] at ihn; exact ihn
/-- one pass: the marks grow within every closed set; if nothing is marked they are closed -/
theorem ym_155 {post : Int32 → SY → Prop} {J : Int32 → Int32 → (Nat → Int32) → (Nat → Int32) → (Nat → Int32) → (Nat → Int32) → (Nat → Int32) → (Nat → Int32) → (Nat → Int32) → (Nat → Int32) → (Nat → Int32) → (Nat → Int32) → (Nat → Int32) → (Nat → Int32) → (Nat → Int32) → (Nat → Int32) → (Nat → Int32) → (Nat → Int32) → (Nat → Int32) → (Nat → Int32) → Prop}
    {p : Nat} {M0 : Nat → Int32} (hok : ym_ok b_fieldCell b_fieldNum)
    (hJ : ∀ M, ym_m M → (∀ c, ¬ M0 c = 0 → ¬ M c = 0) → (∀ P : Nat → Prop, ym_cl b_fieldCell b_fieldNum P → (∀ c, c < 160 → ¬ M0 c = 0 → P c) → ∀ c, c < 160 → ¬ M c = 0 → P c) →
      (M = M0 ∧ ym_cl b_fieldCell b_fieldNum (fun c => ¬ M c = 0) → J 0 (nI (p + 1)) b_firstOf b_arityOf b_maskOf b_kindOf b_numOf b_scopeOf b_aOf b_bOf b_cur b_spare b_varCell b_varNum b_borrowed b_tagOf b_fieldCell b_fieldNum M b_digestOf) ∧
      (ym_n M0 < ym_n M → J 1 (nI (p + 1)) b_firstOf b_arityOf b_maskOf b_kindOf b_numOf b_scopeOf b_aOf b_bOf b_cur b_spare b_varCell b_varNum b_borrowed b_tagOf b_fieldCell b_fieldNum M b_digestOf)) :
    ∀ (k n x : Nat) (more : Int32) (M : Nat → Int32), x + k = 320 → k < n → ym_m M → (∀ c, ¬ M0 c = 0 → ¬ M c = 0) →
      (∀ P : Nat → Prop, ym_cl b_fieldCell b_fieldNum P → (∀ c, c < 160 → ¬ M0 c = 0 → P c) → ∀ c, c < 160 → ¬ M c = 0 → P c) →
      ((more = 0 ∧ M = M0 ∧ ∀ y, y < x → ¬ M (y / 2) = 0 → ¬ b_fieldCell y = 0 → ∀ c, c < 160 → b_fieldNum y = nI c → ¬ M c = 0) ∨ (more = 1 ∧ ym_n M0 < ym_n M)) →
      wY_mark_155 post J (nI p) g_cap g_most g_functions g_open g_stored g_scope g_state g_bits g_frames g_steps g_fresh g_reused g_peak g_resultCell g_resultNum g_seen n more (nI x) b_firstOf b_arityOf b_maskOf b_kindOf b_numOf b_scopeOf b_aOf b_bOf b_cur b_spare b_varCell b_varNum b_borrowed b_tagOf b_fieldCell b_fieldNum M b_digestOf := by
  intro k
  induction k with
  | zero =>
    intro n x more M hx hn hm hM hP hI
    obtain ⟨n, rfl⟩ : ∃ m, n = m + 1 := ⟨n - 1, by omega⟩
    have : x = 320 := by omega
    subst this
    refine br_t (Int32.le_refl _) (nm_r (nI_1 p) ?_)
    rcases hI with ⟨rfl, h1, h2⟩ | ⟨rfl, h1⟩
    · exact (hJ M hm hM hP).1 ⟨h1, fun y hy h3 h4 c hc h5 => h2 y hy h3 h4 c hc h5⟩
    · exact (hJ M hm hM hP).2 h1
  | succ k ih =>
    intro n x more M hx hn hm hM hP hI
    obtain ⟨n, rfl⟩ : ∃ m, n = m + 1 := ⟨n - 1, by omega⟩
    refine br_f (nI_ge (b := 320) (by omega) (by omega)) ⟨by decide, ?_⟩
    rw [ym_half (by omega), nI_clamp (show x / 2 < 2 ^ 31 by omega)]
    have same : (¬ M (x / 2) = 0 → ¬ b_fieldCell x = 0 → ∀ c, c < 160 → b_fieldNum x = nI c → ¬ M c = 0) → wY_mark_155 post J (nI p) g_cap g_most g_functions g_open g_stored g_scope g_state g_bits g_frames g_steps g_fresh g_reused g_peak g_resultCell g_resultNum g_seen n more (nI (x + 1)) b_firstOf b_arityOf b_maskOf b_kindOf b_numOf b_scopeOf b_aOf b_bOf b_cur b_spare b_varCell b_varNum b_borrowed b_tagOf b_fieldCell b_fieldNum M b_digestOf := fun hs => by
      refine ih n (x + 1) more M (by omega) (by omega) hm hM hP ?_
      rcases hI with ⟨h0, h1, h2⟩ | h1
      · refine Or.inl ⟨h0, h1, fun y hy => ?_⟩
        by_cases e : y = x
        · rw [e]; exact hs
        · exact h2 y (by omega)
      · exact Or.inr h1
    refine ⟨vp_in_nI (by omega) (by omega), br_c (fun z => nm_r (nI_1 x) (same (fun q => absurd z q))) (fun z => ⟨vp_in_nI (by omega) (by omega), ?_⟩)⟩
    rw [nI_clamp (show x < 2 ^ 31 by omega)]
    refine br_c (fun q => nm_r (nI_1 x) (same (fun _ w => absurd q w))) (fun q => ⟨vp_in_nI (by omega) (by omega), ?_⟩)
    obtain ⟨c, hc, ec⟩ := hok x (by omega) q
    rw [ec, nI_clamp (show c < 2 ^ 31 by omega)]
    refine ⟨vp_in_nI hc (by omega), br_c (fun w => ⟨vp_in_nI (by omega) (by omega), vp_in_nI hc (by omega), nm_r (e' := upd M c 1) (by rw [rc_nar1]) (nm_r (nI_1 x) ?_)⟩) (fun w => nm_r (nI_1 x) (same (fun _ _ d hd ed => ?_)))⟩
    · refine ih n (x + 1) 1 _ (by omega) (by omega) (ym_mu hm (Or.inr rfl)) (fun d hd => ?_) (fun P h1 h2 d hd hM' => ?_) (Or.inr ⟨rfl, ?_⟩)
      · by_cases e : d = c
        · rw [e, pk_us]; decide
        · rw [pk_un e]; exact hM d hd
      · by_cases e : d = c
        · rw [e]
          exact h1 x (by omega) (hP P h1 h2 (x / 2) (by omega) z) q c hc ec
        · rw [pk_un e] at hM'
          exact hP P h1 h2 d hd hM'
      · rw [ym_nu hc w]
        rcases hI with ⟨_, h1, _⟩ | ⟨_, h1⟩
        · rw [h1]; omega
        · omega
    · rw [ec, nI_eq (by omega) (by omega)] at ed
      rw [← ed]; exact w
theorem ym_139 {post : Int32 → SY → Prop} {M0 : Nat → Int32} (hok : ym_ok b_fieldCell b_fieldNum)
    (hp : ∀ M, ym_m M → (∀ c, ¬ M0 c = 0 → ¬ M c = 0) → ym_cl b_fieldCell b_fieldNum (fun c => ¬ M c = 0) →
      (∀ P : Nat → Prop, ym_cl b_fieldCell b_fieldNum P → (∀ c, c < 160 → ¬ M0 c = 0 → P c) → ∀ c, c < 160 → ¬ M c = 0 → P c) → post (nI (ym_n M)) (g_cap, g_most, g_functions, g_open, g_stored, g_scope, g_state, g_bits, g_frames, g_steps, g_fresh, g_reused, g_peak, g_resultCell, g_resultNum, g_seen, b_firstOf, b_arityOf, b_maskOf, b_kindOf, b_numOf, b_scopeOf, b_aOf, b_bOf, b_cur, b_spare, b_varCell, b_varNum, b_borrowed, b_tagOf, b_fieldCell, b_fieldNum, M, b_digestOf)) :
    ∀ (k n p : Nat) (more : Int32) (M : Nat → Int32), p + k = 160 → k < n → ym_m M → (∀ c, ¬ M0 c = 0 → ¬ M c = 0) →
      (∀ P : Nat → Prop, ym_cl b_fieldCell b_fieldNum P → (∀ c, c < 160 → ¬ M0 c = 0 → P c) → ∀ c, c < 160 → ¬ M c = 0 → P c) →
      ((more = 0 ∧ ym_cl b_fieldCell b_fieldNum (fun c => ¬ M c = 0)) ∨ (more = 1 ∧ p ≤ ym_n M)) →
      wY_mark_139 post g_cap g_most g_functions g_open g_stored g_scope g_state g_bits g_frames g_steps g_fresh g_reused g_peak g_resultCell g_resultNum g_seen n more (nI p) b_firstOf b_arityOf b_maskOf b_kindOf b_numOf b_scopeOf b_aOf b_bOf b_cur b_spare b_varCell b_varNum b_borrowed b_tagOf b_fieldCell b_fieldNum M b_digestOf := by
  intro k
  induction k with
  | zero =>
    intro n p more M hx hn hm hM hP hI
    obtain ⟨n, rfl⟩ : ∃ m, n = m + 1 := ⟨n - 1, by omega⟩
    have : p = 160 := by omega
    subst this
    have hcl : ym_cl b_fieldCell b_fieldNum (fun c => ¬ M c = 0) := by
      rcases hI with ⟨_, h⟩ | ⟨_, h⟩
      · exact h
      · exact fun x _ _ _ c hc _ => ym_full h c hc
    exact br_t (Int32.le_refl _) ⟨161, ym_235 (b_marked := M) (hp M hm hM hcl hP) 160 161 0 (by omega) (by omega)⟩
  | succ k ih =>
    intro n p more M hx hn hm hM hP hI
    obtain ⟨n, rfl⟩ : ∃ m, n = m + 1 := ⟨n - 1, by omega⟩
    refine br_f (nI_ge (b := 160) (by omega) (by omega)) ?_
    rcases hI with ⟨rfl, h⟩ | ⟨rfl, h⟩
    · exact br_t rfl ⟨161, ym_235 (b_marked := M) (hp M hm hM h hP) 160 161 0 (by omega) (by omega)⟩
    · refine br_f (by decide) ⟨321, ?_⟩
      refine ym_155 (M0 := M) hok (fun M' hm' hM' hP' => ⟨fun hh => ?_, fun hh => ?_⟩) 320 321 0 0 M (by omega) (by omega) hm (fun _ h => h) (fun _ _ h2 => h2) (Or.inl ⟨rfl, rfl, fun y hy => by omega⟩)
      · exact ih n (p + 1) 0 M' (by omega) (by omega) hm' (fun c hc => hM' c (hM c hc)) (fun P h1 h2 => hP' P h1 (hP P h1 h2)) (Or.inl ⟨rfl, hh.2⟩)
      · exact ih n (p + 1) 1 M' (by omega) (by omega) hm' (fun c hc => hM' c (hM c hc)) (fun P h1 h2 => hP' P h1 (hP P h1 h2)) (Or.inr ⟨rfl, by omega⟩)
/-- the marked ones at first: kept cells, the result, the variables that rt names -/
def ym_R (x1 st bits fresh rc rn : Int32) (vc vn : Nat → Int32) (n : Nat) (rt : Nat → Bool) (c : Nat) : Prop :=
  (¬ x1 = 0 ∧ ¬ (bits &&& 4) = 0 ∧ ¬ fresh ≤ nI c) ∨ (st = 2 ∧ ¬ rc = 0 ∧ rn = nI c) ∨ ∃ x, x < n * 12 ∧ rt x = true ∧ ¬ vc x = 0 ∧ vn x = nI c
theorem ym_117 {post : Int32 → SY → Prop} {J : Int32 → (Nat → Int32) → (Nat → Int32) → (Nat → Int32) → (Nat → Int32) → (Nat → Int32) → (Nat → Int32) → (Nat → Int32) → (Nat → Int32) → (Nat → Int32) → (Nat → Int32) → (Nat → Int32) → (Nat → Int32) → (Nat → Int32) → (Nat → Int32) → (Nat → Int32) → (Nat → Int32) → (Nat → Int32) → (Nat → Int32) → Prop}
    {x1 : Int32} {x c : Nat} (hx : x < 240) (hc : c < 160) (e : b_varNum x = nI c) (h : J (nI (x + 1)) b_firstOf b_arityOf b_maskOf b_kindOf b_numOf b_scopeOf b_aOf b_bOf b_cur b_spare b_varCell b_varNum b_borrowed b_tagOf b_fieldCell b_fieldNum (upd b_marked c 1) b_digestOf) : wY_mark_117 post J x1 (nI x) g_cap g_most g_functions g_open g_stored g_scope g_state g_bits g_frames g_steps g_fresh g_reused g_peak g_resultCell g_resultNum g_seen b_firstOf b_arityOf b_maskOf b_kindOf b_numOf b_scopeOf b_aOf b_bOf b_cur b_spare b_varCell b_varNum b_borrowed b_tagOf b_fieldCell b_fieldNum b_marked b_digestOf := by
  unfold wY_mark_117
  rw [nI_clamp (show x < 2 ^ 31 by omega), e, nI_clamp (show c < 2 ^ 31 by omega)]
  exact ⟨vp_in_nI hx (by omega), vp_in_nI hc (by omega), nm_r (e' := upd b_marked c 1) (by rw [rc_nar1]) (nm_r (nI_1 x) h)⟩
theorem ym_74 {post : Int32 → SY → Prop} {x1 : Int32} {N : Nat} {rt : Nat → Bool} {M0 : Nat → Int32} (hN : N ≤ 20)
    (hW : ∀ M x (Q : Int32 → Prop), x < N * 12 → Q (rc_b (rt x)) → (x1 = 0 → wpY_needed Q (g_cap, g_most, g_functions, g_open, g_stored, g_scope, g_state, g_bits, nI N, g_steps, g_fresh, g_reused, g_peak, g_resultCell, g_resultNum, g_seen, b_firstOf, b_arityOf, b_maskOf, b_kindOf, b_numOf, b_scopeOf, b_aOf, b_bOf, b_cur, b_spare, b_varCell, b_varNum, b_borrowed, b_tagOf, b_fieldCell, b_fieldNum, M, b_digestOf) (nI x)) ∧ (¬ x1 = 0 → wpY_holds Q (g_cap, g_most, g_functions, g_open, g_stored, g_scope, g_state, g_bits, nI N, g_steps, g_fresh, g_reused, g_peak, g_resultCell, g_resultNum, g_seen, b_firstOf, b_arityOf, b_maskOf, b_kindOf, b_numOf, b_scopeOf, b_aOf, b_bOf, b_cur, b_spare, b_varCell, b_varNum, b_borrowed, b_tagOf, b_fieldCell, b_fieldNum, M, b_digestOf) (nI x)))
    (hval : ∀ x, x < 240 → ¬ b_varCell x = 0 → ∃ c, c < 160 ∧ b_varNum x = nI c)
    (hp : ∀ M, ym_m M → (∀ c, c < 160 → (¬ M c = 0 ↔ (¬ M0 c = 0 ∨ ∃ y, y < N * 12 ∧ rt y = true ∧ ¬ b_varCell y = 0 ∧ b_varNum y = nI c))) → ∃ n, wY_mark_139 post g_cap g_most g_functions g_open g_stored g_scope g_state g_bits (nI N) g_steps g_fresh g_reused g_peak g_resultCell g_resultNum g_seen n 1 0 b_firstOf b_arityOf b_maskOf b_kindOf b_numOf b_scopeOf b_aOf b_bOf b_cur b_spare b_varCell b_varNum b_borrowed b_tagOf b_fieldCell b_fieldNum M b_digestOf) :
    ∀ (k n x : Nat) (M : Nat → Int32), x + k = N * 12 → k < n → ym_m M → (∀ c, c < 160 → (¬ M c = 0 ↔ (¬ M0 c = 0 ∨ ∃ y, y < x ∧ rt y = true ∧ ¬ b_varCell y = 0 ∧ b_varNum y = nI c))) →
      wY_mark_74 post x1 g_cap g_most g_functions g_open g_stored g_scope g_state g_bits (nI N) g_steps g_fresh g_reused g_peak g_resultCell g_resultNum g_seen n (nI x) b_firstOf b_arityOf b_maskOf b_kindOf b_numOf b_scopeOf b_aOf b_bOf b_cur b_spare b_varCell b_varNum b_borrowed b_tagOf b_fieldCell b_fieldNum M b_digestOf := by
  intro k
  induction k with
  | zero =>
    intro n x M hx hn hm hM
    obtain ⟨n, rfl⟩ : ∃ m, n = m + 1 := ⟨n - 1, by omega⟩
    have : x = N * 12 := by omega
    subst this
    exact br_t (by rw [show (12 : Int32) = nI 12 from rfl, pk_mul]; exact Int32.le_refl _) (hp M hm hM)
  | succ k ih =>
    intro n x M hx hn hm hM
    obtain ⟨n, rfl⟩ : ∃ m, n = m + 1 := ⟨n - 1, by omega⟩
    have skip : (¬ (rt x = true ∧ ¬ b_varCell x = 0)) → wY_mark_74 post x1 g_cap g_most g_functions g_open g_stored g_scope g_state g_bits (nI N) g_steps g_fresh g_reused g_peak g_resultCell g_resultNum g_seen n (nI (x + 1)) b_firstOf b_arityOf b_maskOf b_kindOf b_numOf b_scopeOf b_aOf b_bOf b_cur b_spare b_varCell b_varNum b_borrowed b_tagOf b_fieldCell b_fieldNum M b_digestOf := fun hs => by
      refine ih n (x + 1) M (by omega) (by omega) hm (fun c hc => ?_)
      rw [hM c hc]
      constructor
      · rintro (h | ⟨y, h1, h2⟩)
        · exact Or.inl h
        · exact Or.inr ⟨y, by omega, h2⟩
      · rintro (h | ⟨y, h1, h2⟩)
        · exact Or.inl h
        · by_cases e : y = x
          · rw [e] at h2; exact absurd ⟨h2.1, h2.2.1⟩ hs
          · exact Or.inr ⟨y, by omega, h2⟩
    refine br_f (by rw [show (12 : Int32) = nI 12 from rfl, pk_mul]; exact nI_ge (by omega) (by omega)) ⟨vp_in_nI (by omega) (by omega), ?_⟩
    rw [nI_clamp (show x < 2 ^ 31 by omega)]
    refine br_c (fun z => nm_r (nI_1 x) (skip (fun q => q.2 z))) (fun z => ?_)
    obtain ⟨c, hc, ec⟩ := hval x (by omega) z
    have tk : rt x = true → wY_mark_74 post x1 g_cap g_most g_functions g_open g_stored g_scope g_state g_bits (nI N) g_steps g_fresh g_reused g_peak g_resultCell g_resultNum g_seen n (nI (x + 1)) b_firstOf b_arityOf b_maskOf b_kindOf b_numOf b_scopeOf b_aOf b_bOf b_cur b_spare b_varCell b_varNum b_borrowed b_tagOf b_fieldCell b_fieldNum (upd M c 1) b_digestOf := fun hr => by
      refine ih n (x + 1) (upd M c 1) (by omega) (by omega) (ym_mu hm (Or.inr rfl)) (fun d hd => ?_)
      by_cases e : d = c
      · rw [e, pk_us]
        exact ⟨fun _ => Or.inr ⟨x, by omega, hr, z, ec⟩, fun _ => by decide⟩
      · rw [pk_un e, hM d hd]
        constructor
        · rintro (h | ⟨y, h1, h2⟩)
          · exact Or.inl h
          · exact Or.inr ⟨y, by omega, h2⟩
        · rintro (h | ⟨y, h1, h2⟩)
          · exact Or.inl h
          · by_cases e2 : y = x
            · rw [e2, ec, nI_eq (by omega) (by omega)] at h2
              exact absurd h2.2.2.symm e
            · exact Or.inr ⟨y, by omega, h2⟩
    refine br_c (fun hx1 => ?_) (fun hx1 => ?_)
    · refine (hW M x _ (by omega) ?_).1 hx1
      cases hr : rt x
      · exact br_t rfl (nm_r (nI_1 x) (skip (fun q => by rw [hr] at q; exact absurd q.1 (by decide))))
      · exact br_f (by decide) (ym_117 (g_frames := nI N) (b_marked := M) (by omega) hc ec (tk hr))
    · refine (hW M x _ (by omega) ?_).2 hx1
      cases hr : rt x
      · exact br_t rfl (nm_r (nI_1 x) (skip (fun q => by rw [hr] at q; exact absurd q.1 (by decide))))
      · exact br_f (by decide) (ym_117 (g_frames := nI N) (b_marked := M) (by omega) hc ec (tk hr))
theorem ym_mark {post : Int32 → SY → Prop} {x1 : Int32} {N : Nat} {rt G : Nat → Bool} (hN : N ≤ 20)
    (hW : ∀ M x (Q : Int32 → Prop), x < N * 12 → Q (rc_b (rt x)) → (x1 = 0 → wpY_needed Q (g_cap, g_most, g_functions, g_open, g_stored, g_scope, g_state, g_bits, nI N, g_steps, g_fresh, g_reused, g_peak, g_resultCell, g_resultNum, g_seen, b_firstOf, b_arityOf, b_maskOf, b_kindOf, b_numOf, b_scopeOf, b_aOf, b_bOf, b_cur, b_spare, b_varCell, b_varNum, b_borrowed, b_tagOf, b_fieldCell, b_fieldNum, M, b_digestOf) (nI x)) ∧ (¬ x1 = 0 → wpY_holds Q (g_cap, g_most, g_functions, g_open, g_stored, g_scope, g_state, g_bits, nI N, g_steps, g_fresh, g_reused, g_peak, g_resultCell, g_resultNum, g_seen, b_firstOf, b_arityOf, b_maskOf, b_kindOf, b_numOf, b_scopeOf, b_aOf, b_bOf, b_cur, b_spare, b_varCell, b_varNum, b_borrowed, b_tagOf, b_fieldCell, b_fieldNum, M, b_digestOf) (nI x)))
    (hval : ∀ x, x < 240 → ¬ b_varCell x = 0 → ∃ c, c < 160 ∧ b_varNum x = nI c) (hok : ym_ok b_fieldCell b_fieldNum)
    (hres : g_state = 2 → ¬ g_resultCell = 0 → ∃ c, c < 160 ∧ g_resultNum = nI c)
    (hG1 : ∀ c, c < 160 → ym_R x1 g_state g_bits g_fresh g_resultCell g_resultNum b_varCell b_varNum N rt c → G c = true)
    (hG2 : ym_cl b_fieldCell b_fieldNum (fun c => G c = true))
    (hG3 : ∀ P : Nat → Prop, ym_cl b_fieldCell b_fieldNum P → (∀ c, c < 160 → ym_R x1 g_state g_bits g_fresh g_resultCell g_resultNum b_varCell b_varNum N rt c → P c) → ∀ c, c < 160 → G c = true → P c)
    (hp : ∀ M, (∀ c, c < 160 → M c = rc_b (G c)) → post (nI (rc_sm (fun c => if G c = true then 1 else 0) 160)) (g_cap, g_most, g_functions, g_open, g_stored, g_scope, g_state, g_bits, nI N, g_steps, g_fresh, g_reused, g_peak, g_resultCell, g_resultNum, g_seen, b_firstOf, b_arityOf, b_maskOf, b_kindOf, b_numOf, b_scopeOf, b_aOf, b_bOf, b_cur, b_spare, b_varCell, b_varNum, b_borrowed, b_tagOf, b_fieldCell, b_fieldNum, M, b_digestOf)) :
    wpY_mark post (g_cap, g_most, g_functions, g_open, g_stored, g_scope, g_state, g_bits, nI N, g_steps, g_fresh, g_reused, g_peak, g_resultCell, g_resultNum, g_seen, b_firstOf, b_arityOf, b_maskOf, b_kindOf, b_numOf, b_scopeOf, b_aOf, b_bOf, b_cur, b_spare, b_varCell, b_varNum, b_borrowed, b_tagOf, b_fieldCell, b_fieldNum, b_marked, b_digestOf) x1 := by
  have fin : ∀ M1, ym_m M1 → (∀ c, c < 160 → (¬ M1 c = 0 ↔ ym_R x1 g_state g_bits g_fresh g_resultCell g_resultNum b_varCell b_varNum N rt c)) → ∃ n, wY_mark_139 post g_cap g_most g_functions g_open g_stored g_scope g_state g_bits (nI N) g_steps g_fresh g_reused g_peak g_resultCell g_resultNum g_seen n 1 0 b_firstOf b_arityOf b_maskOf b_kindOf b_numOf b_scopeOf b_aOf b_bOf b_cur b_spare b_varCell b_varNum b_borrowed b_tagOf b_fieldCell b_fieldNum M1 b_digestOf := by
    intro M1 hm1 hM1
    refine ⟨161, ym_139 (g_frames := nI N) (M0 := M1) hok (fun M hm hM hcl hP => ?_) 160 161 0 1 M1 (by omega) (by omega) hm1 (fun _ h => h) (fun _ _ h => h) (Or.inr ⟨rfl, by omega⟩)⟩
    have hiff : ∀ c, c < 160 → (¬ M c = 0 ↔ G c = true) := fun c hc =>
      ⟨fun h => hP (fun c => G c = true) hG2 (fun d hd h2 => hG1 d hd ((hM1 d hd).mp h2)) c hc h,
       fun h => hG3 (fun c => ¬ M c = 0) hcl (fun d hd h2 => hM d ((hM1 d hd).mpr h2)) c hc h⟩
    have hn : ym_n M = rc_sm (fun c => if G c = true then 1 else 0) 160 := rc_sm_eq 160 (fun c hc => by
      by_cases z : G c = true
      · rw [if_pos z, if_neg ((hiff c hc).mpr z)]
      · rw [if_neg z, if_pos (by
          rcases hm c hc with q | q
          · exact q
          · exact absurd ((hiff c hc).mp (by rw [q]; decide)) z)])
    rw [hn]
    refine hp M (fun c hc => ?_)
    rcases hm c hc with q | q
    · have : G c = false := by
        cases z : G c
        · rfl
        · exact absurd q ((hiff c hc).mpr z)
      rw [this, q]; rfl
    · rw [(hiff c hc).mp (by rw [q]; decide), q]; rfl
  have mid : ∀ M0, ym_m M0 → (∀ c, c < 160 → (¬ M0 c = 0 ↔ ((¬ x1 = 0 ∧ ¬ (g_bits &&& 4) = 0 ∧ ¬ g_fresh ≤ nI c) ∨ (g_state = 2 ∧ ¬ g_resultCell = 0 ∧ g_resultNum = nI c)))) → ∃ n, wY_mark_74 post x1 g_cap g_most g_functions g_open g_stored g_scope g_state g_bits (nI N) g_steps g_fresh g_reused g_peak g_resultCell g_resultNum g_seen n 0 b_firstOf b_arityOf b_maskOf b_kindOf b_numOf b_scopeOf b_aOf b_bOf b_cur b_spare b_varCell b_varNum b_borrowed b_tagOf b_fieldCell b_fieldNum M0 b_digestOf := by
    intro M0 hm0 hM0
    refine ⟨N * 12 + 1, ym_74 (M0 := M0) hN hW hval (fun M hm hM => fin M hm (fun c hc => ?_)) (N * 12) (N * 12 + 1) 0 M0 (by omega) (by omega) hm0 (fun c hc => ⟨Or.inl, ?_⟩)⟩
    · rw [hM c hc, hM0 c hc]
      unfold ym_R
      constructor
      · rintro ((h | h) | h)
        · exact Or.inl h
        · exact Or.inr (Or.inl h)
        · exact Or.inr (Or.inr h)
      · rintro (h | h | h)
        · exact Or.inl (Or.inl h)
        · exact Or.inl (Or.inr h)
        · exact Or.inr h
    · rintro (h | ⟨y, hy, _⟩)
      · exact h
      · omega
  have lp : ∀ (k n i : Nat) (M : Nat → Int32), i + k = 160 → k < n → (∀ c, c < i → (M c = 0 ∨ M c = 1) ∧ (¬ M c = 0 ↔ (¬ x1 = 0 ∧ ¬ (g_bits &&& 4) = 0 ∧ ¬ g_fresh ≤ nI c))) → wY_mark_2 post x1 g_cap g_most g_functions g_open g_stored g_scope g_state g_bits (nI N) g_steps g_fresh g_reused g_peak g_resultCell g_resultNum g_seen n (nI i) b_firstOf b_arityOf b_maskOf b_kindOf b_numOf b_scopeOf b_aOf b_bOf b_cur b_spare b_varCell b_varNum b_borrowed b_tagOf b_fieldCell b_fieldNum M b_digestOf := by
    intro k
    induction k with
    | zero =>
      intro n i M hi hn hM
      obtain ⟨n, rfl⟩ : ∃ m, n = m + 1 := ⟨n - 1, by omega⟩
      have : i = 160 := by omega
      subst this
      refine br_t (Int32.le_refl _) (br_c (fun hs => br_c (fun hr => ?_) (fun hr => ?_)) (fun hs => ?_))
      · refine mid M (fun c hc => (hM c hc).1) (fun c hc => ?_)
        rw [(hM c hc).2]
        exact ⟨Or.inl, fun h => h.elim id (fun q => absurd hr q.2.1)⟩
      · obtain ⟨c, hc, ec⟩ := hres hs hr
        rw [ec, nI_clamp (show c < 2 ^ 31 by omega)]
        refine ⟨vp_in_nI hc (by omega), nm_r (e' := upd M c 1) (by rw [rc_nar1]) ?_⟩
        have := mid (upd M c 1) (ym_mu (fun c hc => (hM c hc).1) (Or.inr rfl)) (fun d hd => ?_)
        · rw [ec] at this; exact this
        · by_cases e : d = c
          · rw [e, pk_us]
            exact ⟨fun _ => Or.inr ⟨hs, hr, ec⟩, fun _ => by decide⟩
          · rw [pk_un e, (hM d hd).2]
            refine ⟨Or.inl, fun h => h.elim id (fun q => ?_)⟩
            have := q.2.2
            rw [ec, nI_eq (by omega) (by omega)] at this
            exact absurd this.symm e
      · refine mid M (fun c hc => (hM c hc).1) (fun c hc => ?_)
        rw [(hM c hc).2]
        exact ⟨Or.inl, fun h => h.elim id (fun q => absurd q.1 hs)⟩
    | succ k ih =>
      intro n i M hi hn hM
      obtain ⟨n, rfl⟩ : ∃ m, n = m + 1 := ⟨n - 1, by omega⟩
      have put : ∀ w : Int32, (w = 0 ∨ w = 1) → (¬ w = 0 ↔ (¬ x1 = 0 ∧ ¬ (g_bits &&& 4) = 0 ∧ ¬ g_fresh ≤ nI i)) → wY_mark_2 post x1 g_cap g_most g_functions g_open g_stored g_scope g_state g_bits (nI N) g_steps g_fresh g_reused g_peak g_resultCell g_resultNum g_seen n (nI (i + 1)) b_firstOf b_arityOf b_maskOf b_kindOf b_numOf b_scopeOf b_aOf b_bOf b_cur b_spare b_varCell b_varNum b_borrowed b_tagOf b_fieldCell b_fieldNum (upd M i w) b_digestOf := fun w hw1 hw2 => by
        refine ih n (i + 1) (upd M i w) (by omega) (by omega) (fun c hc => ?_)
        by_cases e : c = i
        · rw [e, pk_us]; exact ⟨hw1, hw2⟩
        · rw [pk_un e]; exact hM c (by omega)
      refine br_f (nI_ge (b := 160) (by omega) (by omega)) ?_
      rw [nI_clamp (show i < 2 ^ 31 by omega)]
      have hin : vp_in (nI i) 160 := vp_in_nI (by omega) (by omega)
      refine br_c (fun h1 => ⟨hin, nm_r (e' := upd M i 0) (by rw [rc_nar0]) (nm_r (nI_1 i) (put 0 (Or.inl rfl) ⟨fun h => absurd rfl h, fun h => absurd h1 h.1⟩))⟩) (fun h1 => br_c (fun h2 => ⟨hin, nm_r (e' := upd M i 0) (by rw [rc_nar0]) (nm_r (nI_1 i) (put 0 (Or.inl rfl) ⟨fun h => absurd rfl h, fun h => absurd h2 h.2.1⟩))⟩) (fun h2 => br_c (fun h3 => ⟨hin, nm_r (e' := upd M i 0) (by rw [rc_nar0]) (nm_r (nI_1 i) (put 0 (Or.inl rfl) ⟨fun h => absurd rfl h, fun h => absurd h3 h.2.2⟩))⟩) (fun h3 => ⟨hin, nm_r (e' := upd M i 1) (by rw [rc_nar1]) (nm_r (nI_1 i) (put 1 (Or.inr rfl) ⟨fun _ => ⟨h1, h2, h3⟩, fun _ => by decide⟩))⟩)))
  exact ⟨161, lp 160 161 0 b_marked (by omega) (by omega) (fun c hc => by omega)⟩
end
end
section
/-! ===== the complete text ===== -/
def ct_C (ar mk sa kd ex lf rt sp us bo ln ot fr af bd aO bO : Nat → Int32) (sc : Nat → Nat) (bw : Nat → Int32) (cm b : Nat) : Prop :=
  b ≤ 96 ∧ cm ≤ 6 ∧
  (∀ i, i < b → ∃ e, e ≤ b ∧ tx_T kd i e) ∧
  (∀ i, i < b → tx_W ar mk kd ex lf rt sp us bo ln ot aO bO sc bw cm b i) ∧
  (∀ i, i < b → tx_A kd us fr af bd sc i) ∧
  (∀ g, g < cm → ∃ s, s < b ∧ sa g = nI s ∧ ar g = nI (sc s) ∧ sc s ≤ 2 ∧ mk g = bw s)
section
variable {ar mk sa kd ex lf rt sp us bo ln ot fr af bd aO bO : Nat → Int32} {sc : Nat → Nat} {bw : Nat → Int32} {cm b : Nat}
theorem ct_F (C : ct_C ar mk sa kd ex lf rt sp us bo ln ot fr af bd aO bO sc bw cm b) {i e v : Nat} (he : e ≤ b) (T : tx_T kd i e) (hv : v < 32) :
    bt (fr i) v = true ↔ (v < sc i ∧ tx_mn aO bO v i e) := tx_F C.2.2.2.1 C.2.2.2.2.1 v hv e i e (by omega) he T
/-- what follows a call, or another row that binds one variable -/
theorem ct_nx (C : ct_C ar mk sa kd ex lf rt sp us bo ln ot fr af bd aO bO sc bw cm b) {i : Nat} (hi : i < b) (h : kd i = 0 ∨ kd i = 1 ∨ kd i = 2 ∨ kd i = 3) :
    ∃ e, e ≤ b ∧ tx_T kd i e ∧ tx_T kd (i + 1) e ∧ i + 1 < b := by
  obtain ⟨e, he, T⟩ := C.2.2.1 i hi
  obtain ⟨n4, n5, n6⟩ := tx_w0 h
  have T1 := tx_0 (tx_t0 n4 n5 n6) T
  have := T1.1
  exact ⟨e, he, T, T1, by omega⟩
theorem ct_br (C : ct_C ar mk sa kd ex lf rt sp us bo ln ot fr af bd aO bO sc bw cm b) {i : Nat} (hi : i < b) (h : kd i = 4 ∨ kd i = 5) :
    ∃ e m, e ≤ b ∧ m < b ∧ tx_T kd i e ∧ tx_T kd (i + 1) m ∧ tx_T kd m e ∧ i + 1 < b ∧ ot i = nI m ∧ sc m = sc i ∧ bw m = bw i := by
  obtain ⟨e, he, T⟩ := C.2.2.1 i hi
  have t1 : tx_t kd i = 1 := by rcases h with z | z; exact tx_t4 z; exact tx_t5 z
  obtain ⟨m, hm, T1, T2⟩ := tx_1 t1 T
  have := T1.1
  obtain ⟨w1, w2, w3⟩ := (C.2.2.2.1 i hi).2.2.2.2.2.2.2.2.2.2.2 h m T1 (by omega)
  exact ⟨e, m, he, by omega, T, T1, T2, by omega, w1, w2, w3⟩
theorem ct_nd (C : ct_C ar mk sa kd ex lf rt sp us bo ln ot fr af bd aO bO sc bw cm b) {s f n : Nat} (hs : s < b) (h3 : ¬ f + 1 = n → kd s = 3) :
    ∃ e, e ≤ b ∧ tx_T kd (if f + 1 = n then s else s + 1) e ∧ ∀ v, v < 32 → (bt (if f + 1 = n then fr s else af s) v = true ↔ (v < sc s ∧ tx_mn aO bO v (if f + 1 = n then s else s + 1) e)) := by
  by_cases z : f + 1 = n
  · obtain ⟨e, he, T⟩ := C.2.2.1 s hs
    refine ⟨e, he, by rw [if_pos z]; exact T, fun v hv => ?_⟩
    rw [if_pos z, if_pos z]
    exact ct_F C he T hv
  · have h := h3 z
    obtain ⟨e, he, T, T1, h1⟩ := ct_nx C hs (Or.inr (Or.inr (Or.inr h)))
    refine ⟨e, he, by rw [if_neg z]; exact T1, fun v hv => ?_⟩
    rw [if_neg z, if_neg z]
    have hA := ((C.2.2.2.2.1 s hs).2.2.2 (Or.inr (Or.inr (Or.inr h)))).1 v hv
    have hW := (C.2.2.2.1 s hs).2.2.2.2.2.2.2.2.1 (Or.inr (Or.inr (Or.inr h)))
    rw [hA, Bool.and_eq_true, ct_F C he T1 hv, hW.1, Bool.not_eq_true', decide_eq_false_iff_not]
    constructor
    · rintro ⟨⟨p, q⟩, r⟩; exact ⟨by omega, q⟩
    · rintro ⟨p, q⟩; exact ⟨⟨by omega, q⟩, by omega⟩
end
/-! ===== the run: masks of a frame ===== -/
def rr_need (fr af : Nat → Int32) (cu : Nat → Nat) (n f : Nat) : Int32 := if f + 1 = n then fr (cu f) else af (cu f)
def rr_lent (bor : Int32) (ln : Nat → Int32) (cu : Nat → Nat) (n f : Nat) : Int32 := if f + 1 = n ∨ bor = 0 then 0 else ln (cu f)
def rr_hold (bor : Int32) (fr af bo ln : Nat → Int32) (cu : Nat → Nat) (n f : Nat) : Int32 :=
  if f + 1 = n then xg_m bor (fr (cu f)) (bo (cu f)) else (if bor = 0 then af (cu f) else (af (cu f) &&& (bo (cu f) ^^^ (-1))) ||| ln (cu f))
/-- the held variables -/
def xr_H (n : Nat) (hd : Nat → Int32) : Nat → Bool := fun x => decide (x < n * 12) && bt (hd (x / 12)) (x % 12)
def xr_E (st : Int32) (res : Int64) : Nat → Nat := fun c => if st = 2 then rc_d res c else 0
/-- a value of X and its picture in Y -/
def rc_vr (L : Nat → Bool) (sg : Nat → Nat) (v : Int64) (cl nm : Int32) : Prop :=
  (cl = 0 ∧ v = nm.toInt64) ∨ (cl = 1 ∧ ∃ c, c < 160 ∧ L c = true ∧ v = rc_cv c ∧ nm = nI (sg c))
/-- frames -/
def rr_F (kd fr af bo ln : Nat → Int32) (bor : Int32) (cr hd : Nat → Int32) (cu : Nat → Nat) (b n : Nat) : Prop :=
  n ≤ 20 ∧ ∀ f, f < n → cr f = nI (cu f) ∧ cu f < b ∧ (f + 1 < n → kd (cu f) = 3) ∧ hd f = rr_hold bor fr af bo ln cu n f
/-- visible values -/
def rr_V (fr af ln : Nat → Int32) (bor : Int32) (cu : Nat → Nat) (n : Nat) (L : Nat → Bool) (sg : Nat → Nat) (vs : Nat → Int64) (vc vn : Nat → Int32) : Prop :=
  ∀ f v, f < n → v < 12 → (bt (rr_need fr af cu n f) v || bt (rr_lent bor ln cu n f) v) = true → rc_vr L sg (vs (f * 12 + v)) (vc (f * 12 + v)) (vn (f * 12 + v))
/-- borrowed flags -/
def rr_B (bo : Nat → Int32) (sc : Nat → Nat) (bor : Int32) (cu : Nat → Nat) (n : Nat) (yb : Nat → Int32) : Prop :=
  ∀ f v, f < n → v < sc (cu f) → yb (f * 12 + v) = rc_b (!decide (bor = 0) && bt (bo (cu f)) v)
/-- the least set of cells over roots -/
def rc_rch (fx sy : Nat → Int64) (rt : Nat → Prop) (c : Nat) : Prop :=
  ∀ P : Nat → Prop, (∀ q, q < 160 → rt q → P q) → (∀ d, d < 160 → P d → ∀ q, q < 160 → (fx d = rc_cv q ∨ sy d = rc_cv q) → P q) → P c
/-- a needed borrowed variable is held below its frame -/
def rr_Q (fr af bo : Nat → Int32) (bor : Int32) (cu : Nat → Nat) (n : Nat) (hd : Nat → Int32) (fx sy vs : Nat → Int64) : Prop :=
  ¬ bor = 0 → ∀ f v c, f < n → v < 12 → c < 160 → bt (rr_need fr af cu n f) v = true → bt (bo (cu f)) v = true → vs (f * 12 + v) = rc_cv c →
    rc_rch fx sy (fun q => ∃ x, x < f * 12 ∧ bt (hd (x / 12)) (x % 12) = true ∧ vs x = rc_cv q) c
/-- the heaps are alike -/
def rr_I (L : Nat → Bool) (sg rk : Nat → Nat) (fx sy : Nat → Int64) (tg dg tY fc fn : Nat → Int32) : Prop :=
  (∀ c, c < 160 → L c = true → sg c < 160 ∧ tY (sg c) = tg c ∧ rc_vr L sg (fx c) (fc (2 * sg c)) (fn (2 * sg c)) ∧ rc_vr L sg (sy c) (fc (2 * sg c + 1)) (fn (2 * sg c + 1)) ∧
    dg c = (((31 * xg_d dg (fx c)) + (1009 * xg_d dg (sy c))) + tg c) + 2 ∧ (∀ q, q < 160 → (fx c = rc_cv q ∨ sy c = rc_cv q) → rk q < rk c)) ∧
  (∀ c d, c < 160 → d < 160 → L c = true → L d = true → sg c = sg d → c = d)
/-- Y's values are valid -/
def rr_Y (vc vn yb fc fn : Nat → Int32) (rc rn : Int32) : Prop :=
  (∀ x, x < 240 → (vc x = 0 ∨ vc x = 1) ∧ (¬ vc x = 0 → ∃ c, c < 160 ∧ vn x = nI c) ∧ (yb x = 0 ∨ yb x = 1)) ∧
  (∀ x, x < 320 → (fc x = 0 ∨ fc x = 1) ∧ (¬ fc x = 0 → ∃ c, c < 160 ∧ fn x = nI c)) ∧ (rc = 0 ∨ rc = 1) ∧ (¬ rc = 0 → ∃ c, c < 160 ∧ rn = nI c)
/-- spares -/
def rr_P (kp cap spT : Int32) (sX sY : Nat → Int32) (sp : Nat → Nat) (n lv cp : Nat) : Prop :=
  (∀ f, f < n → sX f = nI (sp f) ∧ sY f = nI (sp f)) ∧ spT = nI (rc_sm sp n) ∧ (kp = 0 → lv + rc_sm sp n ≤ cp) ∧ (¬ kp = 0 → ∀ f, f < n → sp f = 0) ∧ cap = nI cp ∧ 2 ≤ cp ∧ cp ≤ 64
/-- modes -/
def rr_M (kp bor reu bits : Int32) : Prop :=
  (kp = 0 ∨ kp = 1) ∧ (bor = 0 ∨ bor = 1) ∧ (reu = 0 ∨ reu = 1) ∧ bt bits 0 = !decide (bor = 0) ∧ bt bits 1 = !decide (reu = 0) ∧ bt bits 2 = !decide (kp = 0) ∧ (¬ kp = 0 → bor = 0 ∧ reu = 0)
/-- live cells: held, and nothing else; kept: the first ones -/
def rr_L (kp : Int32) (L : Nat → Bool) (fx sy vs : Nat → Int64) (H : Nat → Bool) (E : Nat → Nat) (lv : Nat) : Prop :=
  (kp = 0 → ∀ x c, x < 240 → c < 160 → H x = true → vs x = rc_cv c → L c = true) ∧ (kp = 0 → ∀ c, c < 160 → 0 < E c → L c = true) ∧
  (∀ d c, d < 160 → c < 160 → L d = true → (fx d = rc_cv c ∨ sy d = rc_cv c) → L c = true) ∧
  (kp = 0 → ∀ c, c < 160 → L c = true → (∃ x, x < 240 ∧ H x = true ∧ vs x = rc_cv c) ∨ 0 < E c ∨ ∃ d, d < 160 ∧ L d = true ∧ (fx d = rc_cv c ∨ sy d = rc_cv c)) ∧
  (¬ kp = 0 → ∀ c, c < 160 → (L c = true ↔ c < lv)) ∧ lv = rc_sm (fun c => if L c = true then 1 else 0) 160 ∧
  (∀ d, d < 160 → L d = true → rc_gv (fx d) ∧ rc_gv (sy d))
theorem rr_LS {kp : Int32} {L : Nat → Bool} {fx sy vs : Nat → Int64} {H : Nat → Bool} {E : Nat → Nat} {cnt pl wk : Nat → Int32} {lv : Nat}
    (S : hx_S kp L fx sy vs H E cnt pl lv wk) : rr_L kp L fx sy vs H E lv := by
  refine ⟨fun hk x c hx hc hH e => (hp_dead (S.1 hk) hc).2.mpr (hp_Krt hx hH e), fun hk c hc h => (hp_dead (S.1 hk) hc).2.mpr (hp_KEx h), fun d c hd hc hL h => hx_ch S hd hc hL h, fun hk c hc hL => hp_Kx ((hp_dead (S.1 hk) hc).2.mp hL), fun hk => (S.2 hk).2.1, (hx_lv S).1, fun d hd hL => hx_gv S hd hL⟩
/-- live cells are reachable from the holders -/
theorem rr_reach {L : Nat → Bool} {fx sy vs : Nat → Int64} {H : Nat → Bool} {E rk : Nat → Nat} {N : Nat} {P : Nat → Prop}
    (h4 : ∀ c, c < 160 → L c = true → (∃ x, x < 240 ∧ H x = true ∧ vs x = rc_cv c) ∨ 0 < E c ∨ ∃ d, d < 160 ∧ L d = true ∧ (fx d = rc_cv c ∨ sy d = rc_cv c))
    (hr : ∀ c, c < 160 → L c = true → ∀ q, q < 160 → (fx c = rc_cv q ∨ sy c = rc_cv q) → rk q < rk c) (hN : ∀ c, c < 160 → L c = true → rk c < N)
    (hP1 : ∀ c, c < 160 → L c = true → ((∃ x, x < 240 ∧ H x = true ∧ vs x = rc_cv c) ∨ 0 < E c) → P c)
    (hP2 : ∀ d, d < 160 → L d = true → P d → ∀ c, c < 160 → L c = true → (fx d = rc_cv c ∨ sy d = rc_cv c) → P c) :
    ∀ c, c < 160 → L c = true → P c := by
  have key : ∀ k c, c < 160 → L c = true → N ≤ rk c + k → P c := by
    intro k
    induction k with
    | zero => intro c hc hL h; have := hN c hc hL; omega
    | succ k ih =>
      intro c hc hL h
      rcases h4 c hc hL with z | z | ⟨d, hd, hLd, hdc⟩
      · exact hP1 c hc hL (Or.inl z)
      · exact hP1 c hc hL (Or.inr z)
      · have := hr d hd hLd c hc hdc
        exact hP2 d hd hLd (ih d hd hLd (by omega)) c hc hL hdc
  exact fun c hc hL => key N c hc hL (by omega)
theorem rc_vr_n {L : Nat → Bool} {sg : Nat → Nat} {v : Int64} {cl nm : Int32} (h : rc_vr L sg v cl nm) (hc : cl = 0) : v = nm.toInt64 := by
  rcases h with ⟨_, h⟩ | ⟨h, _⟩
  · exact h
  · rw [hc] at h; exact absurd h (by decide)
theorem rc_vr_c {L : Nat → Bool} {sg : Nat → Nat} {v : Int64} {cl nm : Int32} (h : rc_vr L sg v cl nm) (hc : ¬ cl = 0) : ∃ c, c < 160 ∧ L c = true ∧ v = rc_cv c ∧ nm = nI (sg c) := by
  rcases h with ⟨h, _⟩ | ⟨_, h⟩
  · exact absurd h hc
  · exact h
theorem rc_vr_g {L : Nat → Bool} {sg : Nat → Nat} {v : Int64} {cl nm : Int32} (h : rc_vr L sg v cl nm) : rc_gv v ∧ ∀ c, c < 160 → v = rc_cv c → L c = true := by
  rcases h with ⟨_, h⟩ | ⟨_, c, hc, hL, h, _⟩
  · rw [h]; exact ⟨Or.inl (rc_nv_lt _), fun c hc e => absurd e (rc_nv_cv (by omega))⟩
  · rw [h]; exact ⟨Or.inr ⟨c, hc, rfl⟩, fun d hd e => by rw [← rc_cv_inj (by omega) (by omega) e]; exact hL⟩
/-- a cell seen from both sides -/
theorem rc_vr_i {L : Nat → Bool} {sg : Nat → Nat} {v : Int64} {cl nm : Int32} {c : Nat} (h : rc_vr L sg v cl nm) (hc : c < 160) (hL : L c = true) (hs : ∀ c, c < 160 → L c = true → sg c < 160)
    (hi : ∀ c d, c < 160 → d < 160 → L c = true → L d = true → sg c = sg d → c = d) : (¬ cl = 0 ∧ nm = nI (sg c)) ↔ v = rc_cv c := by
  rcases h with ⟨h0, h⟩ | ⟨h0, d, hd, hLd, h, h2⟩
  · rw [h]; exact ⟨fun z => absurd h0 z.1, fun z => absurd z (rc_nv_cv (by omega))⟩
  · rw [h, h2]
    constructor
    · rintro ⟨_, z⟩
      have h1 := hs c hc hL
      have h3 := hs d hd hLd
      rw [nI_eq (by omega) (by omega)] at z
      rw [hi d c hd hc hLd hL z]
    · intro z
      rw [rc_cv_inj (by omega) (by omega) z]
      exact ⟨by rw [h0]; decide, rfl⟩
/-- the relation of values under a smaller live set that still holds the cell -/
theorem rc_vr_m {L L' : Nat → Bool} {sg : Nat → Nat} {v : Int64} {cl nm : Int32} (h : rc_vr L sg v cl nm) (hL : ∀ c, c < 160 → v = rc_cv c → L c = true → L' c = true) : rc_vr L' sg v cl nm := by
  rcases h with h | ⟨h0, c, hc, hLc, h, h2⟩
  · exact Or.inl h
  · exact Or.inr ⟨h0, c, hc, hL c hc h hLc, h, h2⟩
end
section
/-! ===== Y: needed, lent, holds, mark in a related state ===== -/
theorem rr_hb {bor : Int32} {fr af bo ln : Nat → Int32} {cu : Nat → Nat} {n f v : Nat} (hv : v < 32) :
    bt (rr_hold bor fr af bo ln cu n f) v = ((bt (rr_need fr af cu n f) v && !(!decide (bor = 0) && bt (bo (cu f)) v)) || bt (rr_lent bor ln cu n f) v) := by
  unfold rr_hold rr_need rr_lent xg_m
  by_cases h1 : f + 1 = n
  · rw [if_pos h1, if_pos h1, if_pos (Or.inl h1), b_0, Bool.or_false]
    by_cases h2 : bor = 0
    · rw [if_pos h2, decide_eq_true h2]; simp
    · rw [if_neg h2, decide_eq_false h2, b_and, rc_not _ hv]; simp
  · rw [if_neg h1, if_neg h1]
    by_cases h2 : bor = 0
    · rw [if_pos h2, if_pos (Or.inr h2), decide_eq_true h2, b_0]; simp
    · rw [if_neg h2, if_neg (fun z => z.elim h1 h2), decide_eq_false h2, b_or, b_and, rc_not _ hv]; simp
theorem rr_m1 {v : Nat} (hv : v < 2 ^ 31) : ¬ (-1 : Int32) = nI v := by
  intro q
  have := congrArg Int32.toInt q
  rw [nI_toInt hv] at this
  have e1 : (-1 : Int32).toInt = -1 := by decide
  omega
section
variable {g_cap g_most g_functions g_open g_stored g_scope g_state g_bits g_frames g_steps g_fresh g_reused g_peak g_resultCell g_resultNum g_seen : Int32} {b_firstOf b_arityOf b_maskOf b_kindOf b_numOf b_scopeOf b_aOf b_bOf b_cur b_spare b_varCell b_varNum b_borrowed b_tagOf b_fieldCell b_fieldNum b_marked b_digestOf : Nat → Int32}
variable {lf rt us bo ln ot fr af bd hd : Nat → Int32} {sc cu : Nat → Nat} {bw : Nat → Int32} {cm b n st : Nat} {bor : Int32}
theorem yr_needed {post : Int32 → Prop} {f v : Nat} (C : ct_C b_arityOf b_maskOf b_firstOf b_kindOf b_numOf lf rt b_scopeOf us bo ln ot fr af bd b_aOf b_bOf sc bw cm b)
    (F : rr_F b_kindOf fr af bo ln bor b_cur hd cu b n) (hb : b ≤ st) (hst : st ≤ 96) (hf : f < n) (hv : v < 12) (h : post (rc_b (bt (rr_need fr af cu n f) v))) : wpY_needed post (g_cap, g_most, g_functions, g_open, nI st, g_scope, g_state, g_bits, nI n, g_steps, g_fresh, g_reused, g_peak, g_resultCell, g_resultNum, g_seen, b_firstOf, b_arityOf, b_maskOf, b_kindOf, b_numOf, b_scopeOf, b_aOf, b_bOf, b_cur, b_spare, b_varCell, b_varNum, b_borrowed, b_tagOf, b_fieldCell, b_fieldNum, b_marked, b_digestOf) (nI (f * 12 + v)) := by
  obtain ⟨f1, f2, f3, f4⟩ := F.2 f hf
  obtain ⟨e, he, T, hm⟩ := ct_nd C (f := f) (n := n) f2 (fun z => f3 (by omega))
  have w := (C.2.2.2.1 (cu f) f2).2.1
  have := C.1
  exact yw_needed (m := rr_need fr af cu n f) hf F.1 (by omega) f1 w.1 w.2.2.1 hv hst T (by omega) (hm v (by omega)) h
/-- the bits of a mask of a frame are below its scope -/
theorem yr_lt (C : ct_C b_arityOf b_maskOf b_firstOf b_kindOf b_numOf lf rt b_scopeOf us bo ln ot fr af bd b_aOf b_bOf sc bw cm b)
    (F : rr_F b_kindOf fr af bo ln bor b_cur hd cu b n) {f v : Nat} (hf : f < n) (hv : v < 32) :
    (bt (rr_need fr af cu n f) v = true → v < sc (cu f)) ∧ (bt (rr_lent bor ln cu n f) v = true → v < sc (cu f) ∧ bt (bo (cu f)) v = false ∧ ¬ bor = 0) := by
  obtain ⟨f1, f2, f3, f4⟩ := F.2 f hf
  obtain ⟨e, he, T, hm⟩ := ct_nd C (f := f) (n := n) f2 (fun z => f3 (by omega))
  refine ⟨fun h => ((hm v hv).mp h).1, fun h => ?_⟩
  unfold rr_lent at h
  by_cases z : f + 1 = n ∨ bor = 0
  · rw [if_pos z, b_0] at h; exact absurd h (by decide)
  · rw [if_neg z] at h
    obtain ⟨-, w2, w3, w4, -, -, -, w8, -⟩ := C.2.2.2.1 (cu f) f2
    obtain ⟨g, g1, g2, g3, g4, g5⟩ := w8 (f3 (by omega))
    obtain ⟨p, q⟩ := (g5 v hv).mp h
    refine ⟨?_, by rw [w2.2.1]; exact p, fun y => z (Or.inr y)⟩
    rcases q with ⟨q, -⟩ | ⟨q, -⟩
    · rcases w3 with ⟨a, -⟩ | ⟨a, ha, ea, -⟩
      · rw [a] at q; exact absurd q (rr_m1 (by omega))
      · rw [ea, nI_eq (by omega) (by omega)] at q; omega
    · rcases w4 with ⟨a, -⟩ | ⟨a, ha, ea, -⟩
      · rw [a] at q; exact absurd q (rr_m1 (by omega))
      · rw [ea, nI_eq (by omega) (by omega)] at q; omega
theorem yr_lent {post : Int32 → Prop} {f v : Nat} (C : ct_C b_arityOf b_maskOf b_firstOf b_kindOf b_numOf lf rt b_scopeOf us bo ln ot fr af bd b_aOf b_bOf sc bw cm b)
    (F : rr_F b_kindOf fr af bo ln bor b_cur hd cu b n) (B : rr_B bo sc bor cu n b_borrowed) (hbit : bt g_bits 0 = !decide (bor = 0)) (hf : f < n) (hv : v < 12) (h : post (rc_b (bt (rr_lent bor ln cu n f) v))) :
    wpY_lent post (g_cap, g_most, g_functions, g_open, g_stored, g_scope, g_state, g_bits, nI n, g_steps, g_fresh, g_reused, g_peak, g_resultCell, g_resultNum, g_seen, b_firstOf, b_arityOf, b_maskOf, b_kindOf, b_numOf, b_scopeOf, b_aOf, b_bOf, b_cur, b_spare, b_varCell, b_varNum, b_borrowed, b_tagOf, b_fieldCell, b_fieldNum, b_marked, b_digestOf) (nI (f * 12 + v)) := by
  obtain ⟨f1, f2, f3, f4⟩ := F.2 f hf
  have hlt := yr_lt C F hf (v := v) (by omega)
  obtain ⟨-, w2, w3, w4, -, -, -, w8, -⟩ := C.2.2.2.1 (cu f) f2
  have hC1 := C.1
  have hnil : ¬ bt (rr_lent bor ln cu n f) v = true → bt (rr_lent bor ln cu n f) v = false := fun z => by
    cases q : bt (rr_lent bor ln cu n f) v
    · rfl
    · exact absurd q z
  have hg : f + 1 ≠ n → ∃ g, b_numOf (cu f) = nI g ∧ g < 6 ∧ ∀ v, v < 32 → (bt (ln (cu f)) v = true ↔ (bt (bw (cu f)) v = false ∧ (b_aOf (cu f) = nI v ∧ bt (b_maskOf g) 0 = true ∨ b_bOf (cu f) = nI v ∧ bt (b_maskOf g) 1 = true))) := fun z => by
    obtain ⟨g, g1, g2, g3, g4, g5⟩ := w8 (f3 (by omega))
    exact ⟨g, g3, g1, g5⟩
  by_cases z : f + 1 = n
  · refine yw_lent (g := 0) hf F.1 (by omega) f1 hv (fun q => absurd z q) (fun q => hnil (fun y => ?_)) (fun q => hnil (fun y => ?_)) (fun q => hnil (fun y => ?_)) (fun q1 q2 => absurd z q2) h
    · unfold rr_lent at y; rw [if_pos (Or.inl z), b_0] at y; exact absurd y (by decide)
    · unfold rr_lent at y; rw [if_pos (Or.inl z), b_0] at y; exact absurd y (by decide)
    · unfold rr_lent at y; rw [if_pos (Or.inl z), b_0] at y; exact absurd y (by decide)
  · obtain ⟨g, g1, g2, g3⟩ := hg z
    refine yw_lent (g := g) hf F.1 (by omega) f1 hv (fun _ => ⟨g1, g2⟩) (fun q => hnil (fun y => ?_)) (fun q => absurd q z) (fun q => hnil (fun y => ?_)) (fun q1 q2 q3 => ?_) h
    · have := (hlt.2 y).2.2
      rw [hbit] at q
      rw [decide_eq_false this] at q
      exact absurd q (by decide)
    · obtain ⟨y1, y2, y3⟩ := hlt.2 y
      have := B f v hf y1
      rw [y2, Bool.and_false] at this
      exact q this
    · have hbor : ¬ bor = 0 := fun y => by rw [hbit, decide_eq_true y] at q1; exact absurd q1 (by decide)
      have el : rr_lent bor ln cu n f = ln (cu f) := if_neg (fun y => y.elim z hbor)
      rw [el, g3 v (by omega)]
      refine ⟨fun y => y.2, fun y => ⟨?_, y⟩⟩
      have hvs : v < sc (cu f) := by
        rcases y with ⟨q, -⟩ | ⟨q, -⟩
        · rcases w3 with ⟨a, -⟩ | ⟨a, ha, ea, -⟩
          · rw [a] at q; exact absurd q (rr_m1 (by omega))
          · rw [ea, nI_eq (by omega) (by omega)] at q; omega
        · rcases w4 with ⟨a, -⟩ | ⟨a, ha, ea, -⟩
          · rw [a] at q; exact absurd q (rr_m1 (by omega))
          · rw [ea, nI_eq (by omega) (by omega)] at q; omega
      have := B f v hf hvs
      rw [q3, decide_eq_false hbor] at this
      rw [← w2.2.1]
      cases r : bt (bo (cu f)) v
      · rfl
      · rw [r] at this; exact absurd this (by decide)
theorem yr_holds {post : Int32 → Prop} {f v : Nat} (C : ct_C b_arityOf b_maskOf b_firstOf b_kindOf b_numOf lf rt b_scopeOf us bo ln ot fr af bd b_aOf b_bOf sc bw cm b)
    (F : rr_F b_kindOf fr af bo ln bor b_cur hd cu b n) (B : rr_B bo sc bor cu n b_borrowed) (hbit : bt g_bits 0 = !decide (bor = 0)) (hb : b ≤ st) (hst : st ≤ 96) (hf : f < n) (hv : v < 12) (h : post (rc_b (bt (hd f) v))) :
    wpY_holds post (g_cap, g_most, g_functions, g_open, nI st, g_scope, g_state, g_bits, nI n, g_steps, g_fresh, g_reused, g_peak, g_resultCell, g_resultNum, g_seen, b_firstOf, b_arityOf, b_maskOf, b_kindOf, b_numOf, b_scopeOf, b_aOf, b_bOf, b_cur, b_spare, b_varCell, b_varNum, b_borrowed, b_tagOf, b_fieldCell, b_fieldNum, b_marked, b_digestOf) (nI (f * 12 + v)) := by
  have hn := F.1
  have hlt := yr_lt C F hf (v := v) (by omega)
  have hB := fun q => B f v hf q
  rw [(F.2 f hf).2.2.2, rr_hb (by omega)] at h
  unfold wpY_holds
  (try dsimp only)
  rw [nI_clamp (show f * 12 + v < 2 ^ 31 by omega)]
  refine ⟨vp_in_nI (by omega) (by omega), br_c (fun z => ?_) (fun z => ?_)⟩
  · refine yr_needed C F hb hst hf hv ?_
    cases hnd : bt (rr_need fr af cu n f) v
    · rw [hnd, Bool.false_and, Bool.false_or] at h
      refine br_t rfl (yr_lent (g_stored := nI st) C F B hbit hf hv ?_)
      cases hl : bt (rr_lent bor ln cu n f) v
      · rw [hl] at h; exact br_t rfl h
      · rw [hl] at h; exact br_f (by decide) h
    · rw [hnd, Bool.true_and] at h
      have := hB (hlt.1 hnd)
      rw [z] at this
      have h2 : (!decide (bor = 0) && bt (bo (cu f)) v) = false := rc_bz.mp this.symm
      rw [h2] at h
      exact br_f (by decide) h
  · have hl : ¬ bt (rr_lent bor ln cu n f) v = true := fun y => by
      obtain ⟨y1, y2, y3⟩ := hlt.2 y
      have := hB y1
      rw [y2, Bool.and_false] at this
      exact z this
    have hl' : bt (rr_lent bor ln cu n f) v = false := by
      cases q : bt (rr_lent bor ln cu n f) v
      · rfl
      · exact absurd q hl
    rw [hl', Bool.or_false] at h
    cases hnd : bt (rr_need fr af cu n f) v
    · rw [hnd] at h; exact h
    · have := hB (hlt.1 hnd)
      have h2 : (!decide (bor = 0) && bt (bo (cu f)) v) = true := by
        cases q : (!decide (bor = 0) && bt (bo (cu f)) v)
        · rw [q] at this; exact absurd this z
        · rfl
      rw [hnd, h2] at h; exact h
/-- the picture of the live set in Y -/
noncomputable def ym_G (L : Nat → Bool) (sg : Nat → Nat) : Nat → Bool := fun c' => @decide (∃ c, c < 160 ∧ L c = true ∧ sg c = c') (Classical.propDecidable _)
theorem ym_Gi {L : Nat → Bool} {sg : Nat → Nat} {c' : Nat} : ym_G L sg c' = true ↔ ∃ c, c < 160 ∧ L c = true ∧ sg c = c' := by
  unfold ym_G; exact @decide_eq_true_iff _ (Classical.propDecidable _)
theorem ym_Gs {L : Nat → Bool} {sg : Nat → Nat} {c : Nat} (hc : c < 160) (hL : L c = true) : ym_G L sg (sg c) = true := ym_Gi.mpr ⟨c, hc, hL, rfl⟩
theorem ym_Gn {L : Nat → Bool} {sg : Nat → Nat} (h1 : ∀ c, c < 160 → L c = true → sg c < 160) (h2 : ∀ c d, c < 160 → d < 160 → L c = true → L d = true → sg c = sg d → c = d) :
    rc_sm (fun c => if ym_G L sg c = true then 1 else 0) 160 = rc_sm (fun c => if L c = true then 1 else 0) 160 :=
  rc_sm_map (M := ym_G L sg) (L := L) (s := sg) (g := fun _ => 1) (fun c hc hL => ⟨h1 c hc hL, ym_Gs hc hL⟩) h2 (fun c' _ h => ym_Gi.mp h)
theorem xr_Hx {n f v : Nat} {hd : Nat → Int32} (hf : f < n) (hv : v < 12) : xr_H n hd (f * 12 + v) = bt (hd f) v := by
  unfold xr_H
  rw [decide_eq_true (show f * 12 + v < n * 12 by omega), Bool.true_and, show (f * 12 + v) / 12 = f by omega, show (f * 12 + v) % 12 = v by omega]
theorem xr_Hn {n x : Nat} {hd : Nat → Int32} (h : xr_H n hd x = true) : x < n * 12 ∧ bt (hd (x / 12)) (x % 12) = true := by
  unfold xr_H at h
  rw [Bool.and_eq_true, decide_eq_true_iff] at h
  exact h
/-- what a step's mark finds: the picture of the live set -/
theorem yr_mark {post : Int32 → SY → Prop} {L : Nat → Bool} {sg rk : Nat → Nat} {fx sy vs : Nat → Int64} {tg dg : Nat → Int32} {kp reu : Int32} {res : Int64} {lv : Nat}
    (C : ct_C b_arityOf b_maskOf b_firstOf b_kindOf b_numOf lf rt b_scopeOf us bo ln ot fr af bd b_aOf b_bOf sc bw cm b)
    (F : rr_F b_kindOf fr af bo ln bor b_cur hd cu b n) (V : rr_V fr af ln bor cu n L sg vs b_varCell b_varNum) (B : rr_B bo sc bor cu n b_borrowed) (I : rr_I L sg rk fx sy tg dg b_tagOf b_fieldCell b_fieldNum)
    (Y : rr_Y b_varCell b_varNum b_borrowed b_fieldCell b_fieldNum g_resultCell g_resultNum) (M : rr_M kp bor reu g_bits)
    (Lv : rr_L kp L fx sy vs (xr_H n hd) (xr_E g_state res) lv) (hres : g_state = 2 → rc_vr L sg res g_resultCell g_resultNum) (hkp : ¬ kp = 0 → g_fresh = nI lv ∧ ∀ c, c < lv → sg c = c)
    (hb : b ≤ st) (hst : st ≤ 96)
    (hp : ∀ mk, (∀ c, c < 160 → mk c = rc_b (ym_G L sg c)) → post (nI lv) (g_cap, g_most, g_functions, g_open, nI st, g_scope, g_state, g_bits, nI n, g_steps, g_fresh, g_reused, g_peak, g_resultCell, g_resultNum, g_seen, b_firstOf, b_arityOf, b_maskOf, b_kindOf, b_numOf, b_scopeOf, b_aOf, b_bOf, b_cur, b_spare, b_varCell, b_varNum, b_borrowed, b_tagOf, b_fieldCell, b_fieldNum, mk, b_digestOf)) :
    wpY_mark post (g_cap, g_most, g_functions, g_open, nI st, g_scope, g_state, g_bits, nI n, g_steps, g_fresh, g_reused, g_peak, g_resultCell, g_resultNum, g_seen, b_firstOf, b_arityOf, b_maskOf, b_kindOf, b_numOf, b_scopeOf, b_aOf, b_bOf, b_cur, b_spare, b_varCell, b_varNum, b_borrowed, b_tagOf, b_fieldCell, b_fieldNum, b_marked, b_digestOf) 1 := by
  have hn := F.1
  obtain ⟨l1, l2, l3, l4, l5, l6, l7⟩ := Lv
  have hs1 : ∀ c, c < 160 → L c = true → sg c < 160 := fun c hc hL => (I.1 c hc hL).1
  have hlv : lv ≤ 160 := by
    have := rc_sm_le (f := fun c => if L c = true then 1 else 0) (m := 1) 160 (fun j _ => by (try dsimp only); split <;> omega)
    omega
  have hcnt := ym_Gn hs1 I.2
  rw [← l6] at hcnt
  rw [← hcnt] at hp
  have hHV : ∀ x, x < n * 12 → xr_H n hd x = true → rc_vr L sg (vs x) (b_varCell x) (b_varNum x) := fun x hx hH => by
    have h2 := (xr_Hn hH).2
    rw [(F.2 (x / 12) (by omega)).2.2.2, rr_hb (by omega)] at h2
    have := V (x / 12) (x % 12) (by omega) (by omega) (by
      cases q : bt (rr_need fr af cu n (x / 12)) (x % 12)
      · rw [q, Bool.false_and, Bool.false_or] at h2
        rw [h2, Bool.or_true]
      · rfl)
    rw [show x / 12 * 12 + x % 12 = x by omega] at this
    exact this
  have kin : (¬ (1 : Int32) = 0 ∧ ¬ (g_bits &&& 4) = 0) ↔ ¬ kp = 0 := by
    rw [yw_and4, M.2.2.2.2.2.1]
    by_cases z : kp = 0
    · rw [decide_eq_true z]; simp [z]
    · rw [decide_eq_false z]; simp [z]
  refine ym_mark (G := ym_G L sg) (rt := xr_H n hd) hn (fun mk x Q hx hQ => ⟨fun z => absurd z (by decide), fun _ => ?_⟩) (fun x hx h => (Y.1 x hx).2.1 h) (fun x hx h => (Y.2.1 x hx).2 h) (fun hst2 hrc => Y.2.2.2 hrc) (fun c hc hR => ?_) (fun x hx hG hfc c hc hfn => ?_) (fun P hP1 hP2 c hc hG => ?_) hp
  · obtain ⟨f, v, hv, rfl⟩ : ∃ f v, v < 12 ∧ x = f * 12 + v := ⟨x / 12, x % 12, by omega, by omega⟩
    refine yr_holds C F B M.2.2.2.1 hb hst (by omega) hv ?_
    rw [← xr_Hx (n := n) (by omega) hv]; exact hQ
  · rcases hR with ⟨h1, h2, h3⟩ | ⟨h1, h2, h3⟩ | ⟨x, hx, h1, h2, h3⟩
    · have hk := kin.mp ⟨h1, h2⟩
      obtain ⟨k1, k2⟩ := hkp hk
      rw [k1, nI_leI (by omega) (by omega)] at h3
      have := ym_Gs (L := L) (sg := sg) hc ((l5 hk c hc).mpr (by omega))
      rw [k2 c (by omega)] at this
      exact this
    · obtain ⟨d, hd1, hd2, hd3, hd4⟩ := rc_vr_c (hres h1) h2
      have := hs1 d hd1 hd2
      rw [hd4, nI_eq (by omega) (by omega)] at h3
      rw [← h3]; exact ym_Gs hd1 hd2
    · obtain ⟨d, hd1, hd2, hd3, hd4⟩ := rc_vr_c (hHV x hx h1) h2
      have := hs1 d hd1 hd2
      rw [hd4, nI_eq (by omega) (by omega)] at h3
      rw [← h3]; exact ym_Gs hd1 hd2
  · obtain ⟨d, hd1, hd2, hd3⟩ := ym_Gi.mp hG
    obtain ⟨i1, i2, i3, i4, -⟩ := I.1 d hd1 hd2
    have hx2 : x = 2 * sg d ∨ x = 2 * sg d + 1 := by omega
    have : rc_vr L sg (fx d) (b_fieldCell x) (b_fieldNum x) ∨ rc_vr L sg (sy d) (b_fieldCell x) (b_fieldNum x) := by
      rcases hx2 with e | e
      · rw [e]; exact Or.inl i3
      · rw [e]; exact Or.inr i4
    have hq : ∃ q, q < 160 ∧ L q = true ∧ b_fieldNum x = nI (sg q) := by
      rcases this with w | w
      · obtain ⟨q, q1, q2, q3, q4⟩ := rc_vr_c w hfc; exact ⟨q, q1, q2, q4⟩
      · obtain ⟨q, q1, q2, q3, q4⟩ := rc_vr_c w hfc; exact ⟨q, q1, q2, q4⟩
    obtain ⟨q, q1, q2, q4⟩ := hq
    have := hs1 q q1 q2
    rw [q4, nI_eq (by omega) (by omega)] at hfn
    rw [← hfn]; exact ym_Gs q1 q2
  · obtain ⟨d, hd1, hd2, hd3⟩ := ym_Gi.mp hG
    rw [← hd3]
    by_cases hk : kp = 0
    · refine rr_reach (P := fun d => P (sg d)) (N := rc_sm rk 160 + 1) (l4 hk) (fun c hc hL => (I.1 c hc hL).2.2.2.2.2) (fun c hc _ => by have := rc_sm_ge (f := rk) (x := c) 160 hc; omega) (fun q hq hL h => ?_) (fun q hq hL hPq c2 hc2 hL2 h => ?_) d hd1 hd2
      · refine hP2 (sg q) (hs1 q hq hL) ?_
        rcases h with ⟨x, hx, hH, e⟩ | h
        · have hx2 := (xr_Hn hH).1
          have v1 := hHV x hx2 hH
          have := (rc_vr_i v1 hq hL hs1 I.2).mpr e
          exact Or.inr (Or.inr ⟨x, hx2, hH, this.1, this.2⟩)
        · unfold xr_E at h
          by_cases z : g_state = 2
          · rw [if_pos z] at h
            unfold rc_d at h
            by_cases z2 : res = rc_cv q
            · have := (rc_vr_i (hres z) hq hL hs1 I.2).mpr z2
              exact Or.inr (Or.inl ⟨z, this.1, this.2⟩)
            · rw [if_neg z2] at h; omega
          · rw [if_neg z] at h; omega
      · obtain ⟨i1, i2, i3, i4, -⟩ := I.1 q hq hL
        rcases h with e | e
        · have := (rc_vr_i i3 hc2 hL2 hs1 I.2).mpr e
          exact hP1 (2 * sg q) (by omega) (by rw [show 2 * sg q / 2 = sg q by omega]; exact hPq) this.1 (sg c2) (hs1 c2 hc2 hL2) this.2
        · have := (rc_vr_i i4 hc2 hL2 hs1 I.2).mpr e
          exact hP1 (2 * sg q + 1) (by omega) (by rw [show (2 * sg q + 1) / 2 = sg q by omega]; exact hPq) this.1 (sg c2) (hs1 c2 hc2 hL2) this.2
    · obtain ⟨k1, k2⟩ := hkp hk
      have hdl := (l5 hk d hd1).mp hd2
      refine hP2 (sg d) (hs1 d hd1 hd2) (Or.inl ?_)
      have := kin.mpr hk
      refine ⟨this.1, this.2, ?_⟩
      rw [k1, k2 d hdl, nI_leI (by omega) (by omega)]
      omega
end
end
section
/-! ===== Y: occupied, the end of a step ===== -/
/-- spares after the last frame's have been cut down to B -/
def ys_cut (sp : Nat → Nat) (n B : Nat) : Nat → Nat := fun f => if f + 1 = n ∧ B < sp f then B else sp f
theorem ys_cut_le {sp : Nat → Nat} {n B f : Nat} : ys_cut sp n B f ≤ sp f := by
  unfold ys_cut; split <;> omega
def ys_pk (peak : Int32) (occ : Nat) : Int32 := if nI occ ≤ peak then peak else nI occ
section
variable {g_cap g_most g_functions g_open g_stored g_scope g_state g_bits g_frames g_steps g_fresh g_reused g_peak g_resultCell g_resultNum g_seen : Int32} {b_firstOf b_arityOf b_maskOf b_kindOf b_numOf b_scopeOf b_aOf b_bOf b_cur b_spare b_varCell b_varNum b_borrowed b_tagOf b_fieldCell b_fieldNum b_marked b_digestOf : Nat → Int32}
variable {G : Nat → Bool} {lv : Nat}
theorem ys_o8 {post : Int32 → SY → Prop} {n : Nat} {sp : Nat → Nat} (hn : n ≤ 20) (hsp : ∀ f, f < n → b_spare f = nI (sp f)) (h : post (nI (lv + rc_sm sp n)) (g_cap, g_most, g_functions, g_open, g_stored, g_scope, g_state, g_bits, nI n, g_steps, g_fresh, g_reused, g_peak, g_resultCell, g_resultNum, g_seen, b_firstOf, b_arityOf, b_maskOf, b_kindOf, b_numOf, b_scopeOf, b_aOf, b_bOf, b_cur, b_spare, b_varCell, b_varNum, b_borrowed, b_tagOf, b_fieldCell, b_fieldNum, b_marked, b_digestOf)) :
    ∀ (k m f : Nat), f + k = n → k < m → wY_occupied_8 post g_cap g_most g_functions g_open g_stored g_scope g_state g_bits (nI n) g_steps g_fresh g_reused g_peak g_resultCell g_resultNum g_seen b_firstOf b_arityOf b_maskOf b_kindOf b_numOf b_scopeOf b_aOf b_bOf b_cur b_spare b_varCell b_varNum b_borrowed b_tagOf b_fieldCell b_fieldNum b_marked b_digestOf m (nI (lv + rc_sm sp f)) (nI f) := by
  intro k
  induction k with
  | zero =>
    intro m f hf hm
    obtain ⟨m, rfl⟩ : ∃ q, m = q + 1 := ⟨m - 1, by omega⟩
    have : f = n := by omega
    subst this
    exact br_t (Int32.le_refl _) h
  | succ k ih =>
    intro m f hf hm
    obtain ⟨m, rfl⟩ : ∃ q, m = q + 1 := ⟨m - 1, by omega⟩
    refine br_f (nI_ge (by omega) (by omega)) ⟨vp_in_nI (by omega) (by omega), ?_⟩
    rw [nI_clamp (show f < 2 ^ 31 by omega), hsp f (by omega), nI_add]
    refine nm_r (e' := nI (lv + rc_sm sp (f + 1))) ?_ (nm_r (nI_1 f) (ih m (f + 1) (by omega) (by omega)))
    rw [show rc_sm sp (f + 1) = rc_sm sp f + sp f from rfl, Nat.add_assoc]
theorem ys_occ {post : Int32 → SY → Prop} {n : Nat} {sp : Nat → Nat} (hn : n ≤ 20) (hsp : ∀ f, f < n → b_spare f = nI (sp f))
    (hMk : ∀ (Q : Int32 → SY → Prop) (mk0 : Nat → Int32), (∀ mk, (∀ c, c < 160 → mk c = rc_b (G c)) → Q (nI lv) (g_cap, g_most, g_functions, g_open, g_stored, g_scope, g_state, g_bits, nI n, g_steps, g_fresh, g_reused, g_peak, g_resultCell, g_resultNum, g_seen, b_firstOf, b_arityOf, b_maskOf, b_kindOf, b_numOf, b_scopeOf, b_aOf, b_bOf, b_cur, b_spare, b_varCell, b_varNum, b_borrowed, b_tagOf, b_fieldCell, b_fieldNum, mk, b_digestOf)) → wpY_mark Q (g_cap, g_most, g_functions, g_open, g_stored, g_scope, g_state, g_bits, nI n, g_steps, g_fresh, g_reused, g_peak, g_resultCell, g_resultNum, g_seen, b_firstOf, b_arityOf, b_maskOf, b_kindOf, b_numOf, b_scopeOf, b_aOf, b_bOf, b_cur, b_spare, b_varCell, b_varNum, b_borrowed, b_tagOf, b_fieldCell, b_fieldNum, mk0, b_digestOf) 1)
    (h : ∀ mk, (∀ c, c < 160 → mk c = rc_b (G c)) → post (nI (lv + rc_sm sp n)) (g_cap, g_most, g_functions, g_open, g_stored, g_scope, g_state, g_bits, nI n, g_steps, g_fresh, g_reused, g_peak, g_resultCell, g_resultNum, g_seen, b_firstOf, b_arityOf, b_maskOf, b_kindOf, b_numOf, b_scopeOf, b_aOf, b_bOf, b_cur, b_spare, b_varCell, b_varNum, b_borrowed, b_tagOf, b_fieldCell, b_fieldNum, mk, b_digestOf)) : wpY_occupied post (g_cap, g_most, g_functions, g_open, g_stored, g_scope, g_state, g_bits, nI n, g_steps, g_fresh, g_reused, g_peak, g_resultCell, g_resultNum, g_seen, b_firstOf, b_arityOf, b_maskOf, b_kindOf, b_numOf, b_scopeOf, b_aOf, b_bOf, b_cur, b_spare, b_varCell, b_varNum, b_borrowed, b_tagOf, b_fieldCell, b_fieldNum, b_marked, b_digestOf) := by
  unfold wpY_occupied
  (try dsimp only)
  refine hMk _ b_marked (fun mk hmk => ⟨n + 1, ?_⟩)
  exact ys_o8 (b_marked := mk) hn hsp (h mk hmk) n (n + 1) 0 (by omega) (by omega)
theorem ys_670 {post : SY → Prop} {n : Nat} {sp : Nat → Nat} (hn : n ≤ 20) (hsp : ∀ f, f < n → b_spare f = nI (sp f))
    (hMk : ∀ (Q : Int32 → SY → Prop) (ss : Int32) (mk0 : Nat → Int32), (∀ mk, (∀ c, c < 160 → mk c = rc_b (G c)) → Q (nI lv) (g_cap, g_most, g_functions, g_open, g_stored, g_scope, g_state, g_bits, nI n, ss, g_fresh, g_reused, g_peak, g_resultCell, g_resultNum, g_seen, b_firstOf, b_arityOf, b_maskOf, b_kindOf, b_numOf, b_scopeOf, b_aOf, b_bOf, b_cur, b_spare, b_varCell, b_varNum, b_borrowed, b_tagOf, b_fieldCell, b_fieldNum, mk, b_digestOf)) → wpY_mark Q (g_cap, g_most, g_functions, g_open, g_stored, g_scope, g_state, g_bits, nI n, ss, g_fresh, g_reused, g_peak, g_resultCell, g_resultNum, g_seen, b_firstOf, b_arityOf, b_maskOf, b_kindOf, b_numOf, b_scopeOf, b_aOf, b_bOf, b_cur, b_spare, b_varCell, b_varNum, b_borrowed, b_tagOf, b_fieldCell, b_fieldNum, mk0, b_digestOf) 1)
    (h : ∀ mk, (∀ c, c < 160 → mk c = rc_b (G c)) → post (g_cap, g_most, g_functions, g_open, g_stored, g_scope, g_state, g_bits, nI n, g_steps + 1, g_fresh, g_reused, ys_pk g_peak (lv + rc_sm sp n), g_resultCell, g_resultNum, g_seen, b_firstOf, b_arityOf, b_maskOf, b_kindOf, b_numOf, b_scopeOf, b_aOf, b_bOf, b_cur, b_spare, b_varCell, b_varNum, b_borrowed, b_tagOf, b_fieldCell, b_fieldNum, mk, b_digestOf)) : wY_step_670 post g_cap g_most g_functions g_open g_stored g_scope g_state g_bits (nI n) g_steps g_fresh g_reused g_peak g_resultCell g_resultNum g_seen b_firstOf b_arityOf b_maskOf b_kindOf b_numOf b_scopeOf b_aOf b_bOf b_cur b_spare b_varCell b_varNum b_borrowed b_tagOf b_fieldCell b_fieldNum b_marked b_digestOf := by
  unfold wY_step_670
  refine nm_e (ys_occ (g_steps := g_steps + 1) (lv := lv) hn hsp (fun Q mk0 hQ => hMk Q (g_steps + 1) mk0 hQ) (fun mk hmk => ?_))
  have := h mk hmk
  unfold ys_pk at this
  refine br_c (fun z => ?_) (fun z => ?_)
  · rw [if_pos z] at this; exact this
  · rw [if_neg z] at this; exact this
theorem ys_642 {post : SY → Prop} {n B : Nat} {sp : Nat → Nat} (hn : n ≤ 20) (hn0 : 0 < n) (hB : B < 2 ^ 31) (hs31 : sp (n - 1) < 2 ^ 31) (hsp : ∀ f, f < n → b_spare f = nI (sp f))
    (hMk : ∀ (Q : Int32 → SY → Prop) (ss : Int32) (sp' mk0 : Nat → Int32), (∀ mk, (∀ c, c < 160 → mk c = rc_b (G c)) → Q (nI lv) (g_cap, g_most, g_functions, g_open, g_stored, g_scope, g_state, g_bits, nI n, ss, g_fresh, g_reused, g_peak, g_resultCell, g_resultNum, g_seen, b_firstOf, b_arityOf, b_maskOf, b_kindOf, b_numOf, b_scopeOf, b_aOf, b_bOf, b_cur, sp', b_varCell, b_varNum, b_borrowed, b_tagOf, b_fieldCell, b_fieldNum, mk, b_digestOf)) → wpY_mark Q (g_cap, g_most, g_functions, g_open, g_stored, g_scope, g_state, g_bits, nI n, ss, g_fresh, g_reused, g_peak, g_resultCell, g_resultNum, g_seen, b_firstOf, b_arityOf, b_maskOf, b_kindOf, b_numOf, b_scopeOf, b_aOf, b_bOf, b_cur, sp', b_varCell, b_varNum, b_borrowed, b_tagOf, b_fieldCell, b_fieldNum, mk0, b_digestOf) 1)
    (h : ∀ mk spY, (∀ c, c < 160 → mk c = rc_b (G c)) → (∀ f, f < n → spY f = nI (ys_cut sp n B f)) → post (g_cap, g_most, g_functions, g_open, g_stored, g_scope, g_state, g_bits, nI n, g_steps + 1, g_fresh, g_reused, ys_pk g_peak (lv + rc_sm (ys_cut sp n B) n), g_resultCell, g_resultNum, g_seen, b_firstOf, b_arityOf, b_maskOf, b_kindOf, b_numOf, b_scopeOf, b_aOf, b_bOf, b_cur, spY, b_varCell, b_varNum, b_borrowed, b_tagOf, b_fieldCell, b_fieldNum, mk, b_digestOf)) : wY_step_642 post (nI (n - 1)) (nI B) g_cap g_most g_functions g_open g_stored g_scope g_state g_bits (nI n) g_steps g_fresh g_reused g_peak g_resultCell g_resultNum g_seen b_firstOf b_arityOf b_maskOf b_kindOf b_numOf b_scopeOf b_aOf b_bOf b_cur b_spare b_varCell b_varNum b_borrowed b_tagOf b_fieldCell b_fieldNum b_marked b_digestOf := by
  unfold wY_step_642
  rw [nI_clamp (show n - 1 < 2 ^ 31 by omega), hsp (n - 1) (by omega)]
  refine br_f (nI_pos (by omega)) ⟨vp_in_nI (by omega) (by omega), pk_le (sp (n - 1)) B (fun z => ?_) (fun z => ⟨vp_in_nI (by omega) (by omega), nm_e ?_⟩)⟩
  · have hc : ∀ f, ys_cut sp n B f = sp f := fun f => by
      unfold ys_cut
      by_cases w : f + 1 = n ∧ B < sp f
      · have : f = n - 1 := by omega
        rw [this] at w; omega
      · rw [if_neg w]
    refine ys_670 (sp := ys_cut sp n B) hn (fun f hf => by rw [hc f]; exact hsp f hf) (fun Q ss mk0 hQ => hMk Q ss b_spare mk0 hQ) (fun mk hmk => h mk b_spare hmk (fun f hf => by rw [hc f]; exact hsp f hf))
  · have hc : ∀ f, f < n → upd b_spare (n - 1) (nI B) f = nI (ys_cut sp n B f) := fun f hf => by
      unfold ys_cut
      by_cases w : f = n - 1
      · rw [w, pk_us, if_pos ⟨by omega, z⟩]
      · rw [pk_un w, if_neg (fun q => w (by omega))]; exact hsp f hf
    exact ys_670 (b_spare := upd b_spare (n - 1) (nI B)) (sp := ys_cut sp n B) hn hc (fun Q ss mk0 hQ => hMk Q ss _ mk0 hQ) (fun mk hmk => h mk _ hmk hc)
theorem ys_604 {post : SY → Prop} {n B : Nat} {sp : Nat → Nat} (hn : n ≤ 20) (hB : B < 2 ^ 31) (hs31 : ∀ f, f < n → sp f < 2 ^ 31) (hsp : ∀ f, f < n → b_spare f = nI (sp f))
    (hMk : ∀ (Q : Int32 → SY → Prop) (ss : Int32) (sp' mk0 : Nat → Int32), (∀ mk, (∀ c, c < 160 → mk c = rc_b (G c)) → Q (nI lv) (g_cap, g_most, g_functions, g_open, g_stored, g_scope, g_state, g_bits, nI n, ss, g_fresh, g_reused, g_peak, g_resultCell, g_resultNum, g_seen, b_firstOf, b_arityOf, b_maskOf, b_kindOf, b_numOf, b_scopeOf, b_aOf, b_bOf, b_cur, sp', b_varCell, b_varNum, b_borrowed, b_tagOf, b_fieldCell, b_fieldNum, mk, b_digestOf)) → wpY_mark Q (g_cap, g_most, g_functions, g_open, g_stored, g_scope, g_state, g_bits, nI n, ss, g_fresh, g_reused, g_peak, g_resultCell, g_resultNum, g_seen, b_firstOf, b_arityOf, b_maskOf, b_kindOf, b_numOf, b_scopeOf, b_aOf, b_bOf, b_cur, sp', b_varCell, b_varNum, b_borrowed, b_tagOf, b_fieldCell, b_fieldNum, mk0, b_digestOf) 1)
    (hbd : 0 < n → ∀ Q : Int32 → Prop, Q (nI B) → wpY_builds Q (g_cap, g_most, g_functions, g_open, g_stored, g_scope, g_state, g_bits, nI n, g_steps, g_fresh, g_reused, g_peak, g_resultCell, g_resultNum, g_seen, b_firstOf, b_arityOf, b_maskOf, b_kindOf, b_numOf, b_scopeOf, b_aOf, b_bOf, b_cur, b_spare, b_varCell, b_varNum, b_borrowed, b_tagOf, b_fieldCell, b_fieldNum, b_marked, b_digestOf) (b_cur (n - 1)))
    (h : ∀ mk spY, (∀ c, c < 160 → mk c = rc_b (G c)) → (∀ f, f < n → spY f = nI (ys_cut sp n B f)) → post (g_cap, g_most, g_functions, g_open, g_stored, g_scope, g_state, g_bits, nI n, g_steps + 1, g_fresh, g_reused, ys_pk g_peak (lv + rc_sm (ys_cut sp n B) n), g_resultCell, g_resultNum, g_seen, b_firstOf, b_arityOf, b_maskOf, b_kindOf, b_numOf, b_scopeOf, b_aOf, b_bOf, b_cur, spY, b_varCell, b_varNum, b_borrowed, b_tagOf, b_fieldCell, b_fieldNum, mk, b_digestOf)) : wY_step_604 post g_cap g_most g_functions g_open g_stored g_scope g_state g_bits (nI n) g_steps g_fresh g_reused g_peak g_resultCell g_resultNum g_seen b_firstOf b_arityOf b_maskOf b_kindOf b_numOf b_scopeOf b_aOf b_bOf b_cur b_spare b_varCell b_varNum b_borrowed b_tagOf b_fieldCell b_fieldNum b_marked b_digestOf := by
  unfold wY_step_604
  by_cases h0 : n = 0
  · subst h0
    refine nm_r (e' := -1) (by decide) (br_t (by decide) ?_)
    unfold wY_step_627 wY_step_642
    refine br_t (by decide) (ys_670 (sp := ys_cut sp 0 B) (n := 0) (by omega) (fun f hf => by omega) (fun Q ss mk0 hQ => hMk Q ss b_spare mk0 hQ) (fun mk hmk => h mk b_spare hmk (fun f hf => by omega)))
  · obtain ⟨k, rfl⟩ : ∃ k, n = k + 1 := ⟨n - 1, by omega⟩
    refine nm_r (nI_pred k) (br_f (nI_pos (by omega)) ⟨vp_in_nI (by omega) (by omega), ?_⟩)
    rw [nI_clamp (show k < 2 ^ 31 by omega), hsp k (by omega)]
    have hs := hs31 k (by omega)
    refine pk_eq (sp k) 0 (fun z => ?_) (fun z => ⟨vp_in_nI (by omega) (by omega), ?_⟩)
    · unfold wY_step_627
      have hc : ∀ f, ys_cut sp (k + 1) B f = ys_cut sp (k + 1) 0 f := fun f => by
        unfold ys_cut
        by_cases w : f = k
        · rw [w, if_neg (by omega), if_neg (by omega)]
        · rw [if_neg (by omega), if_neg (by omega)]
      have hc2 : ys_cut sp (k + 1) B = ys_cut sp (k + 1) 0 := funext hc
      rw [hc2] at h
      exact ys_642 (n := k + 1) (B := 0) hn (by omega) (by omega) hs hsp hMk h
    · exact hbd (by omega) _ (ys_642 (n := k + 1) hn (by omega) hB hs hsp hMk h)
theorem ys_559 {post : SY → Prop} {n B f : Nat} {sp : Nat → Nat} {x3 x9 x10 : Int32} (hn : n ≤ 20) (hB : B < 2 ^ 31) (hs31 : ∀ f, f < n → sp f < 2 ^ 31) (hsp : ∀ f, f < n → b_spare f = nI (sp f))
    (hMk : ∀ (Q : Int32 → SY → Prop) (ss : Int32) (sp' mk0 : Nat → Int32), (∀ mk, (∀ c, c < 160 → mk c = rc_b (G c)) → Q (nI lv) (g_cap, g_most, g_functions, g_open, g_stored, g_scope, g_state, g_bits, nI n, ss, g_fresh, g_reused, g_peak, g_resultCell, g_resultNum, g_seen, b_firstOf, b_arityOf, b_maskOf, b_kindOf, b_numOf, b_scopeOf, b_aOf, b_bOf, b_cur, sp', b_varCell, b_varNum, b_borrowed, b_tagOf, b_fieldCell, b_fieldNum, mk, b_digestOf)) → wpY_mark Q (g_cap, g_most, g_functions, g_open, g_stored, g_scope, g_state, g_bits, nI n, ss, g_fresh, g_reused, g_peak, g_resultCell, g_resultNum, g_seen, b_firstOf, b_arityOf, b_maskOf, b_kindOf, b_numOf, b_scopeOf, b_aOf, b_bOf, b_cur, sp', b_varCell, b_varNum, b_borrowed, b_tagOf, b_fieldCell, b_fieldNum, mk0, b_digestOf) 1)
    (hbd : 0 < n → ∀ (Q : Int32 → Prop) (sp' mk : Nat → Int32), Q (nI B) → wpY_builds Q (g_cap, g_most, g_functions, g_open, g_stored, g_scope, g_state, g_bits, nI n, g_steps, g_fresh, g_reused, g_peak, g_resultCell, g_resultNum, g_seen, b_firstOf, b_arityOf, b_maskOf, b_kindOf, b_numOf, b_scopeOf, b_aOf, b_bOf, b_cur, sp', b_varCell, b_varNum, b_borrowed, b_tagOf, b_fieldCell, b_fieldNum, mk, b_digestOf) (b_cur (n - 1)))
    (h4 : ¬ x3 = 4)
    (h : ∀ mk spY, (∀ c, c < 160 → mk c = rc_b (G c)) → (∀ f, f < n → spY f = nI (ys_cut sp n B f)) → post (g_cap, g_most, g_functions, g_open, g_stored, g_scope, g_state, g_bits, nI n, g_steps + 1, g_fresh, g_reused, ys_pk g_peak (lv + rc_sm (ys_cut sp n B) n), g_resultCell, g_resultNum, g_seen, b_firstOf, b_arityOf, b_maskOf, b_kindOf, b_numOf, b_scopeOf, b_aOf, b_bOf, b_cur, spY, b_varCell, b_varNum, b_borrowed, b_tagOf, b_fieldCell, b_fieldNum, mk, b_digestOf)) : wY_step_559 post (nI f) x3 x9 x10 g_cap g_most g_functions g_open g_stored g_scope g_state g_bits (nI n) g_steps g_fresh g_reused g_peak g_resultCell g_resultNum g_seen b_firstOf b_arityOf b_maskOf b_kindOf b_numOf b_scopeOf b_aOf b_bOf b_cur b_spare b_varCell b_varNum b_borrowed b_tagOf b_fieldCell b_fieldNum b_marked b_digestOf := by
  unfold wY_step_559
  refine hMk _ g_steps b_spare b_marked (fun mk hmk => br_f h4 ?_)
  exact ys_604 (b_marked := mk) hn hB hs31 hsp hMk (fun h0 Q hQ => hbd h0 Q _ _ hQ) h
/-- after a match: a cell that died gives the frame a spare -/
theorem ys_559m {post : SY → Prop} {n B f : Nat} {sp : Nat → Nat} {x9 x10 : Int32} (hn : n ≤ 20) (hf : f < n) (hB : B < 2 ^ 31) (hs31 : ∀ f, f < n → sp f + 1 < 2 ^ 31) (hsp : ∀ f, f < n → b_spare f = nI (sp f))
    (hMk : ∀ (Q : Int32 → SY → Prop) (ss : Int32) (sp' mk0 : Nat → Int32), (∀ mk, (∀ c, c < 160 → mk c = rc_b (G c)) → Q (nI lv) (g_cap, g_most, g_functions, g_open, g_stored, g_scope, g_state, g_bits, nI n, ss, g_fresh, g_reused, g_peak, g_resultCell, g_resultNum, g_seen, b_firstOf, b_arityOf, b_maskOf, b_kindOf, b_numOf, b_scopeOf, b_aOf, b_bOf, b_cur, sp', b_varCell, b_varNum, b_borrowed, b_tagOf, b_fieldCell, b_fieldNum, mk, b_digestOf)) → wpY_mark Q (g_cap, g_most, g_functions, g_open, g_stored, g_scope, g_state, g_bits, nI n, ss, g_fresh, g_reused, g_peak, g_resultCell, g_resultNum, g_seen, b_firstOf, b_arityOf, b_maskOf, b_kindOf, b_numOf, b_scopeOf, b_aOf, b_bOf, b_cur, sp', b_varCell, b_varNum, b_borrowed, b_tagOf, b_fieldCell, b_fieldNum, mk0, b_digestOf) 1)
    (hbd : 0 < n → ∀ (Q : Int32 → Prop) (sp' mk : Nat → Int32), Q (nI B) → wpY_builds Q (g_cap, g_most, g_functions, g_open, g_stored, g_scope, g_state, g_bits, nI n, g_steps, g_fresh, g_reused, g_peak, g_resultCell, g_resultNum, g_seen, b_firstOf, b_arityOf, b_maskOf, b_kindOf, b_numOf, b_scopeOf, b_aOf, b_bOf, b_cur, sp', b_varCell, b_varNum, b_borrowed, b_tagOf, b_fieldCell, b_fieldNum, mk, b_digestOf) (b_cur (n - 1)))
    (h10 : ¬ x9 = 0 → ∃ c, c < 160 ∧ x10 = nI c) (sp1 : Nat → Nat)
    (hs1 : ∀ g, sp1 g = if g = f ∧ (¬ x9 = 0 ∧ bt g_bits 1 = true ∧ G x10.toNatClampNeg = false) then sp g + 1 else sp g)
    (h : ∀ mk spY, (∀ c, c < 160 → mk c = rc_b (G c)) → (∀ f, f < n → spY f = nI (ys_cut sp1 n B f)) → post (g_cap, g_most, g_functions, g_open, g_stored, g_scope, g_state, g_bits, nI n, g_steps + 1, g_fresh, g_reused, ys_pk g_peak (lv + rc_sm (ys_cut sp1 n B) n), g_resultCell, g_resultNum, g_seen, b_firstOf, b_arityOf, b_maskOf, b_kindOf, b_numOf, b_scopeOf, b_aOf, b_bOf, b_cur, spY, b_varCell, b_varNum, b_borrowed, b_tagOf, b_fieldCell, b_fieldNum, mk, b_digestOf)) : wY_step_559 post (nI f) 4 x9 x10 g_cap g_most g_functions g_open g_stored g_scope g_state g_bits (nI n) g_steps g_fresh g_reused g_peak g_resultCell g_resultNum g_seen b_firstOf b_arityOf b_maskOf b_kindOf b_numOf b_scopeOf b_aOf b_bOf b_cur b_spare b_varCell b_varNum b_borrowed b_tagOf b_fieldCell b_fieldNum b_marked b_digestOf := by
  have hs1' : ∀ g, g < n → sp1 g < 2 ^ 31 := fun g hg => by
    have := hs31 g hg
    rw [hs1 g]; split <;> omega
  unfold wY_step_559
  refine hMk _ g_steps b_spare b_marked (fun mk hmk => br_t rfl ?_)
  have no : (¬ (¬ x9 = 0 ∧ bt g_bits 1 = true ∧ G x10.toNatClampNeg = false)) → wY_step_604 post g_cap g_most g_functions g_open g_stored g_scope g_state g_bits (nI n) g_steps g_fresh g_reused g_peak g_resultCell g_resultNum g_seen b_firstOf b_arityOf b_maskOf b_kindOf b_numOf b_scopeOf b_aOf b_bOf b_cur b_spare b_varCell b_varNum b_borrowed b_tagOf b_fieldCell b_fieldNum mk b_digestOf := fun z => by
    have e : ∀ g, sp1 g = sp g := fun g => by rw [hs1 g, if_neg (fun q => z q.2)]
    have e2 : sp1 = sp := funext e
    rw [e2] at h
    exact ys_604 (b_marked := mk) hn hB (fun f hf => by have := hs31 f hf; omega) hsp hMk (fun h0 Q hQ => hbd h0 Q _ _ hQ) h
  refine br_c (fun z => no (fun q => q.1 z)) (fun z => br_c (fun z2 => no (fun q => ?_)) (fun z2 => ?_))
  · have := yw_and2.mp z2
    rw [this] at q; exact absurd q.2.1 (by decide)
  · obtain ⟨c, hc, ec⟩ := h10 z
    have z2' : bt g_bits 1 = true := by
      cases w : bt g_bits 1
      · exact absurd (yw_and2.mpr w) z2
      · rfl
    rw [ec, nI_clamp (show c < 2 ^ 31 by omega)] at hs1 no
    rw [ec, nI_clamp (show c < 2 ^ 31 by omega), hmk c hc]
    refine ⟨vp_in_nI hc (by omega), br_c (fun w => ?_) (fun w => no (fun q => ?_))⟩
    · have hG := rc_bz.mp w
      rw [nI_clamp (show f < 2 ^ 31 by omega), hsp f hf, nI_1]
      refine ⟨vp_in_nI (by omega) (by omega), vp_in_nI (by omega) (by omega), nm_e ?_⟩
      refine ys_604 (b_marked := mk) (b_spare := upd b_spare f (nI (sp f + 1))) (sp := sp1) hn hB hs1' (fun g hg => ?_) hMk (fun h0 Q hQ => hbd h0 Q _ _ hQ) h
      by_cases e : g = f
      · rw [e, pk_us, hs1 f, if_pos ⟨rfl, z, z2', hG⟩]
      · rw [pk_un e, hs1 g, if_neg (fun q => e q.1)]; exact hsp g hg
    · exact w (rc_bz.mpr q.2.2)
end
end
section
/-! ===== X: the kinds of steps ===== -/
def xs_opd (tg : Nat → Int32) (v : Int64) : Int32 := if v < 4294967296 then v.toInt32 else tg ((v - 4294967296).toInt32.toNatClampNeg)
def xs_cmp (o x y : Int32) : Int32 := if o = 0 then x + y else if o = 1 then x - y else if o = 2 then x * y else if o = 3 then (if y ≤ x then 0 else 1) else (if x = y then 1 else 0)
def xs_nv (cd ex lf rt tg : Nat → Int32) (vs : Nat → Int64) (b s : Nat) : Int32 :=
  if cd s = 1 then xs_cmp (ex s) (xs_opd tg (vs (b + (lf s).toNatClampNeg))) (xs_opd tg (vs (b + (rt s).toNatClampNeg))) else ex s
def xs_av (ar : Nat) (vs : Nat → Int64) (t x y : Nat) : Nat → Int64 := if ar = 0 then vs else if ar = 1 then vp_updL vs t (vs x) else vp_updL (vp_updL vs t (vs x)) (t + 1) (vp_updL vs t (vs x) y)
section
variable {f_codeNum f_codeOp f_codeCon f_codeCall f_codeMatch f_codeIfZero f_codeRet : Int32} {f_cellBase f_unseen : Int64} {f_capacity f_depth f_complete f_open f_stored f_scope f_borrowedNow f_pending f_liveCells f_frames f_spareTotal f_state f_borrowing f_reusing f_keeping : Int32} {f_result : Int64} {f_steps f_fresh f_reused f_peak : Int32} {a_arities a_masks a_starts a_codes a_extras a_lefts a_rights a_scopes a_uses a_borrowed a_lends a_others a_frees a_afters a_builds a_pendingAt a_tags : Nat → Int32} {a_firsts a_seconds : Nat → Int64} {a_digests a_counts a_places a_work a_marks : Nat → Int32} {a_variables : Nat → Int64} {a_currents a_held a_spareCounts : Nat → Int32}
variable {L : Nat → Bool} {H : Nat → Bool} {E : Nat → Nat} {cnt pl wk : Nat → Int32} {lv : Nat}
theorem xs_operand {post : Int32 → Prop} {v : Int64} (hv : rc_gv v) (h : post (xs_opd a_tags v)) : wpX_operand post (f_codeNum, f_codeOp, f_codeCon, f_codeCall, f_codeMatch, f_codeIfZero, f_codeRet, f_cellBase, f_unseen, f_capacity, f_depth, f_complete, f_open, f_stored, f_scope, f_borrowedNow, f_pending, f_liveCells, f_frames, f_spareTotal, f_state, f_borrowing, f_reusing, f_keeping, f_result, f_steps, f_fresh, f_reused, f_peak, a_arities, a_masks, a_starts, a_codes, a_extras, a_lefts, a_rights, a_scopes, a_uses, a_borrowed, a_lends, a_others, a_frees, a_afters, a_builds, a_pendingAt, a_tags, a_firsts, a_seconds, a_digests, a_counts, a_places, a_work, a_marks, a_variables, a_currents, a_held, a_spareCounts) v := by
  unfold wpX_operand
  (try dsimp only)
  unfold xs_opd at h
  rcases hv with hv | ⟨c, hc, rfl⟩
  · rw [if_pos hv] at h
    exact xw_isN hv (br_t rfl h)
  · rw [if_neg (rc_cv_ge (by omega)), rc_cv_of (by omega)] at h
    exact xw_isC hc (br_f (by decide) (xw_cellOf hc ⟨vp_in_nI hc (by omega), h⟩))
theorem xs_compute {post : Int32 → Prop} {o x y : Int32} (h : post (xs_cmp o x y)) : wpX_compute post (f_codeNum, f_codeOp, f_codeCon, f_codeCall, f_codeMatch, f_codeIfZero, f_codeRet, f_cellBase, f_unseen, f_capacity, f_depth, f_complete, f_open, f_stored, f_scope, f_borrowedNow, f_pending, f_liveCells, f_frames, f_spareTotal, f_state, f_borrowing, f_reusing, f_keeping, f_result, f_steps, f_fresh, f_reused, f_peak, a_arities, a_masks, a_starts, a_codes, a_extras, a_lefts, a_rights, a_scopes, a_uses, a_borrowed, a_lends, a_others, a_frees, a_afters, a_builds, a_pendingAt, a_tags, a_firsts, a_seconds, a_digests, a_counts, a_places, a_work, a_marks, a_variables, a_currents, a_held, a_spareCounts) o x y := by
  unfold xs_cmp at h
  refine br_c (fun z => ?_) (fun z => br_c (fun z1 => ?_) (fun z1 => br_c (fun z2 => ?_) (fun z2 => br_c (fun z3 => br_c (fun z4 => ?_) (fun z4 => ?_)) (fun z3 => br_c (fun z4 => ?_) (fun z4 => ?_)))))
  · rw [if_pos z] at h; exact h
  · rw [if_neg z, if_pos z1] at h; exact h
  · rw [if_neg z, if_neg z1, if_pos z2] at h; exact h
  · rw [if_neg z, if_neg z1, if_neg z2, if_pos z3, if_pos z4] at h; exact h
  · rw [if_neg z, if_neg z1, if_neg z2, if_pos z3, if_neg z4] at h; exact h
  · rw [if_neg z, if_neg z1, if_neg z2, if_neg z3, if_pos z4] at h; exact h
  · rw [if_neg z, if_neg z1, if_neg z2, if_neg z3, if_neg z4] at h; exact h
theorem xs_number {post : SX → Prop} {f s d : Nat} {vs' : Nat → Int64} (hf : f < 20) (hs : s + 1 < 96) (hd : a_scopes s = nI d) (hd2 : d < 12)
    (h1 : a_codes s = 1 → ∃ la ra, la < 12 ∧ ra < 12 ∧ a_lefts s = nI la ∧ a_rights s = nI ra ∧ rc_gv (a_variables (f * 12 + la)) ∧ rc_gv (a_variables (f * 12 + ra)))
    (hvs : vs' = vp_updL a_variables (f * 12 + d) (xs_nv a_codes a_extras a_lefts a_rights a_tags a_variables (f * 12) s).toInt64)
    (hE : ∀ c, c < 160 → E c ≤ 20) (hH : ∀ i, i < 12 → H (f * 12 + i) = bt (a_held f) i)
    (hg : ∀ i, i < 12 → bt (xg_m f_borrowing (a_frees (s + 1)) (a_borrowed (s + 1))) i = true → bt (a_held f) i = false → rc_gv (vs' (f * 12 + i)) ∧ ∀ c, c < 160 → vs' (f * 12 + i) = rc_cv c → L c = true)
    (S : hx_S f_keeping L a_firsts a_seconds vs' H E cnt pl lv wk)
    (hp : ∀ L' cnt' pl' lv' wk', (∀ c, L' c = true → L c = true) → (¬ f_keeping = 0 → L' = L ∧ lv' = lv) → hx_S f_keeping L' a_firsts a_seconds vs' (hp_h H (f * 12) (xg_m f_borrowing (a_frees (s + 1)) (a_borrowed (s + 1)))) E cnt' pl' lv' wk' → post (f_codeNum, f_codeOp, f_codeCon, f_codeCall, f_codeMatch, f_codeIfZero, f_codeRet, f_cellBase, f_unseen, f_capacity, f_depth, f_complete, f_open, f_stored, f_scope, f_borrowedNow, f_pending, nI lv', f_frames, f_spareTotal, f_state, f_borrowing, f_reusing, f_keeping, f_result, f_steps, f_fresh, f_reused, f_peak, a_arities, a_masks, a_starts, a_codes, a_extras, a_lefts, a_rights, a_scopes, a_uses, a_borrowed, a_lends, a_others, a_frees, a_afters, a_builds, a_pendingAt, a_tags, a_firsts, a_seconds, a_digests, cnt', pl', wk', a_marks, vs', upd a_currents f (nI (s + 1)), upd a_held f (xg_m f_borrowing (a_frees (s + 1)) (a_borrowed (s + 1))), a_spareCounts)) :
    wpX_stepNumber post (f_codeNum, f_codeOp, f_codeCon, f_codeCall, f_codeMatch, f_codeIfZero, f_codeRet, f_cellBase, f_unseen, f_capacity, f_depth, f_complete, f_open, f_stored, f_scope, f_borrowedNow, f_pending, nI lv, f_frames, f_spareTotal, f_state, f_borrowing, f_reusing, f_keeping, f_result, f_steps, f_fresh, f_reused, f_peak, a_arities, a_masks, a_starts, a_codes, a_extras, a_lefts, a_rights, a_scopes, a_uses, a_borrowed, a_lends, a_others, a_frees, a_afters, a_builds, a_pendingAt, a_tags, a_firsts, a_seconds, a_digests, cnt, pl, wk, a_marks, a_variables, a_currents, a_held, a_spareCounts) (nI f) (nI s) := by
  have tail : ∀ x4 : Int32, x4 = xs_nv a_codes a_extras a_lefts a_rights a_tags a_variables (f * 12) s → wX_stepNumber_77 post (nI f) (nI s) (nI (f * 12)) x4 f_codeNum f_codeOp f_codeCon f_codeCall f_codeMatch f_codeIfZero f_codeRet f_cellBase f_unseen f_capacity f_depth f_complete f_open f_stored f_scope f_borrowedNow f_pending (nI lv) f_frames f_spareTotal f_state f_borrowing f_reusing f_keeping f_result f_steps f_fresh f_reused f_peak a_arities a_masks a_starts a_codes a_extras a_lefts a_rights a_scopes a_uses a_borrowed a_lends a_others a_frees a_afters a_builds a_pendingAt a_tags a_firsts a_seconds a_digests cnt pl wk a_marks a_variables a_currents a_held a_spareCounts := by
    intro x4 e4
    unfold wX_stepNumber_77
    rw [nI_clamp (show s < 2 ^ 31 by omega), hd, nI_add, nI_clamp (show f * 12 + d < 2 ^ 31 by omega), nI_1, e4, ← hvs]
    exact ⟨vp_in_nI (by omega) (by omega), vp_in_nI (by omega) (by omega), nm_e (xx_goOn hf (by omega) hE hH hg S hp)⟩
  unfold wpX_stepNumber
  (try dsimp only)
  rw [nI_clamp (show s < 2 ^ 31 by omega)]
  refine nm_r (e' := nI (f * 12)) (pk_mul f 12) ⟨vp_in_nI (by omega) (by omega), nm_e ⟨vp_in_nI (by omega) (by omega), br_c (fun z => ?_) (fun z => tail _ (by unfold xs_nv; rw [if_neg z]))⟩⟩
  obtain ⟨la, ra, hla, hra, ela, era, g1, g2⟩ := h1 z
  rw [ela, era, nI_add, nI_add, nI_clamp (show f * 12 + la < 2 ^ 31 by omega), nI_clamp (show f * 12 + ra < 2 ^ 31 by omega)]
  refine ⟨vp_in_nI (by omega) (by omega), vp_in_nI (by omega) (by omega), xs_operand g1 ⟨vp_in_nI (by omega) (by omega), vp_in_nI (by omega) (by omega), xs_operand g2 ⟨vp_in_nI (by omega) (by omega), xs_compute (tail _ ?_)⟩⟩⟩
  unfold xs_nv
  rw [if_pos z, ela, era, nI_clamp (show la < 2 ^ 31 by omega), nI_clamp (show ra < 2 ^ 31 by omega)]
theorem xs_ifz {post : SX → Prop} {f s la m t : Nat} (hf : f < 20) (hs : s + 1 < 96) (hm : m < 96) (hla : la < 12) (ela : a_lefts s = nI la) (em : a_others s = nI m)
    (ht : t = if a_variables (f * 12 + la) = 0 then s + 1 else m)
    (hE : ∀ c, c < 160 → E c ≤ 20) (hH : ∀ i, i < 12 → H (f * 12 + i) = bt (a_held f) i)
    (hg : ∀ i, i < 12 → bt (xg_m f_borrowing (a_frees t) (a_borrowed t)) i = true → bt (a_held f) i = false → rc_gv (a_variables (f * 12 + i)) ∧ ∀ c, c < 160 → a_variables (f * 12 + i) = rc_cv c → L c = true)
    (S : hx_S f_keeping L a_firsts a_seconds a_variables H E cnt pl lv wk)
    (hp : ∀ L' cnt' pl' lv' wk', (∀ c, L' c = true → L c = true) → (¬ f_keeping = 0 → L' = L ∧ lv' = lv) → hx_S f_keeping L' a_firsts a_seconds a_variables (hp_h H (f * 12) (xg_m f_borrowing (a_frees t) (a_borrowed t))) E cnt' pl' lv' wk' → post (f_codeNum, f_codeOp, f_codeCon, f_codeCall, f_codeMatch, f_codeIfZero, f_codeRet, f_cellBase, f_unseen, f_capacity, f_depth, f_complete, f_open, f_stored, f_scope, f_borrowedNow, f_pending, nI lv', f_frames, f_spareTotal, f_state, f_borrowing, f_reusing, f_keeping, f_result, f_steps, f_fresh, f_reused, f_peak, a_arities, a_masks, a_starts, a_codes, a_extras, a_lefts, a_rights, a_scopes, a_uses, a_borrowed, a_lends, a_others, a_frees, a_afters, a_builds, a_pendingAt, a_tags, a_firsts, a_seconds, a_digests, cnt', pl', wk', a_marks, a_variables, upd a_currents f (nI t), upd a_held f (xg_m f_borrowing (a_frees t) (a_borrowed t)), a_spareCounts)) :
    wpX_stepIfZero post (f_codeNum, f_codeOp, f_codeCon, f_codeCall, f_codeMatch, f_codeIfZero, f_codeRet, f_cellBase, f_unseen, f_capacity, f_depth, f_complete, f_open, f_stored, f_scope, f_borrowedNow, f_pending, nI lv, f_frames, f_spareTotal, f_state, f_borrowing, f_reusing, f_keeping, f_result, f_steps, f_fresh, f_reused, f_peak, a_arities, a_masks, a_starts, a_codes, a_extras, a_lefts, a_rights, a_scopes, a_uses, a_borrowed, a_lends, a_others, a_frees, a_afters, a_builds, a_pendingAt, a_tags, a_firsts, a_seconds, a_digests, cnt, pl, wk, a_marks, a_variables, a_currents, a_held, a_spareCounts) (nI f) (nI s) := by
  unfold wpX_stepIfZero
  (try dsimp only)
  rw [nI_clamp (show s < 2 ^ 31 by omega), ela, show nI f * 12 = nI (f * 12) from pk_mul f 12, nI_add, nI_clamp (show f * 12 + la < 2 ^ 31 by omega)]
  refine ⟨vp_in_nI (by omega) (by omega), vp_in_nI (by omega) (by omega), nm_e ⟨vp_in_nI (by omega) (by omega), nm_r em (br_c (fun z => nm_r (nI_1 s) ?_) (fun z => ?_))⟩⟩
  · rw [if_pos z] at ht
    subst ht
    unfold wX_stepIfZero_36
    exact xx_goOn hf (by omega) hE hH hg S hp
  · rw [if_neg z] at ht
    subst ht
    unfold wX_stepIfZero_36
    exact xx_goOn hf (by omega) hE hH hg S hp
/-- the end of a match: a dead cell gives a spare -/
theorem xs_m115 {post : SX → Prop} {f t c sp : Nat} {x6 : Int32} (hf : f < 20) (ht : t < 96) (hc : c < 160) (h6 : x6 = 0 ∨ x6 = 1) (hrk : ¬ f_reusing = 0 → f_keeping = 0) (hsp : a_spareCounts f = nI sp)
    (hE : ∀ c, c < 160 → E c ≤ 20) (hH : ∀ i, i < 12 → H (f * 12 + i) = bt (a_held f) i)
    (hg : ∀ i, i < 12 → bt (xg_m f_borrowing (a_frees t) (a_borrowed t)) i = true → bt (a_held f) i = false → rc_gv (a_variables (f * 12 + i)) ∧ ∀ c, c < 160 → a_variables (f * 12 + i) = rc_cv c → L c = true)
    (S : hx_S f_keeping L a_firsts a_seconds a_variables H E cnt pl lv wk)
    (hp0 : ∀ L' cnt' pl' lv' wk', (∀ c, L' c = true → L c = true) → (¬ f_keeping = 0 → L' = L ∧ lv' = lv) → hx_S f_keeping L' a_firsts a_seconds a_variables (hp_h H (f * 12) (xg_m f_borrowing (a_frees t) (a_borrowed t))) E cnt' pl' lv' wk' →
      ¬ (¬ x6 = 0 ∧ ¬ f_reusing = 0 ∧ L' c = false) → post (f_codeNum, f_codeOp, f_codeCon, f_codeCall, f_codeMatch, f_codeIfZero, f_codeRet, f_cellBase, f_unseen, f_capacity, f_depth, f_complete, f_open, f_stored, f_scope, f_borrowedNow, f_pending, nI lv', f_frames, f_spareTotal, f_state, f_borrowing, f_reusing, f_keeping, f_result, f_steps, f_fresh, f_reused, f_peak, a_arities, a_masks, a_starts, a_codes, a_extras, a_lefts, a_rights, a_scopes, a_uses, a_borrowed, a_lends, a_others, a_frees, a_afters, a_builds, a_pendingAt, a_tags, a_firsts, a_seconds, a_digests, cnt', pl', wk', a_marks, a_variables, upd a_currents f (nI t), upd a_held f (xg_m f_borrowing (a_frees t) (a_borrowed t)), a_spareCounts))
    (hp1 : ∀ L' cnt' pl' lv' wk', (∀ c, L' c = true → L c = true) → (¬ f_keeping = 0 → L' = L ∧ lv' = lv) → hx_S f_keeping L' a_firsts a_seconds a_variables (hp_h H (f * 12) (xg_m f_borrowing (a_frees t) (a_borrowed t))) E cnt' pl' lv' wk' →
      (¬ x6 = 0 ∧ ¬ f_reusing = 0 ∧ L' c = false) → post (f_codeNum, f_codeOp, f_codeCon, f_codeCall, f_codeMatch, f_codeIfZero, f_codeRet, f_cellBase, f_unseen, f_capacity, f_depth, f_complete, f_open, f_stored, f_scope, f_borrowedNow, f_pending, nI lv', f_frames, f_spareTotal + 1, f_state, f_borrowing, f_reusing, f_keeping, f_result, f_steps, f_fresh, f_reused, f_peak, a_arities, a_masks, a_starts, a_codes, a_extras, a_lefts, a_rights, a_scopes, a_uses, a_borrowed, a_lends, a_others, a_frees, a_afters, a_builds, a_pendingAt, a_tags, a_firsts, a_seconds, a_digests, cnt', pl', wk', a_marks, a_variables, upd a_currents f (nI t), upd a_held f (xg_m f_borrowing (a_frees t) (a_borrowed t)), upd a_spareCounts f (nI (sp + 1)))) :
    wX_stepMatch_115 post (nI f) x6 (nI c) (nI t) f_codeNum f_codeOp f_codeCon f_codeCall f_codeMatch f_codeIfZero f_codeRet f_cellBase f_unseen f_capacity f_depth f_complete f_open f_stored f_scope f_borrowedNow f_pending (nI lv) f_frames f_spareTotal f_state f_borrowing f_reusing f_keeping f_result f_steps f_fresh f_reused f_peak a_arities a_masks a_starts a_codes a_extras a_lefts a_rights a_scopes a_uses a_borrowed a_lends a_others a_frees a_afters a_builds a_pendingAt a_tags a_firsts a_seconds a_digests cnt pl wk a_marks a_variables a_currents a_held a_spareCounts := by
  unfold wX_stepMatch_115
  refine xx_goOn hf ht hE hH hg S (fun L' cnt' pl' lv' wk' hs hk S' => ?_)
  refine br_c (fun z => hp0 L' cnt' pl' lv' wk' hs hk S' (fun q => q.1 z)) (fun z => br_c (fun z2 => hp0 L' cnt' pl' lv' wk' hs hk S' (fun q => q.2.1 z2)) (fun z2 => ?_))
  have hD := hp_dead (S'.1 (hrk z2)) hc
  have hK := hp_Kle (L := L') (fx := a_firsts) (sy := a_seconds) (vs := a_variables) (H := hp_h H (f * 12) (xg_m f_borrowing (a_frees t) (a_borrowed t))) (hE c hc)
  refine ⟨vp_in_nI hc (by omega), ?_⟩
  rw [nI_clamp (show c < 2 ^ 31 by omega), nI_clamp (show f < 2 ^ 31 by omega), hD.1, hsp, nI_1]
  refine pk_eq (hp_K L' a_firsts a_seconds a_variables (hp_h H (f * 12) (xg_m f_borrowing (a_frees t) (a_borrowed t))) E c) 0 (fun w => ⟨vp_in_nI (by omega) (by omega), vp_in_nI (by omega) (by omega), nm_e (nm_e (hp1 L' cnt' pl' lv' wk' hs hk S' ⟨z, z2, ?_⟩))⟩) (fun w => hp0 L' cnt' pl' lv' wk' hs hk S' (fun q => ?_))
  · cases r : L' c
    · rfl
    · have := hD.2.mp r; omega
  · have := hD.2.mpr (by omega)
    rw [q.2.2] at this; exact absurd this (by decide)
theorem xs_finish {post : SX → Prop} {n s B lv sT : Nat} {sp : Nat → Nat} (hn : n ≤ 20) (hcu : 0 < n → a_currents (n - 1) = nI s ∧ s < 96 ∧ a_builds s = nI B) (hB : B < 2 ^ 31) (hsp : ∀ f, f < n → a_spareCounts f = nI (sp f)) (hs31 : ∀ f, f < n → sp f < 2 ^ 31) (hT : sT = rc_sm sp n)
    (h : ∀ sX, (∀ f, f < n → sX f = nI (ys_cut sp n B f)) → post (f_codeNum, f_codeOp, f_codeCon, f_codeCall, f_codeMatch, f_codeIfZero, f_codeRet, f_cellBase, f_unseen, f_capacity, f_depth, f_complete, f_open, f_stored, f_scope, f_borrowedNow, f_pending, nI lv, nI n, nI (rc_sm (ys_cut sp n B) n), f_state, f_borrowing, f_reusing, f_keeping, f_result, f_steps + 1, f_fresh, f_reused, ys_pk f_peak (lv + rc_sm (ys_cut sp n B) n), a_arities, a_masks, a_starts, a_codes, a_extras, a_lefts, a_rights, a_scopes, a_uses, a_borrowed, a_lends, a_others, a_frees, a_afters, a_builds, a_pendingAt, a_tags, a_firsts, a_seconds, a_digests, a_counts, a_places, a_work, a_marks, a_variables, a_currents, a_held, sX)) :
    wpX_finish post (f_codeNum, f_codeOp, f_codeCon, f_codeCall, f_codeMatch, f_codeIfZero, f_codeRet, f_cellBase, f_unseen, f_capacity, f_depth, f_complete, f_open, f_stored, f_scope, f_borrowedNow, f_pending, nI lv, nI n, nI sT, f_state, f_borrowing, f_reusing, f_keeping, f_result, f_steps, f_fresh, f_reused, f_peak, a_arities, a_masks, a_starts, a_codes, a_extras, a_lefts, a_rights, a_scopes, a_uses, a_borrowed, a_lends, a_others, a_frees, a_afters, a_builds, a_pendingAt, a_tags, a_firsts, a_seconds, a_digests, a_counts, a_places, a_work, a_marks, a_variables, a_currents, a_held, a_spareCounts) := by
  have tail : ∀ sX, (∀ f, f < n → sX f = nI (ys_cut sp n B f)) → wX_finish_60 post f_codeNum f_codeOp f_codeCon f_codeCall f_codeMatch f_codeIfZero f_codeRet f_cellBase f_unseen f_capacity f_depth f_complete f_open f_stored f_scope f_borrowedNow f_pending (nI lv) (nI n) (nI (rc_sm (ys_cut sp n B) n)) f_state f_borrowing f_reusing f_keeping f_result f_steps f_fresh f_reused f_peak a_arities a_masks a_starts a_codes a_extras a_lefts a_rights a_scopes a_uses a_borrowed a_lends a_others a_frees a_afters a_builds a_pendingAt a_tags a_firsts a_seconds a_digests a_counts a_places a_work a_marks a_variables a_currents a_held sX := by
    intro sX hX
    have := h sX hX
    unfold ys_pk at this
    unfold wX_finish_60
    refine nm_e (nm_r (nI_add _ _) (br_c (fun z => ?_) (fun z => ?_)))
    · rw [if_pos z] at this; exact this
    · rw [if_neg z] at this; exact this
  unfold wpX_finish
  (try dsimp only)
  by_cases h0 : n = 0
  · subst h0
    refine br_t (by decide) ?_
    have := tail a_spareCounts (fun f hf => by omega)
    rw [hT]; exact this
  · obtain ⟨k, rfl⟩ : ∃ k, n = k + 1 := ⟨n - 1, by omega⟩
    obtain ⟨c1, c2, c3⟩ := hcu (by omega)
    rw [Nat.add_sub_cancel] at c1
    refine br_f (nI_nle (by omega) (by omega)) (nm_r (nI_pred k) ?_)
    have hs := hs31 k (by omega)
    rw [nI_clamp (show k < 2 ^ 31 by omega), c1, nI_clamp (show s < 2 ^ 31 by omega), hsp k (by omega)]
    refine ⟨vp_in_nI (by omega) (by omega), vp_in_nI c2 (by omega), nm_r c3 ⟨vp_in_nI (by omega) (by omega), pk_le (sp k) B (fun z => ?_) (fun z => ⟨vp_in_nI (by omega) (by omega), nm_r (e' := nI (rc_sm (ys_cut sp (k + 1) B) (k + 1))) ?_ ⟨vp_in_nI (by omega) (by omega), nm_e (tail _ (fun f hf => ?_))⟩⟩)⟩⟩
    · have hc : ∀ f, f < k + 1 → ys_cut sp (k + 1) B f = sp f := fun f hf => by
        unfold ys_cut
        by_cases w : f = k
        · rw [w, if_neg (by omega)]
        · rw [if_neg (by omega)]
      have := tail a_spareCounts (fun f hf => by rw [hc f hf]; exact hsp f hf)
      rw [rc_sm_eq (k + 1) hc] at this
      rw [hT]; exact this
    · have h1 : rc_sm (ys_cut sp (k + 1) B) (k + 1) = rc_sm sp k + B := by
        show rc_sm (ys_cut sp (k + 1) B) k + ys_cut sp (k + 1) B k = _
        rw [rc_sm_eq (f := ys_cut sp (k + 1) B) (g := sp) k (fun j hj => by unfold ys_cut; rw [if_neg (by omega)])]
        unfold ys_cut
        rw [if_pos ⟨rfl, z⟩]
      have h2 : sT = rc_sm sp k + sp k := hT
      rw [h1, h2, pk_sub (by omega), pk_sub (by omega)]
      exact congrArg nI (by omega)
    · unfold ys_cut
      by_cases w : f = k
      · rw [w, pk_us, if_pos ⟨rfl, z⟩]
      · rw [pk_un w, if_neg (by omega)]; exact hsp f hf
end
end
section
/-! ===== X: con, call, ret ===== -/
section
variable {f_codeNum f_codeOp f_codeCon f_codeCall f_codeMatch f_codeIfZero f_codeRet : Int32} {f_cellBase f_unseen : Int64} {f_capacity f_depth f_complete f_open f_stored f_scope f_borrowedNow f_pending f_liveCells f_frames f_spareTotal f_state f_borrowing f_reusing f_keeping : Int32} {f_result : Int64} {f_steps f_fresh f_reused f_peak : Int32} {a_arities a_masks a_starts a_codes a_extras a_lefts a_rights a_scopes a_uses a_borrowed a_lends a_others a_frees a_afters a_builds a_pendingAt a_tags : Nat → Int32} {a_firsts a_seconds : Nat → Int64} {a_digests a_counts a_places a_work a_marks : Nat → Int32} {a_variables : Nat → Int64} {a_currents a_held a_spareCounts : Nat → Int32}
variable {L : Nat → Bool} {H : Nat → Bool} {E : Nat → Nat} {cnt pl wk : Nat → Int32} {lv : Nat}
theorem xs_clS {Q : Int32 → SX → Prop} {f sp sT : Nat} (hk : f_keeping = 0) (hf : f < 20) (hsp : a_spareCounts f = nI (sp + 1)) (hs : sp + 1 < 2 ^ 31)
    (h : Q 1 (f_codeNum, f_codeOp, f_codeCon, f_codeCall, f_codeMatch, f_codeIfZero, f_codeRet, f_cellBase, f_unseen, f_capacity, f_depth, f_complete, f_open, f_stored, f_scope, f_borrowedNow, f_pending, f_liveCells, f_frames, nI sT, f_state, f_borrowing, f_reusing, f_keeping, f_result, f_steps, f_fresh, f_reused + 1, f_peak, a_arities, a_masks, a_starts, a_codes, a_extras, a_lefts, a_rights, a_scopes, a_uses, a_borrowed, a_lends, a_others, a_frees, a_afters, a_builds, a_pendingAt, a_tags, a_firsts, a_seconds, a_digests, a_counts, a_places, a_work, a_marks, a_variables, a_currents, a_held, upd a_spareCounts f (nI sp))) : wpX_claim Q (f_codeNum, f_codeOp, f_codeCon, f_codeCall, f_codeMatch, f_codeIfZero, f_codeRet, f_cellBase, f_unseen, f_capacity, f_depth, f_complete, f_open, f_stored, f_scope, f_borrowedNow, f_pending, f_liveCells, f_frames, nI (sT + 1), f_state, f_borrowing, f_reusing, f_keeping, f_result, f_steps, f_fresh, f_reused, f_peak, a_arities, a_masks, a_starts, a_codes, a_extras, a_lefts, a_rights, a_scopes, a_uses, a_borrowed, a_lends, a_others, a_frees, a_afters, a_builds, a_pendingAt, a_tags, a_firsts, a_seconds, a_digests, a_counts, a_places, a_work, a_marks, a_variables, a_currents, a_held, a_spareCounts) (nI f) := by
  unfold wpX_claim
  (try dsimp only)
  rw [nI_clamp (show f < 2 ^ 31 by omega), hsp, nI_pred]
  exact br_t hk ⟨vp_in_nI hf (by omega), br_f (nI_nle (by omega) hs) ⟨vp_in_nI hf (by omega), vp_in_nI hf (by omega), nm_e (nm_r (nI_pred sT) (nm_e h))⟩⟩
theorem xs_clF {Q : Int32 → SX → Prop} {f sT cp : Nat} (hk : f_keeping = 0) (hf : f < 20) (hsp : a_spareCounts f = 0) (hl : lv + sT < cp) (hcp : cp ≤ 64)
    (h : Q 1 (f_codeNum, f_codeOp, f_codeCon, f_codeCall, f_codeMatch, f_codeIfZero, f_codeRet, f_cellBase, f_unseen, nI cp, f_depth, f_complete, f_open, f_stored, f_scope, f_borrowedNow, f_pending, nI lv, f_frames, nI sT, f_state, f_borrowing, f_reusing, f_keeping, f_result, f_steps, f_fresh + 1, f_reused, f_peak, a_arities, a_masks, a_starts, a_codes, a_extras, a_lefts, a_rights, a_scopes, a_uses, a_borrowed, a_lends, a_others, a_frees, a_afters, a_builds, a_pendingAt, a_tags, a_firsts, a_seconds, a_digests, a_counts, a_places, a_work, a_marks, a_variables, a_currents, a_held, a_spareCounts)) : wpX_claim Q (f_codeNum, f_codeOp, f_codeCon, f_codeCall, f_codeMatch, f_codeIfZero, f_codeRet, f_cellBase, f_unseen, nI cp, f_depth, f_complete, f_open, f_stored, f_scope, f_borrowedNow, f_pending, nI lv, f_frames, nI sT, f_state, f_borrowing, f_reusing, f_keeping, f_result, f_steps, f_fresh, f_reused, f_peak, a_arities, a_masks, a_starts, a_codes, a_extras, a_lefts, a_rights, a_scopes, a_uses, a_borrowed, a_lends, a_others, a_frees, a_afters, a_builds, a_pendingAt, a_tags, a_firsts, a_seconds, a_digests, a_counts, a_places, a_work, a_marks, a_variables, a_currents, a_held, a_spareCounts) (nI f) := by
  unfold wpX_claim
  (try dsimp only)
  rw [nI_clamp (show f < 2 ^ 31 by omega), hsp, nI_add]
  exact br_t hk ⟨vp_in_nI hf (by omega), br_t (Int32.le_refl _) (br_t (nI_lt hl (by omega)) (nm_e h))⟩
theorem xs_clN {Q : Int32 → SX → Prop} {f sT cp : Nat} (hk : f_keeping = 0) (hf : f < 20) (hsp : a_spareCounts f = 0) (hl : cp ≤ lv + sT) (hcp : lv + sT < 2 ^ 31)
    (h : Q 0 (f_codeNum, f_codeOp, f_codeCon, f_codeCall, f_codeMatch, f_codeIfZero, f_codeRet, f_cellBase, f_unseen, nI cp, f_depth, f_complete, f_open, f_stored, f_scope, f_borrowedNow, f_pending, nI lv, f_frames, nI sT, f_state, f_borrowing, f_reusing, f_keeping, f_result, f_steps, f_fresh, f_reused, f_peak, a_arities, a_masks, a_starts, a_codes, a_extras, a_lefts, a_rights, a_scopes, a_uses, a_borrowed, a_lends, a_others, a_frees, a_afters, a_builds, a_pendingAt, a_tags, a_firsts, a_seconds, a_digests, a_counts, a_places, a_work, a_marks, a_variables, a_currents, a_held, a_spareCounts)) : wpX_claim Q (f_codeNum, f_codeOp, f_codeCon, f_codeCall, f_codeMatch, f_codeIfZero, f_codeRet, f_cellBase, f_unseen, nI cp, f_depth, f_complete, f_open, f_stored, f_scope, f_borrowedNow, f_pending, nI lv, f_frames, nI sT, f_state, f_borrowing, f_reusing, f_keeping, f_result, f_steps, f_fresh, f_reused, f_peak, a_arities, a_masks, a_starts, a_codes, a_extras, a_lefts, a_rights, a_scopes, a_uses, a_borrowed, a_lends, a_others, a_frees, a_afters, a_builds, a_pendingAt, a_tags, a_firsts, a_seconds, a_digests, a_counts, a_places, a_work, a_marks, a_variables, a_currents, a_held, a_spareCounts) (nI f) := by
  unfold wpX_claim
  (try dsimp only)
  rw [nI_clamp (show f < 2 ^ 31 by omega), hsp, nI_add]
  exact br_t hk ⟨vp_in_nI hf (by omega), br_t (Int32.le_refl _) (br_f (nI_nlt hl (by omega)) h)⟩
theorem xs_clK {Q : Int32 → SX → Prop} {p0 : Int32} (hk : ¬ f_keeping = 0) (hl : lv < 160) (h : Q 1 (f_codeNum, f_codeOp, f_codeCon, f_codeCall, f_codeMatch, f_codeIfZero, f_codeRet, f_cellBase, f_unseen, f_capacity, f_depth, f_complete, f_open, f_stored, f_scope, f_borrowedNow, f_pending, nI lv, f_frames, f_spareTotal, f_state, f_borrowing, f_reusing, f_keeping, f_result, f_steps, f_fresh + 1, f_reused, f_peak, a_arities, a_masks, a_starts, a_codes, a_extras, a_lefts, a_rights, a_scopes, a_uses, a_borrowed, a_lends, a_others, a_frees, a_afters, a_builds, a_pendingAt, a_tags, a_firsts, a_seconds, a_digests, a_counts, a_places, a_work, a_marks, a_variables, a_currents, a_held, a_spareCounts)) : wpX_claim Q (f_codeNum, f_codeOp, f_codeCon, f_codeCall, f_codeMatch, f_codeIfZero, f_codeRet, f_cellBase, f_unseen, f_capacity, f_depth, f_complete, f_open, f_stored, f_scope, f_borrowedNow, f_pending, nI lv, f_frames, f_spareTotal, f_state, f_borrowing, f_reusing, f_keeping, f_result, f_steps, f_fresh, f_reused, f_peak, a_arities, a_masks, a_starts, a_codes, a_extras, a_lefts, a_rights, a_scopes, a_uses, a_borrowed, a_lends, a_others, a_frees, a_afters, a_builds, a_pendingAt, a_tags, a_firsts, a_seconds, a_digests, a_counts, a_places, a_work, a_marks, a_variables, a_currents, a_held, a_spareCounts) p0 :=
  br_f hk (br_t (nI_lt (b := 160) hl (by omega)) (nm_e h))
theorem xs_clKN {Q : Int32 → SX → Prop} {p0 : Int32} (hk : ¬ f_keeping = 0) (hl : 160 ≤ lv) (hl2 : lv < 2 ^ 31) (h : Q 0 (f_codeNum, f_codeOp, f_codeCon, f_codeCall, f_codeMatch, f_codeIfZero, f_codeRet, f_cellBase, f_unseen, f_capacity, f_depth, f_complete, f_open, f_stored, f_scope, f_borrowedNow, f_pending, nI lv, f_frames, f_spareTotal, f_state, f_borrowing, f_reusing, f_keeping, f_result, f_steps, f_fresh, f_reused, f_peak, a_arities, a_masks, a_starts, a_codes, a_extras, a_lefts, a_rights, a_scopes, a_uses, a_borrowed, a_lends, a_others, a_frees, a_afters, a_builds, a_pendingAt, a_tags, a_firsts, a_seconds, a_digests, a_counts, a_places, a_work, a_marks, a_variables, a_currents, a_held, a_spareCounts)) : wpX_claim Q (f_codeNum, f_codeOp, f_codeCon, f_codeCall, f_codeMatch, f_codeIfZero, f_codeRet, f_cellBase, f_unseen, f_capacity, f_depth, f_complete, f_open, f_stored, f_scope, f_borrowedNow, f_pending, nI lv, f_frames, f_spareTotal, f_state, f_borrowing, f_reusing, f_keeping, f_result, f_steps, f_fresh, f_reused, f_peak, a_arities, a_masks, a_starts, a_codes, a_extras, a_lefts, a_rights, a_scopes, a_uses, a_borrowed, a_lends, a_others, a_frees, a_afters, a_builds, a_pendingAt, a_tags, a_firsts, a_seconds, a_digests, a_counts, a_places, a_work, a_marks, a_variables, a_currents, a_held, a_spareCounts) p0 :=
  br_f hk (br_f (nI_nlt (b := 160) hl hl2) h)
theorem xs_con {post : Int32 → SX → Prop} {f s d la ra : Nat} {sT' fre' reu' : Int32} {sX' : Nat → Int32} (hf : f < 20) (hs : s + 1 < 96) (hd : a_scopes s = nI d) (hd2 : d < 12) (hla : la < 12) (hra : ra < 12) (ela : a_lefts s = nI la) (era : a_rights s = nI ra)
    (hcl : ∀ Q : Int32 → SX → Prop, Q 1 (f_codeNum, f_codeOp, f_codeCon, f_codeCall, f_codeMatch, f_codeIfZero, f_codeRet, f_cellBase, f_unseen, f_capacity, f_depth, f_complete, f_open, f_stored, f_scope, f_borrowedNow, f_pending, nI lv, f_frames, sT', f_state, f_borrowing, f_reusing, f_keeping, f_result, f_steps, fre', reu', f_peak, a_arities, a_masks, a_starts, a_codes, a_extras, a_lefts, a_rights, a_scopes, a_uses, a_borrowed, a_lends, a_others, a_frees, a_afters, a_builds, a_pendingAt, a_tags, a_firsts, a_seconds, a_digests, cnt, pl, wk, a_marks, a_variables, a_currents, a_held, sX') → wpX_claim Q (f_codeNum, f_codeOp, f_codeCon, f_codeCall, f_codeMatch, f_codeIfZero, f_codeRet, f_cellBase, f_unseen, f_capacity, f_depth, f_complete, f_open, f_stored, f_scope, f_borrowedNow, f_pending, nI lv, f_frames, f_spareTotal, f_state, f_borrowing, f_reusing, f_keeping, f_result, f_steps, f_fresh, f_reused, f_peak, a_arities, a_masks, a_starts, a_codes, a_extras, a_lefts, a_rights, a_scopes, a_uses, a_borrowed, a_lends, a_others, a_frees, a_afters, a_builds, a_pendingAt, a_tags, a_firsts, a_seconds, a_digests, cnt, pl, wk, a_marks, a_variables, a_currents, a_held, a_spareCounts) (nI f))
    (hl : lv < 160) (hE : ∀ c, c < 160 → E c ≤ 10) (hH : ∀ i, i < 12 → H (f * 12 + i) = bt (a_held f) i) (hHd : bt (a_held f) d = false)
    (hx : rc_gv (a_variables (f * 12 + la))) (hy : rc_gv (a_variables (f * 12 + ra)))
    (hxL : ∀ q, q < 160 → a_variables (f * 12 + la) = rc_cv q → L q = true) (hyL : ∀ q, q < 160 → a_variables (f * 12 + ra) = rc_cv q → L q = true)
    (hg : ∀ i, i < 12 → i ≠ d → bt (xg_m f_borrowing (a_frees (s + 1)) (a_borrowed (s + 1))) i = true → bt (a_held f) i = true)
    (S : hx_S f_keeping L a_firsts a_seconds a_variables H E cnt pl lv wk)
    (hp : ∀ c L' cnt' pl' lv' wk', c < 160 → L c = false → (¬ f_keeping = 0 → c = lv) → (∀ q, L' q = true → hp_ad L c q = true) → (¬ f_keeping = 0 → L' = hp_ad L c ∧ lv' = lv + 1) →
      hx_S f_keeping L' (vp_updL a_firsts c (a_variables (f * 12 + la))) (vp_updL a_seconds c (a_variables (f * 12 + ra))) (vp_updL a_variables (f * 12 + d) (rc_cv c)) (hp_h H (f * 12) (xg_m f_borrowing (a_frees (s + 1)) (a_borrowed (s + 1)))) E cnt' pl' lv' wk' →
      post 1 (f_codeNum, f_codeOp, f_codeCon, f_codeCall, f_codeMatch, f_codeIfZero, f_codeRet, f_cellBase, f_unseen, f_capacity, f_depth, f_complete, f_open, f_stored, f_scope, f_borrowedNow, f_pending, nI lv', f_frames, sT', f_state, f_borrowing, f_reusing, f_keeping, f_result, f_steps, fre', reu', f_peak, a_arities, a_masks, a_starts, a_codes, a_extras, a_lefts, a_rights, a_scopes, a_uses, a_borrowed, a_lends, a_others, a_frees, a_afters, a_builds, a_pendingAt, upd a_tags c (a_extras s), vp_updL a_firsts c (a_variables (f * 12 + la)), vp_updL a_seconds c (a_variables (f * 12 + ra)), upd a_digests c ((((31 * xg_d a_digests (a_variables (f * 12 + la))) + (1009 * xg_d a_digests (a_variables (f * 12 + ra)))) + a_extras s) + 2), cnt', pl', wk', a_marks, vp_updL a_variables (f * 12 + d) (rc_cv c), upd a_currents f (nI (s + 1)), upd a_held f (xg_m f_borrowing (a_frees (s + 1)) (a_borrowed (s + 1))), sX')) :
    wpX_stepCon post (f_codeNum, f_codeOp, f_codeCon, f_codeCall, f_codeMatch, f_codeIfZero, f_codeRet, f_cellBase, f_unseen, f_capacity, f_depth, f_complete, f_open, f_stored, f_scope, f_borrowedNow, f_pending, nI lv, f_frames, f_spareTotal, f_state, f_borrowing, f_reusing, f_keeping, f_result, f_steps, f_fresh, f_reused, f_peak, a_arities, a_masks, a_starts, a_codes, a_extras, a_lefts, a_rights, a_scopes, a_uses, a_borrowed, a_lends, a_others, a_frees, a_afters, a_builds, a_pendingAt, a_tags, a_firsts, a_seconds, a_digests, cnt, pl, wk, a_marks, a_variables, a_currents, a_held, a_spareCounts) (nI f) (nI s) := by
  unfold wpX_stepCon
  (try dsimp only)
  refine hcl _ (br_f (by decide) ?_)
  (try dsimp only)
  rw [nI_clamp (show s < 2 ^ 31 by omega), ela, era]
  refine nm_r (e' := nI (f * 12)) (pk_mul f 12) ?_
  rw [nI_add, nI_add, nI_clamp (show f * 12 + la < 2 ^ 31 by omega), nI_clamp (show f * 12 + ra < 2 ^ 31 by omega)]
  refine ⟨vp_in_nI (by omega) (by omega), vp_in_nI (by omega) (by omega), nm_e ⟨vp_in_nI (by omega) (by omega), vp_in_nI (by omega) (by omega), nm_e ⟨vp_in_nI (by omega) (by omega), ?_⟩⟩⟩
  refine xx_build hl hx hy hxL hyL S (fun c cnt1 hc hLc hck S1 => ?_)
  (try dsimp only)
  rw [hd, nI_add, nI_clamp (show f * 12 + d < 2 ^ 31 by omega), nI_1]
  have hHd' : H (f * 12 + d) = false := by rw [hH d hd2]; exact hHd
  refine ⟨vp_in_nI (by omega) (by omega), vp_in_nI (by omega) (by omega), nm_e ?_⟩
  refine xx_goOn (E := fun q => E q + rc_d (rc_cv c) q) hf (by omega) (fun q hq => by have := hE q hq; have := rc_d_le (rc_cv c) q; (try dsimp only); omega) hH (fun i hi h1 h2 => ?_) (hx_vs (fun _ _ => rfl) (fun x hx hHx => ?_) S1) (fun L2 cnt2 pl2 lv2 wk2 hs2 hk2 S2 => ?_)
  · by_cases e : i = d
    · rw [e, pk_uLs]
      refine ⟨Or.inr ⟨c, hc, rfl⟩, fun q hq eq => ?_⟩
      rw [← rc_cv_inj (by omega) (by omega) eq]
      exact if_pos rfl
    · have := hg i hi e h1
      rw [this] at h2; exact absurd h2 (by decide)
  · refine pk_uLn (fun e => ?_)
    rw [e, hHd'] at hHx; exact absurd hHx (by decide)
  · refine xx_release (E := E) (fun q hq => by have := hE q hq; omega) (Or.inr ⟨c, hc, rfl⟩) S2 (fun L3 cnt3 pl3 lv3 wk3 hs3 hk3 S3 => ?_)
    exact hp c L3 cnt3 pl3 lv3 wk3 hc hLc hck (fun q hq => hs2 q (hs3 q hq)) (fun z => by rw [(hk3 z).1, (hk3 z).2]; exact hk2 z) S3
theorem xs_call {post : Int32 → SX → Prop} {f s n dp g ar t la ra : Nat} {vs' : Nat → Int64} {w : Int32} (hn : n = f + 1) (hd : n < dp) (hdp : dp ≤ 20) (hs : s < 96) (hg6 : g < 6) (ht : t < 96)
    (eg : a_extras s = nI g) (ear : a_arities g = nI ar) (har : ar ≤ 2) (et : a_starts g = nI t) (ela : 1 ≤ ar → la < 12 ∧ a_lefts s = nI la) (era : ar = 2 → ra < 12 ∧ a_rights s = nI ra)
    (hvs : vs' = xs_av ar a_variables (n * 12) (f * 12 + la) (f * 12 + ra)) (hw : w = if f_borrowing = 0 then a_afters s else (a_afters s &&& (a_borrowed s ^^^ (-1))) ||| a_lends s)
    (hE : ∀ c, c < 160 → E c ≤ 20) (hH : ∀ i, i < 12 → H (f * 12 + i) = bt (a_held f) i) (hHn : ∀ i, i < 12 → H (n * 12 + i) = false)
    (hgn : ∀ i, i < 12 → bt (xg_m f_borrowing (a_frees t) (a_borrowed t)) i = true → rc_gv (vs' (n * 12 + i)) ∧ ∀ c, c < 160 → vs' (n * 12 + i) = rc_cv c → L c = true)
    (hgw : ∀ i, i < 12 → bt w i = true → bt (a_held f) i = true)
    (S : hx_S f_keeping L a_firsts a_seconds vs' H E cnt pl lv wk)
    (hp : ∀ L' cnt' pl' lv' wk', (∀ c, L' c = true → L c = true) → (¬ f_keeping = 0 → L' = L ∧ lv' = lv) →
      hx_S f_keeping L' a_firsts a_seconds vs' (hp_h (hp_h H (n * 12) (xg_m f_borrowing (a_frees t) (a_borrowed t))) (f * 12) w) E cnt' pl' lv' wk' →
      post 1 (f_codeNum, f_codeOp, f_codeCon, f_codeCall, f_codeMatch, f_codeIfZero, f_codeRet, f_cellBase, f_unseen, f_capacity, nI dp, f_complete, f_open, f_stored, f_scope, f_borrowedNow, f_pending, nI lv', nI (n + 1), f_spareTotal, f_state, f_borrowing, f_reusing, f_keeping, f_result, f_steps, f_fresh, f_reused, f_peak, a_arities, a_masks, a_starts, a_codes, a_extras, a_lefts, a_rights, a_scopes, a_uses, a_borrowed, a_lends, a_others, a_frees, a_afters, a_builds, a_pendingAt, a_tags, a_firsts, a_seconds, a_digests, cnt', pl', wk', a_marks, vs', upd a_currents n (nI t), upd (upd (upd a_held n 0) n (xg_m f_borrowing (a_frees t) (a_borrowed t))) f w, upd a_spareCounts n 0)) :
    wpX_stepCall post (f_codeNum, f_codeOp, f_codeCon, f_codeCall, f_codeMatch, f_codeIfZero, f_codeRet, f_cellBase, f_unseen, f_capacity, nI dp, f_complete, f_open, f_stored, f_scope, f_borrowedNow, f_pending, nI lv, nI n, f_spareTotal, f_state, f_borrowing, f_reusing, f_keeping, f_result, f_steps, f_fresh, f_reused, f_peak, a_arities, a_masks, a_starts, a_codes, a_extras, a_lefts, a_rights, a_scopes, a_uses, a_borrowed, a_lends, a_others, a_frees, a_afters, a_builds, a_pendingAt, a_tags, a_firsts, a_seconds, a_digests, cnt, pl, wk, a_marks, a_variables, a_currents, a_held, a_spareCounts) (nI f) (nI s) := by
  have t107 : wX_stepCall_107 post (nI f) (nI s) (nI g) (nI n) f_codeNum f_codeOp f_codeCon f_codeCall f_codeMatch f_codeIfZero f_codeRet f_cellBase f_unseen f_capacity (nI dp) f_complete f_open f_stored f_scope f_borrowedNow f_pending (nI lv) (nI n) f_spareTotal f_state f_borrowing f_reusing f_keeping f_result f_steps f_fresh f_reused f_peak a_arities a_masks a_starts a_codes a_extras a_lefts a_rights a_scopes a_uses a_borrowed a_lends a_others a_frees a_afters a_builds a_pendingAt a_tags a_firsts a_seconds a_digests cnt pl wk a_marks vs' a_currents a_held a_spareCounts := by
    unfold wX_stepCall_107
    rw [nI_clamp (show n < 2 ^ 31 by omega), nI_clamp (show g < 2 ^ 31 by omega), nI_clamp (show s < 2 ^ 31 by omega), et]
    refine nm_r (nI_1 n) ⟨vp_in_nI (by omega) (by omega), nm_e ⟨vp_in_nI (by omega) (by omega), nm_e ⟨vp_in_nI (by omega) (by omega), ?_⟩⟩⟩
    refine xx_goOn (by omega) ht hE (fun i hi => by rw [hHn i hi, pk_us, b_0]) (fun i hi h1 _ => hgn i hi h1) S (fun L1 cnt1 pl1 lv1 wk1 hs1 hk1 S1 => ⟨vp_in_nI hs (by omega), nm_e ?_⟩)
    have fin : wX_stepCall_180 post (nI f) w f_codeNum f_codeOp f_codeCon f_codeCall f_codeMatch f_codeIfZero f_codeRet f_cellBase f_unseen f_capacity (nI dp) f_complete f_open f_stored f_scope f_borrowedNow f_pending (nI lv1) (nI (n + 1)) f_spareTotal f_state f_borrowing f_reusing f_keeping f_result f_steps f_fresh f_reused f_peak a_arities a_masks a_starts a_codes a_extras a_lefts a_rights a_scopes a_uses a_borrowed a_lends a_others a_frees a_afters a_builds a_pendingAt a_tags a_firsts a_seconds a_digests cnt1 pl1 wk1 a_marks vs' (upd a_currents n (nI t)) (upd (upd a_held n 0) n (xg_m f_borrowing (a_frees t) (a_borrowed t))) (upd a_spareCounts n 0) := by
      unfold wX_stepCall_180
      have hfn : f ≠ n := by omega
      have ehf : upd (upd a_held n 0) n (xg_m f_borrowing (a_frees t) (a_borrowed t)) f = a_held f := by rw [pk_un hfn, pk_un hfn]
      refine xx_hold (by omega) hE (fun i hi => ?_) (fun i hi h1 h2 => ?_) S1 (fun L2 cnt2 pl2 lv2 wk2 hs2 hk2 S2 => ?_)
      · rw [ehf]
        unfold hp_h
        rw [if_neg (by omega)]
        exact hH i hi
      · rw [ehf, hgw i hi h1] at h2; exact absurd h2 (by decide)
      · exact hp L2 cnt2 pl2 lv2 wk2 (fun q hq => hs1 q (hs2 q hq)) (fun z => by rw [(hk2 z).1, (hk2 z).2]; exact hk1 z) S2
    by_cases hb : f_borrowing = 0
    · rw [if_pos hb] at hw
      rw [hw] at fin
      exact br_t hb fin
    · rw [if_neg hb] at hw
      rw [hw] at fin
      exact br_f hb ⟨vp_in_nI hs (by omega), vp_in_nI hs (by omega), nm_e fin⟩
  unfold wpX_stepCall
  (try dsimp only)
  rw [nI_clamp (show s < 2 ^ 31 by omega)]
  refine br_t (nI_lt hd (by omega)) ⟨vp_in_nI hs (by omega), nm_r eg (nm_r (e' := nI n) (by rw [hn]; exact nI_1 f) (nm_r (e' := nI (f * 12)) (pk_mul f 12) (nm_r (e' := nI (n * 12)) (pk_mul n 12) ⟨vp_in_nI hg6 (by omega), ?_⟩)))⟩
  rw [nI_clamp (show g < 2 ^ 31 by omega), ear, nI_clamp (show n * 12 < 2 ^ 31 by omega)]
  have c0 : ar = 0 → wX_stepCall_74 post (nI f) (nI s) (nI g) (nI n) (nI (f * 12)) (nI (n * 12)) f_codeNum f_codeOp f_codeCon f_codeCall f_codeMatch f_codeIfZero f_codeRet f_cellBase f_unseen f_capacity (nI dp) f_complete f_open f_stored f_scope f_borrowedNow f_pending (nI lv) (nI n) f_spareTotal f_state f_borrowing f_reusing f_keeping f_result f_steps f_fresh f_reused f_peak a_arities a_masks a_starts a_codes a_extras a_lefts a_rights a_scopes a_uses a_borrowed a_lends a_others a_frees a_afters a_builds a_pendingAt a_tags a_firsts a_seconds a_digests cnt pl wk a_marks a_variables a_currents a_held a_spareCounts := fun z => by
    unfold wX_stepCall_74
    rw [nI_clamp (show g < 2 ^ 31 by omega), ear, z]
    have e : vs' = a_variables := by rw [hvs, z]; rfl
    rw [e] at t107
    exact ⟨vp_in_nI hg6 (by omega), br_f (by decide) t107⟩
  have c1 : ar = 1 → wX_stepCall_74 post (nI f) (nI s) (nI g) (nI n) (nI (f * 12)) (nI (n * 12)) f_codeNum f_codeOp f_codeCon f_codeCall f_codeMatch f_codeIfZero f_codeRet f_cellBase f_unseen f_capacity (nI dp) f_complete f_open f_stored f_scope f_borrowedNow f_pending (nI lv) (nI n) f_spareTotal f_state f_borrowing f_reusing f_keeping f_result f_steps f_fresh f_reused f_peak a_arities a_masks a_starts a_codes a_extras a_lefts a_rights a_scopes a_uses a_borrowed a_lends a_others a_frees a_afters a_builds a_pendingAt a_tags a_firsts a_seconds a_digests cnt pl wk a_marks (vp_updL a_variables (n * 12) (a_variables (f * 12 + la))) a_currents a_held a_spareCounts := fun z => by
    unfold wX_stepCall_74
    rw [nI_clamp (show g < 2 ^ 31 by omega), ear, z]
    have e : vs' = vp_updL a_variables (n * 12) (a_variables (f * 12 + la)) := by rw [hvs, z]; rfl
    rw [e] at t107
    exact ⟨vp_in_nI hg6 (by omega), br_f (by decide) t107⟩
  have c2 : ar = 2 → wX_stepCall_74 post (nI f) (nI s) (nI g) (nI n) (nI (f * 12)) (nI (n * 12)) f_codeNum f_codeOp f_codeCon f_codeCall f_codeMatch f_codeIfZero f_codeRet f_cellBase f_unseen f_capacity (nI dp) f_complete f_open f_stored f_scope f_borrowedNow f_pending (nI lv) (nI n) f_spareTotal f_state f_borrowing f_reusing f_keeping f_result f_steps f_fresh f_reused f_peak a_arities a_masks a_starts a_codes a_extras a_lefts a_rights a_scopes a_uses a_borrowed a_lends a_others a_frees a_afters a_builds a_pendingAt a_tags a_firsts a_seconds a_digests cnt pl wk a_marks (vp_updL a_variables (n * 12) (a_variables (f * 12 + la))) a_currents a_held a_spareCounts := fun z => by
    obtain ⟨r1, r2⟩ := era z
    unfold wX_stepCall_74
    rw [nI_clamp (show g < 2 ^ 31 by omega), nI_clamp (show s < 2 ^ 31 by omega), ear, z, r2, nI_add, nI_1, nI_clamp (show f * 12 + ra < 2 ^ 31 by omega), nI_clamp (show n * 12 + 1 < 2 ^ 31 by omega)]
    have e : vs' = vp_updL (vp_updL a_variables (n * 12) (a_variables (f * 12 + la))) (n * 12 + 1) (vp_updL a_variables (n * 12) (a_variables (f * 12 + la)) (f * 12 + ra)) := by rw [hvs, z]; rfl
    rw [e] at t107
    exact ⟨vp_in_nI hg6 (by omega), br_t rfl ⟨vp_in_nI hs (by omega), vp_in_nI (by omega) (by omega), vp_in_nI (by omega) (by omega), nm_e t107⟩⟩
  refine pk_lt ar 1 (fun z => c0 (by omega)) (fun z => ?_)
  obtain ⟨l1, l2⟩ := ela z
  rw [l2, nI_add, nI_clamp (show f * 12 + la < 2 ^ 31 by omega)]
  refine ⟨vp_in_nI hs (by omega), vp_in_nI (by omega) (by omega), vp_in_nI (by omega) (by omega), nm_e ?_⟩
  by_cases z2 : ar = 1
  · exact c1 z2
  · exact c2 (by omega)
theorem xs_ret {post : SX → Prop} {f s la sT sp : Nat} {v : Int64} (hf : f < 20) (hs : s < 96) (hla : la < 12) (ela : a_lefts s = nI la) (hv : v = a_variables (f * 12 + la)) (hg : rc_gv v) (hvL : ∀ c, c < 160 → v = rc_cv c → L c = true)
    (hsp : a_spareCounts f = nI sp) (hE : ∀ c, c < 160 → E c ≤ 10) (hH : ∀ i, i < 12 → H (f * 12 + i) = bt (a_held f) i)
    (S : hx_S f_keeping L a_firsts a_seconds a_variables H E cnt pl lv wk)
    (hp0 : f = 0 → ∀ L' cnt' pl' lv' wk', (∀ c, L' c = true → L c = true) → (¬ f_keeping = 0 → L' = L ∧ lv' = lv) →
      hx_S f_keeping L' a_firsts a_seconds a_variables (hp_h H (f * 12) 0) (fun q => E q + rc_d v q) cnt' pl' lv' wk' →
      post (f_codeNum, f_codeOp, f_codeCon, f_codeCall, f_codeMatch, f_codeIfZero, f_codeRet, f_cellBase, f_unseen, f_capacity, f_depth, f_complete, f_open, f_stored, f_scope, f_borrowedNow, f_pending, nI lv', 0, nI sT, 2, f_borrowing, f_reusing, f_keeping, v, f_steps, f_fresh, f_reused, f_peak, a_arities, a_masks, a_starts, a_codes, a_extras, a_lefts, a_rights, a_scopes, a_uses, a_borrowed, a_lends, a_others, a_frees, a_afters, a_builds, a_pendingAt, a_tags, a_firsts, a_seconds, a_digests, cnt', pl', wk', a_marks, a_variables, a_currents, upd a_held f 0, upd a_spareCounts f 0))
    (hp1 : ∀ w, f = w + 1 → ∃ t d, t + 1 < 96 ∧ a_currents w = nI t ∧ a_scopes t = nI d ∧ d < 12 ∧ bt (a_held w) d = false ∧ (∀ i, i < 12 → H (w * 12 + i) = bt (a_held w) i) ∧
      (∀ i, i < 12 → i ≠ d → bt (xg_m f_borrowing (a_frees (t + 1)) (a_borrowed (t + 1))) i = true → bt (a_held w) i = true) ∧
      ∀ L' cnt' pl' lv' wk', (∀ c, L' c = true → L c = true) → (¬ f_keeping = 0 → L' = L ∧ lv' = lv) →
      hx_S f_keeping L' a_firsts a_seconds (vp_updL a_variables (w * 12 + d) v) (hp_h (hp_h H (f * 12) 0) (w * 12) (xg_m f_borrowing (a_frees (t + 1)) (a_borrowed (t + 1)))) E cnt' pl' lv' wk' →
      post (f_codeNum, f_codeOp, f_codeCon, f_codeCall, f_codeMatch, f_codeIfZero, f_codeRet, f_cellBase, f_unseen, f_capacity, f_depth, f_complete, f_open, f_stored, f_scope, f_borrowedNow, f_pending, nI lv', nI f, nI sT, f_state, f_borrowing, f_reusing, f_keeping, f_result, f_steps, f_fresh, f_reused, f_peak, a_arities, a_masks, a_starts, a_codes, a_extras, a_lefts, a_rights, a_scopes, a_uses, a_borrowed, a_lends, a_others, a_frees, a_afters, a_builds, a_pendingAt, a_tags, a_firsts, a_seconds, a_digests, cnt', pl', wk', a_marks, vp_updL a_variables (w * 12 + d) v, upd a_currents w (nI (t + 1)), upd (upd a_held f 0) w (xg_m f_borrowing (a_frees (t + 1)) (a_borrowed (t + 1))), upd a_spareCounts f 0)) :
    wpX_stepRet post (f_codeNum, f_codeOp, f_codeCon, f_codeCall, f_codeMatch, f_codeIfZero, f_codeRet, f_cellBase, f_unseen, f_capacity, f_depth, f_complete, f_open, f_stored, f_scope, f_borrowedNow, f_pending, nI lv, f_frames, nI (sT + sp), f_state, f_borrowing, f_reusing, f_keeping, f_result, f_steps, f_fresh, f_reused, f_peak, a_arities, a_masks, a_starts, a_codes, a_extras, a_lefts, a_rights, a_scopes, a_uses, a_borrowed, a_lends, a_others, a_frees, a_afters, a_builds, a_pendingAt, a_tags, a_firsts, a_seconds, a_digests, cnt, pl, wk, a_marks, a_variables, a_currents, a_held, a_spareCounts) (nI f) (nI s) := by
  unfold wpX_stepRet
  (try dsimp only)
  rw [nI_clamp (show s < 2 ^ 31 by omega), ela, show nI f * 12 = nI (f * 12) from pk_mul f 12, nI_add, nI_clamp (show f * 12 + la < 2 ^ 31 by omega)]
  refine ⟨vp_in_nI hs (by omega), vp_in_nI (by omega) (by omega), nm_r hv.symm ?_⟩
  refine xx_ret hg hvL S (fun cnt1 S1 => ?_)
  refine xx_hold (E := fun q => E q + rc_d v q) hf (fun q hq => by have := hE q hq; have := rc_d_le v q; (try dsimp only); omega) hH (fun i hi h1 _ => by rw [b_0] at h1; exact absurd h1 (by decide)) S1 (fun L2 cnt2 pl2 lv2 wk2 hs2 hk2 S2 => ?_)
  (try dsimp only)
  rw [nI_clamp (show f < 2 ^ 31 by omega), hsp, pk_sub (by omega), Nat.add_sub_cancel]
  refine ⟨vp_in_nI hf (by omega), nm_e ⟨vp_in_nI hf (by omega), nm_e (br_c (fun z => ?_) (fun z => ?_))⟩⟩
  · have hf0 : f = 0 := by
      rcases Nat.eq_zero_or_pos f with q | q
      · exact q
      · exact absurd z (nI_ne0 q (by omega))
    have := hp0 hf0 L2 cnt2 pl2 lv2 wk2 hs2 hk2 S2
    rw [z]; exact this
  · have hf0 : f ≠ 0 := fun q => z (by rw [q]; rfl)
    obtain ⟨w, rfl⟩ : ∃ w, f = w + 1 := ⟨f - 1, by omega⟩
    obtain ⟨t, d, ht, et, ed, hd, hHd, hHw, hgw, hp⟩ := hp1 w rfl
    refine nm_r (nI_pred w) ⟨vp_in_nI (by omega) (by omega), ?_⟩
    rw [nI_clamp (show w < 2 ^ 31 by omega)]
    refine nm_r et ⟨vp_in_nI (by omega) (by omega), ?_⟩
    rw [nI_clamp (show t < 2 ^ 31 by omega), ed, show nI w * 12 = nI (w * 12) from pk_mul w 12, nI_add, nI_clamp (show w * 12 + d < 2 ^ 31 by omega), nI_1]
    refine ⟨vp_in_nI (by omega) (by omega), nm_e ?_⟩
    have hwf : w ≠ w + 1 := by omega
    have ehw : upd a_held (w + 1) 0 w = a_held w := pk_un hwf
    have hH2 : ∀ i, i < 12 → hp_h H ((w + 1) * 12) 0 (w * 12 + i) = bt (upd a_held (w + 1) 0 w) i := fun i hi => by
      rw [ehw]
      unfold hp_h
      rw [if_neg (by omega)]; exact hHw i hi
    refine xx_goOn (E := fun q => E q + rc_d v q) (by omega) ht (fun q hq => by have := hE q hq; have := rc_d_le v q; (try dsimp only); omega) hH2 (fun i hi h1 h2 => ?_) (hx_vs (fun _ _ => rfl) (fun x hx hHx => ?_) S2) (fun L3 cnt3 pl3 lv3 wk3 hs3 hk3 S3 => ?_)
    · by_cases e : i = d
      · rw [e, pk_uLs]
        refine ⟨hg, fun q hq eq => ?_⟩
        by_cases hk : f_keeping = 0
        · exact (hp_dead (S2.1 hk) hq).2.mpr (hp_KEx (by (try dsimp only); rw [eq, rc_d_s]; omega))
        · rw [(hk2 hk).1]; exact hvL q hq eq
      · rw [ehw, hgw i hi e h1] at h2; exact absurd h2 (by decide)
    · refine pk_uLn (fun e => ?_)
      rw [e, hH2 d hd, ehw, hHd] at hHx; exact absurd hHx (by decide)
    · refine xx_release (E := E) (fun q hq => by have := hE q hq; omega) hg S3 (fun L4 cnt4 pl4 lv4 wk4 hs4 hk4 S4 => ?_)
      exact hp L4 cnt4 pl4 lv4 wk4 (fun q hq => hs2 q (hs3 q (hs4 q hq))) (fun y => by rw [(hk4 y).1, (hk4 y).2, (hk3 y).1, (hk3 y).2]; exact hk2 y) S4
end
end
section
/-! ===== how the run's picture moves ===== -/
theorem xh_row {n f : Nat} {hd : Nat → Int32} {mk : Int32} (hf : f < n) (x : Nat) : hp_h (xr_H n hd) (f * 12) mk x = xr_H n (upd hd f mk) x := by
  unfold hp_h
  by_cases z : f * 12 ≤ x ∧ x < f * 12 + 12
  · rw [if_pos z]
    have e := xr_Hx (n := n) (hd := upd hd f mk) (f := f) (v := x - f * 12) hf (by omega)
    rw [show f * 12 + (x - f * 12) = x by omega, pk_us] at e
    exact e.symm
  · rw [if_neg z]
    unfold xr_H
    rw [pk_un (show x / 12 ≠ f by omega)]
theorem xh_push {n : Nat} {hd : Nat → Int32} (x : Nat) : xr_H (n + 1) (upd hd n 0) x = xr_H n hd x := by
  unfold xr_H
  by_cases z : x < n * 12
  · rw [decide_eq_true z, decide_eq_true (show x < (n + 1) * 12 by omega), pk_un (show x / 12 ≠ n by omega)]
  · rw [decide_eq_false z, Bool.false_and]
    by_cases z2 : x < (n + 1) * 12
    · rw [show x / 12 = n by omega, pk_us, b_0, Bool.and_false]
    · rw [decide_eq_false z2, Bool.false_and]
theorem xh_pop {f : Nat} {hd : Nat → Int32} (x : Nat) : xr_H f (upd hd f 0) x = hp_h (xr_H (f + 1) hd) (f * 12) 0 x := by
  rw [xh_row (by omega) x, ← xh_push x]
  unfold xr_H
  by_cases e : x / 12 = f
  · rw [e, pk_us, pk_us]
  · rw [pk_un e, pk_un e]
/-- the masks of frames below the last don't look at the last -/
theorem rr_need_o {fr af : Nat → Int32} {cu cu' : Nat → Nat} {n g : Nat} (h : cu' g = cu g) : rr_need fr af cu' n g = rr_need fr af cu n g := by
  unfold rr_need; rw [h]
theorem rr_lent_o {bor : Int32} {ln : Nat → Int32} {cu cu' : Nat → Nat} {n g : Nat} (h : cu' g = cu g) : rr_lent bor ln cu' n g = rr_lent bor ln cu n g := by
  unfold rr_lent; rw [h]
theorem rr_hold_o {bor : Int32} {fr af bo ln : Nat → Int32} {cu cu' : Nat → Nat} {n g : Nat} (h : cu' g = cu g) : rr_hold bor fr af bo ln cu' n g = rr_hold bor fr af bo ln cu n g := by
  unfold rr_hold; rw [h]
theorem rc_vr_up {L L1 : Nat → Bool} {sg sg' : Nat → Nat} {v : Int64} {cl nm : Int32} (h : rc_vr L sg v cl nm) (h1 : ∀ c, c < 160 → L c = true → L1 c = true ∧ sg' c = sg c) : rc_vr L1 sg' v cl nm := by
  rcases h with h | ⟨h0, c, hc, hL, h, h2⟩
  · exact Or.inl h
  · exact Or.inr ⟨h0, c, hc, (h1 c hc hL).1, h, by rw [(h1 c hc hL).2]; exact h2⟩
theorem rc_rch_tr {fx sy fx' sy' : Nat → Int64} {rt rt' : Nat → Prop} {L : Nat → Bool} {c : Nat} (h : rc_rch fx sy rt c) (h1 : ∀ q, q < 160 → rt q → rt' q) (h2 : ∀ q, q < 160 → rt q → L q = true)
    (h3 : ∀ d q, d < 160 → q < 160 → L d = true → (fx d = rc_cv q ∨ sy d = rc_cv q) → L q = true) (h4 : ∀ d, d < 160 → L d = true → fx' d = fx d ∧ sy' d = sy d) : rc_rch fx' sy' rt' c := by
  intro P hP1 hP2
  refine (h (fun q => L q = true ∧ P q) (fun q hq hr => ⟨h2 q hq hr, hP1 q hq (h1 q hq hr)⟩) (fun d hd hPd q hq hch => ⟨h3 d q hd hq hPd.1 hch, hP2 d hd hPd.2 q hq ?_⟩)).2
  rw [(h4 d hd hPd.1).1, (h4 d hd hPd.1).2]; exact hch
section
variable {ar mk sa kd ex lf rt sp us bo ln ot fr af bd aO bO : Nat → Int32} {sc cu : Nat → Nat} {bw : Nat → Int32} {cm b n : Nat} {bor kp : Int32} {cr hd : Nat → Int32}
variable {L L1 L' : Nat → Bool} {sg sg' rk : Nat → Nat} {fx sy fx' sy' vs vs' : Nat → Int64} {vc vn vc' vn' yb yb' : Nat → Int32} {E : Nat → Nat} {lv : Nat} {tg dg tY fc fn : Nat → Int32}
theorem rr_live (F : rr_F kd fr af bo ln bor cr hd cu b n) (Q : rr_Q fr af bo bor cu n hd fx sy vs) (Lv : rr_L kp L' fx sy vs (xr_H n hd) E lv)
    (hk : ¬ kp = 0 → ∀ c, c < 160 → L1 c = true → L' c = true) (V : rr_V fr af ln bor cu n L1 sg vs vc vn) : rr_V fr af ln bor cu n L' sg vs vc vn := by
  intro f v hf hv hvis
  have hn := F.1
  refine rc_vr_m (V f v hf hv hvis) (fun c hc e hL1 => ?_)
  by_cases hkp : kp = 0
  · by_cases hh : bt (hd f) v = true
    · exact Lv.1 hkp (f * 12 + v) c (by omega) hc (by rw [xr_Hx hf hv]; exact hh) e
    · rw [(F.2 f hf).2.2.2, rr_hb (by omega)] at hh
      cases h1 : bt (rr_need fr af cu n f) v
      · rw [h1, Bool.false_or] at hvis
        rw [hvis, Bool.or_true] at hh
        exact absurd rfl hh
      · by_cases hb : bor = 0
        · rw [h1, decide_eq_true hb] at hh
          simp at hh
        · rw [h1, decide_eq_false hb] at hh
          have hbo : bt (bo (cu f)) v = true := by
            cases h2 : bt (bo (cu f)) v
            · rw [h2] at hh; simp at hh
            · rfl
          refine Q hb f v c hf hv hc h1 hbo e (fun q => L' q = true) (fun q hq hr => ?_) (fun d hd' hLd q hq hch => Lv.2.2.1 d q hd' hq hLd hch)
          obtain ⟨x, hx, hx2, hx3⟩ := hr
          refine Lv.1 hkp x q (by omega) hq ?_ hx3
          unfold xr_H
          rw [decide_eq_true (show x < n * 12 by omega), hx2]; rfl
  · exact hk hkp c hc hL1
theorem rr_Im (I : rr_I L1 sg rk fx sy tg dg tY fc fn) (hs : ∀ c, L' c = true → L1 c = true) (Lv : rr_L kp L' fx sy vs (xr_H n hd) E lv) : rr_I L' sg rk fx sy tg dg tY fc fn := by
  refine ⟨fun c hc hL => ?_, fun c d hc hd hL hL2 => I.2 c d hc hd (hs c hL) (hs d hL2)⟩
  obtain ⟨i1, i2, i3, i4, i5, i6⟩ := I.1 c hc (hs c hL)
  exact ⟨i1, i2, rc_vr_m i3 (fun q hq e _ => Lv.2.2.1 c q hc hq hL (Or.inl e)), rc_vr_m i4 (fun q hq e _ => Lv.2.2.1 c q hc hq hL (Or.inr e)), i5, i6⟩
/-- the last frame goes on to row t -/
theorem rr_stay {f s t : Nat} (C : ct_C ar mk sa kd ex lf rt sp us bo ln ot fr af bd aO bO sc bw cm b) (hn : n = f + 1)
    (F : rr_F kd fr af bo ln bor cr hd cu b n) (V : rr_V fr af ln bor cu n L sg vs vc vn) (B : rr_B bo sc bor cu n yb) (Q : rr_Q fr af bo bor cu n hd fx sy vs)
    (hr : ¬ bor = 0 → (∀ x q, x < f * 12 → q < 160 → bt (hd (x / 12)) (x % 12) = true → vs x = rc_cv q → L q = true) ∧ ∀ d q, d < 160 → q < 160 → L d = true → (fx d = rc_cv q ∨ sy d = rc_cv q) → L q = true)
    (es : cu f = s) (ht : t < b) (hst : sc s ≤ sc t) (hst2 : sc t ≤ 12) (hfr : ∀ v, v < sc s → bt (fr t) v = true → bt (fr s) v = true) (hbo : ∀ v, v < sc s → bt (bo t) v = bt (bo s) v)
    (hlow : ∀ x, x < f * 12 + sc s → vs' x = vs x ∧ vc' x = vc x ∧ vn' x = vn x ∧ yb' x = yb x)
    (hL1 : ∀ c, c < 160 → L c = true → L1 c = true ∧ sg' c = sg c) (hfx : ∀ d, d < 160 → L d = true → fx' d = fx d ∧ sy' d = sy d)
    (hnew : ∀ v, sc s ≤ v → v < sc t → bt (fr t) v = true → rc_vr L1 sg' (vs' (f * 12 + v)) (vc' (f * 12 + v)) (vn' (f * 12 + v)))
    (hnb : ∀ v, sc s ≤ v → v < sc t → yb' (f * 12 + v) = rc_b (!decide (bor = 0) && bt (bo t) v))
    (hnq : ¬ bor = 0 → ∀ v c, sc s ≤ v → v < sc t → c < 160 → bt (fr t) v = true → bt (bo t) v = true → vs' (f * 12 + v) = rc_cv c → rc_rch fx sy (fun q => ∃ x, x < f * 12 ∧ bt (hd (x / 12)) (x % 12) = true ∧ vs x = rc_cv q) c) :
    rr_F kd fr af bo ln bor (upd cr f (nI t)) (upd hd f (xg_m bor (fr t) (bo t))) (fun g => if g = f then t else cu g) b n ∧
    rr_V fr af ln bor (fun g => if g = f then t else cu g) n L1 sg' vs' vc' vn' ∧ rr_B bo sc bor (fun g => if g = f then t else cu g) n yb' ∧
    rr_Q fr af bo bor (fun g => if g = f then t else cu g) n (upd hd f (xg_m bor (fr t) (bo t))) fx' sy' vs' := by
  have ef : (fun g => if g = f then t else cu g) f = t := if_pos rfl
  have eo : ∀ g, g ≠ f → (fun g => if g = f then t else cu g) g = cu g := fun g hg => if_neg hg
  obtain ⟨e, he, T⟩ := C.2.2.1 t ht
  have hlt : ∀ v, v < 12 → bt (fr t) v = true → v < sc t := fun v hv h => ((ct_F C he T (by omega)).mp h).1
  have nf : rr_need fr af (fun g => if g = f then t else cu g) n f = fr t := by unfold rr_need; rw [if_pos hn.symm, ef]
  have nf0 : rr_need fr af cu n f = fr s := by unfold rr_need; rw [if_pos hn.symm, es]
  refine ⟨⟨F.1, fun g hg => ?_⟩, fun g v hg hv hvis => ?_, fun g v hg hv => ?_, fun hb g v c hg hv hc h1 h2 h3 => ?_⟩
  · by_cases z : g = f
    · rw [z, pk_us, pk_us, ef]
      refine ⟨rfl, ht, fun q => by omega, ?_⟩
      unfold rr_hold
      rw [if_pos hn.symm, ef]
    · obtain ⟨f1, f2, f3, f4⟩ := F.2 g hg
      rw [pk_un z, pk_un z, eo g z, rr_hold_o (eo g z)]
      exact ⟨f1, f2, f3, f4⟩
  · by_cases z : g = f
    · subst z
      have hl : rr_lent bor ln (fun q => if q = g then t else cu q) n g = 0 := by unfold rr_lent; rw [if_pos (Or.inl hn.symm)]
      rw [nf, hl, b_0, Bool.or_false] at hvis
      by_cases z2 : v < sc s
      · obtain ⟨l1, l2, l3, l4⟩ := hlow (g * 12 + v) (by omega)
        rw [l1, l2, l3]
        refine rc_vr_up (V g v hg hv ?_) hL1
        rw [nf0, hfr v z2 hvis]; rfl
      · exact hnew v (by omega) (hlt v hv hvis) hvis
    · rw [rr_need_o (eo g z), rr_lent_o (eo g z)] at hvis
      obtain ⟨l1, l2, l3, l4⟩ := hlow (g * 12 + v) (by omega)
      rw [l1, l2, l3]
      exact rc_vr_up (V g v hg hv hvis) hL1
  · by_cases z : g = f
    · subst z
      rw [ef] at hv
      rw [ef]
      by_cases z2 : v < sc s
      · have := B g v hg (by rw [es]; exact z2)
        rw [es] at this
        rw [(hlow (g * 12 + v) (by omega)).2.2.2, this, hbo v z2]
      · exact hnb v (by omega) hv
    · rw [eo g z] at hv
      rw [eo g z]
      have h12 : sc (cu g) ≤ 12 := (C.2.2.2.1 (cu g) (F.2 g hg).2.1).2.1.2.2.1
      rw [(hlow (g * 12 + v) (by omega)).2.2.2]
      exact B g v hg hv
  · obtain ⟨r1, r2⟩ := hr hb
    have key : ∀ g', g' ≤ f → ∀ c, rc_rch fx sy (fun q => ∃ x, x < g' * 12 ∧ bt (hd (x / 12)) (x % 12) = true ∧ vs x = rc_cv q) c →
        rc_rch fx' sy' (fun q => ∃ x, x < g' * 12 ∧ bt (upd hd f (xg_m bor (fr t) (bo t)) (x / 12)) (x % 12) = true ∧ vs' x = rc_cv q) c := by
      intro g' hg' c hc'
      refine rc_rch_tr hc' (fun q hq hr' => ?_) (fun q hq hr' => ?_) (fun d q hd' hq hLd hch => r2 d q hd' hq hLd hch) hfx
      · obtain ⟨x, x1, x2, x3⟩ := hr'
        refine ⟨x, x1, ?_, by rw [(hlow x (by omega)).1]; exact x3⟩
        rw [pk_un (show x / 12 ≠ f by omega)]; exact x2
      · obtain ⟨x, x1, x2, x3⟩ := hr'
        exact r1 x q (by omega) hq x2 x3
    by_cases z : g = f
    · subst z
      rw [nf] at h1
      rw [ef] at h2
      refine key g (Nat.le_refl _) c ?_
      by_cases z2 : v < sc s
      · refine Q hb g v c hg hv hc (by rw [nf0]; exact hfr v z2 h1) (by rw [es, ← hbo v z2]; exact h2) ?_
        rw [← (hlow (g * 12 + v) (by omega)).1]; exact h3
      · exact hnq hb v c (by omega) (hlt v hv h1) hc h1 h2 h3
    · rw [rr_need_o (eo g z)] at h1
      rw [eo g z] at h2
      refine key g (by omega) c (Q hb g v c hg hv hc h1 h2 ?_)
      rw [← (hlow (g * 12 + v) (by omega)).1]; exact h3
end
end
section
section
variable {ar mk sa kd ex lf rt sp us bo ln ot fr af bd aO bO : Nat → Int32} {sc cu : Nat → Nat} {bw : Nat → Int32} {cm b n : Nat} {bor : Int32} {cr hd : Nat → Int32}
variable {L : Nat → Bool} {sg : Nat → Nat} {fx sy vs vs' : Nat → Int64} {vc vn vc' vn' yb yb' : Nat → Int32}
theorem ct_af (C : ct_C ar mk sa kd ex lf rt sp us bo ln ot fr af bd aO bO sc bw cm b) {s v : Nat} (hs : s < b) (hv : v < 32) (h : bt (af s) v = true) : bt (fr s) v = true := by
  rw [(C.2.2.2.2.1 s hs).1 v hv, h, Bool.or_true]
theorem ct_us (C : ct_C ar mk sa kd ex lf rt sp us bo ln ot fr af bd aO bO sc bw cm b) {s v : Nat} (hs : s < b) (hv : v < 32) (h : aO s = nI v ∨ bO s = nI v) : bt (fr s) v = true := by
  rw [(C.2.2.2.2.1 s hs).1 v hv, ((C.2.2.2.1 s hs).2.2.2.2.1 v hv).mpr h, Bool.true_or]
theorem ct_ln (C : ct_C ar mk sa kd ex lf rt sp us bo ln ot fr af bd aO bO sc bw cm b) {s v : Nat} (hs : s < b) (h3 : kd s = 3) (hv : v < 32) (h : bt (ln s) v = true) : bt (fr s) v = true ∧ bt (bo s) v = false := by
  obtain ⟨-, w2, -, -, -, -, -, w8, -⟩ := C.2.2.2.1 s hs
  obtain ⟨g, g1, g2, g3, g4, g5⟩ := w8 h3
  obtain ⟨p, q⟩ := (g5 v hv).mp h
  refine ⟨ct_us C hs hv ?_, by rw [w2.2.1]; exact p⟩
  rcases q with ⟨q, -⟩ | ⟨q, -⟩
  · exact Or.inl q
  · exact Or.inr q
/-- a new last frame at row t -/
theorem rr_call {f s t : Nat} (C : ct_C ar mk sa kd ex lf rt sp us bo ln ot fr af bd aO bO sc bw cm b) (hn : n = f + 1) (hn2 : n + 1 ≤ 20)
    (F : rr_F kd fr af bo ln bor cr hd cu b n) (V : rr_V fr af ln bor cu n L sg vs vc vn) (B : rr_B bo sc bor cu n yb) (Q : rr_Q fr af bo bor cu n hd fx sy vs)
    (es : cu f = s) (h3 : kd s = 3) (ht : t < b) (hst2 : sc t ≤ 12)
    (hlow : ∀ x, x < n * 12 → vs' x = vs x ∧ vc' x = vc x ∧ vn' x = vn x ∧ yb' x = yb x)
    (hnew : ∀ v, v < sc t → bt (fr t) v = true → rc_vr L sg (vs' (n * 12 + v)) (vc' (n * 12 + v)) (vn' (n * 12 + v)))
    (hnb : ∀ v, v < sc t → yb' (n * 12 + v) = rc_b (!decide (bor = 0) && bt (bo t) v))
    (hsrc : ∀ v, v < sc t → ∃ a, a < 12 ∧ vs' (n * 12 + v) = vs (f * 12 + a) ∧ bt (fr s) a = true ∧ (¬ bor = 0 → bt (bo t) v = true → bt (bo s) a = true ∨ bt (ln s) a = true)) :
    rr_F kd fr af bo ln bor (upd cr n (nI t)) (upd (upd (upd hd n 0) n (xg_m bor (fr t) (bo t))) f (if bor = 0 then af s else (af s &&& (bo s ^^^ (-1))) ||| ln s)) (fun g => if g = n then t else cu g) b (n + 1) ∧
    rr_V fr af ln bor (fun g => if g = n then t else cu g) (n + 1) L sg vs' vc' vn' ∧ rr_B bo sc bor (fun g => if g = n then t else cu g) (n + 1) yb' ∧
    rr_Q fr af bo bor (fun g => if g = n then t else cu g) (n + 1) (upd (upd (upd hd n 0) n (xg_m bor (fr t) (bo t))) f (if bor = 0 then af s else (af s &&& (bo s ^^^ (-1))) ||| ln s)) fx sy vs' := by
  have ef : (fun g => if g = n then t else cu g) n = t := if_pos rfl
  have eo : ∀ g, g ≠ n → (fun g => if g = n then t else cu g) g = cu g := fun g hg => if_neg hg
  obtain ⟨e, he, T⟩ := C.2.2.1 t ht
  have hlt : ∀ v, v < 12 → bt (fr t) v = true → v < sc t := fun v hv h => ((ct_F C he T (by omega)).mp h).1
  have hsb : s < b := by rw [← es]; exact (F.2 f (by omega)).2.1
  have hdn : upd (upd (upd hd n 0) n (xg_m bor (fr t) (bo t))) f (if bor = 0 then af s else (af s &&& (bo s ^^^ (-1))) ||| ln s) n = xg_m bor (fr t) (bo t) := by
    rw [pk_un (show n ≠ f by omega), pk_us]
  have hdl : ∀ g, g < f → upd (upd (upd hd n 0) n (xg_m bor (fr t) (bo t))) f (if bor = 0 then af s else (af s &&& (bo s ^^^ (-1))) ||| ln s) g = hd g := fun g hg => by
    rw [pk_un (show g ≠ f by omega), pk_un (show g ≠ n by omega), pk_un (show g ≠ n by omega)]
  have nd : ∀ g v, g < n → v < 32 → bt (rr_need fr af (fun g => if g = n then t else cu g) (n + 1) g) v = true → bt (rr_need fr af cu n g) v = true := fun g v hg hv h => by
    unfold rr_need at h ⊢
    rw [if_neg (show ¬ g + 1 = n + 1 by omega), eo g (by omega)] at h
    by_cases z : g + 1 = n
    · rw [if_pos z]
      have : g = f := by omega
      rw [this, es] at h ⊢
      exact ct_af C hsb hv h
    · rw [if_neg z]; exact h
  have ndt : rr_need fr af (fun g => if g = n then t else cu g) (n + 1) n = fr t := by unfold rr_need; rw [if_pos rfl, ef]
  refine ⟨⟨hn2, fun g hg => ?_⟩, fun g v hg hv hvis => ?_, fun g v hg hv => ?_, fun hb g v c hg hv hc h1 h2 h4 => ?_⟩
  · by_cases z : g = n
    · rw [z, pk_us, ef, hdn]
      refine ⟨rfl, ht, fun q => by omega, ?_⟩
      unfold rr_hold
      rw [if_pos rfl, ef]
    · obtain ⟨f1, f2, f3, f4⟩ := F.2 g (by omega)
      rw [pk_un z, eo g z]
      refine ⟨f1, f2, fun _ => ?_, ?_⟩
      · by_cases z2 : g = f
        · rw [z2, es]; exact h3
        · exact f3 (by omega)
      · unfold rr_hold
        rw [if_neg (show ¬ g + 1 = n + 1 by omega), eo g z]
        by_cases z2 : g = f
        · rw [z2, pk_us, es]
        · rw [hdl g (by omega), f4]
          unfold rr_hold
          rw [if_neg (show ¬ g + 1 = n by omega)]
  · by_cases z : g = n
    · subst z
      have hl : rr_lent bor ln (fun q => if q = g then t else cu q) (g + 1) g = 0 := by unfold rr_lent; rw [if_pos (Or.inl rfl)]
      rw [ndt, hl, b_0, Bool.or_false] at hvis
      exact hnew v (hlt v hv hvis) hvis
    · obtain ⟨l1, l2, l3, l4⟩ := hlow (g * 12 + v) (by omega)
      rw [l1, l2, l3]
      refine V g v (by omega) hv ?_
      cases q : bt (rr_need fr af (fun g => if g = n then t else cu g) (n + 1) g) v
      · rw [q, Bool.false_or] at hvis
        unfold rr_lent at hvis
        by_cases y : g + 1 = n + 1 ∨ bor = 0
        · rw [if_pos y, b_0] at hvis; exact absurd hvis (by decide)
        · rw [if_neg y, eo g z] at hvis
          by_cases z2 : g = f
          · rw [z2, es] at hvis
            have := (ct_ln C hsb h3 (by omega) hvis).1
            have e2 : rr_need fr af cu n g = fr s := by unfold rr_need; rw [if_pos (by omega), z2, es]
            rw [e2, this]; rfl
          · have e2 : rr_lent bor ln cu n g = ln (cu g) := by unfold rr_lent; rw [if_neg (fun w => w.elim (fun w => by omega) (fun w => y (Or.inr w)))]
            rw [e2, hvis, Bool.or_true]
      · rw [nd g v (by omega) (by omega) q]; rfl
  · by_cases z : g = n
    · subst z
      rw [ef] at hv
      rw [ef]
      exact hnb v hv
    · rw [eo g z] at hv
      rw [eo g z]
      have h12 : sc (cu g) ≤ 12 := (C.2.2.2.1 (cu g) (F.2 g (by omega)).2.1).2.1.2.2.1
      rw [(hlow (g * 12 + v) (by omega)).2.2.2]
      exact B g v (by omega) hv
  · have key : ∀ g', g' ≤ f → ∀ (g : Nat), f ≤ g → g' ≤ g → ∀ c, rc_rch fx sy (fun q => ∃ x, x < g' * 12 ∧ bt (hd (x / 12)) (x % 12) = true ∧ vs x = rc_cv q) c →
        ∀ g2, g' ≤ g2 → rc_rch fx sy (fun q => ∃ x, x < g2 * 12 ∧ bt (upd (upd (upd hd n 0) n (xg_m bor (fr t) (bo t))) f (if bor = 0 then af s else (af s &&& (bo s ^^^ (-1))) ||| ln s) (x / 12)) (x % 12) = true ∧ vs' x = rc_cv q) c := by
      intro g' hg' g _ _ c hc' g2 hg2 P hP1 hP2
      refine hc' P (fun q hq hr' => hP1 q hq ?_) hP2
      obtain ⟨x, x1, x2, x3⟩ := hr'
      refine ⟨x, by omega, ?_, by rw [(hlow x (by omega)).1]; exact x3⟩
      rw [hdl (x / 12) (by omega)]; exact x2
    by_cases z : g = n
    · subst z
      rw [ndt] at h1
      rw [ef] at h2
      obtain ⟨a, ha, e1, e2, e3⟩ := hsrc v (hlt v hv h1)
      rw [e1] at h4
      by_cases y : bt (bo s) a = true
      · have := Q hb f a c (by omega) ha hc (by unfold rr_need; rw [if_pos hn.symm, es]; exact e2) (by rw [es]; exact y) h4
        exact key f (Nat.le_refl _) f (Nat.le_refl _) (Nat.le_refl _) c this g (by omega)
      · have hl := (e3 hb h2).resolve_left y
        intro P hP1 hP2
        refine hP1 c hc ⟨f * 12 + a, by omega, ?_, by rw [(hlow (f * 12 + a) (by omega)).1]; exact h4⟩
        rw [show (f * 12 + a) / 12 = f by omega, show (f * 12 + a) % 12 = a by omega, pk_us, if_neg hb, b_or, hl, Bool.or_true]
    · rw [eo g z] at h2
      rw [(hlow (g * 12 + v) (by omega)).1] at h4
      have := Q hb g v c (by omega) hv hc (nd g v (by omega) (by omega) h1) h2 h4
      exact key g (by omega) f (Nat.le_refl _) (by omega) c this g (Nat.le_refl _)
/-- the last frame returns to the call at row t of frame w -/
theorem rr_retn {w t : Nat} {rv : Int64} (C : ct_C ar mk sa kd ex lf rt sp us bo ln ot fr af bd aO bO sc bw cm b) (hn : n = w + 2)
    (F : rr_F kd fr af bo ln bor cr hd cu b n) (V : rr_V fr af ln bor cu n L sg vs vc vn) (B : rr_B bo sc bor cu n yb) (Q : rr_Q fr af bo bor cu n hd fx sy vs)
    (et : cu w = t) (hvs : vs' (w * 12 + sc t) = rv) (hlow : ∀ x, x < (w + 1) * 12 → x ≠ w * 12 + sc t → vs' x = vs x ∧ vc' x = vc x ∧ vn' x = vn x ∧ yb' x = yb x)
    (hnew : rc_vr L sg rv (vc' (w * 12 + sc t)) (vn' (w * 12 + sc t))) (hnb : yb' (w * 12 + sc t) = 0) :
    rr_F kd fr af bo ln bor (upd cr w (nI (t + 1))) (upd (upd hd (w + 1) 0) w (xg_m bor (fr (t + 1)) (bo (t + 1)))) (fun g => if g = w then t + 1 else cu g) b (w + 1) ∧
    rr_V fr af ln bor (fun g => if g = w then t + 1 else cu g) (w + 1) L sg vs' vc' vn' ∧ rr_B bo sc bor (fun g => if g = w then t + 1 else cu g) (w + 1) yb' ∧
    rr_Q fr af bo bor (fun g => if g = w then t + 1 else cu g) (w + 1) (upd (upd hd (w + 1) 0) w (xg_m bor (fr (t + 1)) (bo (t + 1)))) fx sy vs' := by
  have ef : (fun g => if g = w then t + 1 else cu g) w = t + 1 := if_pos rfl
  have eo : ∀ g, g ≠ w → (fun g => if g = w then t + 1 else cu g) g = cu g := fun g hg => if_neg hg
  obtain ⟨f1, f2, f3, f4⟩ := F.2 w (by omega)
  rw [et] at f2
  have h3 : kd t = 3 := by rw [← et]; exact f3 (by omega)
  have h3' : kd t = 0 ∨ kd t = 1 ∨ kd t = 2 ∨ kd t = 3 := Or.inr (Or.inr (Or.inr h3))
  obtain ⟨e, he, T, T1, ht1⟩ := ct_nx C f2 h3'
  have hW := (C.2.2.2.1 t f2).2.2.2.2.2.2.2.2.1 h3'
  have hb1 := (C.2.2.2.1 (t + 1) ht1).2.1
  have hb0 := (C.2.2.2.1 t f2).2.1
  have hbo : bo (t + 1) = bo t := by rw [hb1.2.1, hb0.2.1]; exact hW.2.2
  have hbs : bt (bo t) (sc t) = false := by
    cases q : bt (bo t) (sc t)
    · rfl
    · rw [hb0.2.1] at q
      have := hb0.2.2.2 (sc t) (by omega) q; omega
  have hA := ((C.2.2.2.2.1 t f2).2.2.2 h3').1
  have hlt : ∀ v, v < 12 → bt (fr (t + 1)) v = true → v < sc t + 1 := fun v hv h => by
    have := ((ct_F C he T1 (by omega)).mp h).1
    rw [hW.1] at this; exact this
  have nf : rr_need fr af (fun g => if g = w then t + 1 else cu g) (w + 1) w = fr (t + 1) := by unfold rr_need; rw [if_pos rfl, ef]
  have nf0 : rr_need fr af cu n w = af t := by unfold rr_need; rw [if_neg (by omega), et]
  have hdl : ∀ g, g < w → upd (upd hd (w + 1) 0) w (xg_m bor (fr (t + 1)) (bo (t + 1))) g = hd g := fun g hg => by
    rw [pk_un (show g ≠ w by omega), pk_un (show g ≠ w + 1 by omega)]
  have nd : ∀ g, g < w → rr_need fr af (fun g => if g = w then t + 1 else cu g) (w + 1) g = rr_need fr af cu n g := fun g hg => by
    unfold rr_need
    rw [if_neg (by omega), if_neg (by omega), eo g (by omega)]
  have nl : ∀ g, g < w → rr_lent bor ln (fun g => if g = w then t + 1 else cu g) (w + 1) g = rr_lent bor ln cu n g := fun g hg => by
    unfold rr_lent
    by_cases y : bor = 0
    · rw [if_pos (Or.inr y), if_pos (Or.inr y)]
    · rw [if_neg (fun z => z.elim (fun z => by omega) y), if_neg (fun z => z.elim (fun z => by omega) y), eo g (by omega)]
  refine ⟨⟨by have := F.1; omega, fun g hg => ?_⟩, fun g v hg hv hvis => ?_, fun g v hg hv => ?_, fun hb g v c hg hv hc h1 h2 h4 => ?_⟩
  · by_cases z : g = w
    · rw [z, pk_us, pk_us, ef]
      refine ⟨rfl, ht1, fun q => by omega, ?_⟩
      unfold rr_hold
      rw [if_pos rfl, ef]
    · obtain ⟨k1, k2, k3, k4⟩ := F.2 g (by omega)
      rw [pk_un z, eo g z, hdl g (by omega)]
      refine ⟨k1, k2, fun _ => k3 (by omega), ?_⟩
      rw [k4]
      unfold rr_hold
      rw [if_neg (show ¬ g + 1 = n by omega), if_neg (show ¬ g + 1 = w + 1 by omega), eo g z]
  · by_cases z : g = w
    · subst z
      have hl : rr_lent bor ln (fun q => if q = g then t + 1 else cu q) (g + 1) g = 0 := by unfold rr_lent; rw [if_pos (Or.inl rfl)]
      rw [nf, hl, b_0, Bool.or_false] at hvis
      have := hlt v hv hvis
      by_cases z2 : v = sc t
      · rw [z2, hvs]; exact hnew
      · obtain ⟨l1, l2, l3, l4⟩ := hlow (g * 12 + v) (by omega) (by omega)
        rw [l1, l2, l3]
        refine V g v (by omega) hv ?_
        rw [nf0, hA v (by omega), hvis, decide_eq_false z2]; rfl
    · rw [nd g (by omega), nl g (by omega)] at hvis
      obtain ⟨l1, l2, l3, l4⟩ := hlow (g * 12 + v) (by omega) (by omega)
      rw [l1, l2, l3]
      exact V g v (by omega) hv hvis
  · by_cases z : g = w
    · subst z
      rw [ef] at hv
      rw [ef, hbo]
      by_cases z2 : v = sc t
      · rw [z2, hnb, hbs, Bool.and_false]; rfl
      · rw [hW.1] at hv
        have h12 := hb0.2.2.1
        rw [(hlow (g * 12 + v) (by omega) (by omega)).2.2.2]
        have := B g v (by omega) (by rw [et]; omega)
        rw [et] at this; exact this
    · rw [eo g z] at hv
      rw [eo g z]
      have h12 : sc (cu g) ≤ 12 := (C.2.2.2.1 (cu g) (F.2 g (by omega)).2.1).2.1.2.2.1
      rw [(hlow (g * 12 + v) (by omega) (by omega)).2.2.2]
      exact B g v (by omega) hv
  · have key : ∀ g', g' ≤ w → ∀ c, rc_rch fx sy (fun q => ∃ x, x < g' * 12 ∧ bt (hd (x / 12)) (x % 12) = true ∧ vs x = rc_cv q) c →
        rc_rch fx sy (fun q => ∃ x, x < g' * 12 ∧ bt (upd (upd hd (w + 1) 0) w (xg_m bor (fr (t + 1)) (bo (t + 1))) (x / 12)) (x % 12) = true ∧ vs' x = rc_cv q) c := by
      intro g' hg' c hc' P hP1 hP2
      refine hc' P (fun q hq hr' => hP1 q hq ?_) hP2
      obtain ⟨x, x1, x2, x3⟩ := hr'
      refine ⟨x, x1, ?_, by rw [(hlow x (by omega) (by omega)).1]; exact x3⟩
      rw [hdl (x / 12) (by omega)]; exact x2
    by_cases z : g = w
    · subst z
      rw [nf] at h1
      rw [ef, hbo] at h2
      have := hlt v hv h1
      by_cases z2 : v = sc t
      · rw [z2, hbs] at h2; exact absurd h2 (by decide)
      · rw [(hlow (g * 12 + v) (by omega) (by omega)).1] at h4
        refine key g (Nat.le_refl _) c (Q hb g v c (by omega) hv hc ?_ (by rw [et]; exact h2) h4)
        rw [nf0, hA v (by omega), h1, decide_eq_false z2]; rfl
    · rw [nd g (by omega)] at h1
      rw [eo g z] at h2
      rw [(hlow (g * 12 + v) (by omega) (by omega)).1] at h4
      exact key g (by omega) c (Q hb g v c (by omega) hv hc h1 h2 h4)
end
end
section
/-! ===== Y: the kinds of steps, up to the mark that ends them ===== -/
section
variable {g_cap g_most g_functions g_open g_stored g_scope g_state g_bits g_frames g_steps g_fresh g_reused g_peak g_resultCell g_resultNum g_seen : Int32} {b_firstOf b_arityOf b_maskOf b_kindOf b_numOf b_scopeOf b_aOf b_bOf b_cur b_spare b_varCell b_varNum b_borrowed b_tagOf b_fieldCell b_fieldNum b_marked b_digestOf : Nat → Int32}
theorem ys_bind {post : SY → Prop} {x : Nat} {p1 p2 p3 : Int32} (hx : x < 240) (h1 : p1 = 0 ∨ p1 = 1) (h3 : p3 = 0 ∨ p3 = 1)
    (h : post (g_cap, g_most, g_functions, g_open, g_stored, g_scope, g_state, g_bits, g_frames, g_steps, g_fresh, g_reused, g_peak, g_resultCell, g_resultNum, g_seen, b_firstOf, b_arityOf, b_maskOf, b_kindOf, b_numOf, b_scopeOf, b_aOf, b_bOf, b_cur, b_spare, upd b_varCell x p1, upd b_varNum x p2, upd b_borrowed x p3, b_tagOf, b_fieldCell, b_fieldNum, b_marked, b_digestOf)) : wpY_bind post (g_cap, g_most, g_functions, g_open, g_stored, g_scope, g_state, g_bits, g_frames, g_steps, g_fresh, g_reused, g_peak, g_resultCell, g_resultNum, g_seen, b_firstOf, b_arityOf, b_maskOf, b_kindOf, b_numOf, b_scopeOf, b_aOf, b_bOf, b_cur, b_spare, b_varCell, b_varNum, b_borrowed, b_tagOf, b_fieldCell, b_fieldNum, b_marked, b_digestOf) (nI x) p1 p2 p3 := by
  unfold wpY_bind
  (try dsimp only)
  rw [nI_clamp (show x < 2 ^ 31 by omega), rc_nar h1, rc_nar h3]
  exact ⟨vp_in_nI hx (by omega), nm_e ⟨vp_in_nI hx (by omega), nm_e ⟨vp_in_nI hx (by omega), nm_e h⟩⟩⟩
theorem ys_compute {post : Int32 → Prop} {o x y : Int32} (h : post (xs_cmp o x y)) : wpY_compute post (g_cap, g_most, g_functions, g_open, g_stored, g_scope, g_state, g_bits, g_frames, g_steps, g_fresh, g_reused, g_peak, g_resultCell, g_resultNum, g_seen, b_firstOf, b_arityOf, b_maskOf, b_kindOf, b_numOf, b_scopeOf, b_aOf, b_bOf, b_cur, b_spare, b_varCell, b_varNum, b_borrowed, b_tagOf, b_fieldCell, b_fieldNum, b_marked, b_digestOf) o x y := by
  unfold xs_cmp at h
  refine br_c (fun z => ?_) (fun z => br_c (fun z1 => ?_) (fun z1 => br_c (fun z2 => ?_) (fun z2 => br_c (fun z3 => br_c (fun z4 => ?_) (fun z4 => ?_)) (fun z3 => br_c (fun z4 => ?_) (fun z4 => ?_)))))
  · rw [if_pos z] at h; exact h
  · rw [if_neg z, if_pos z1] at h; exact h
  · rw [if_neg z, if_neg z1, if_pos z2] at h; exact h
  · rw [if_neg z, if_neg z1, if_neg z2, if_pos z3, if_pos z4] at h; exact h
  · rw [if_neg z, if_neg z1, if_neg z2, if_pos z3, if_neg z4] at h; exact h
  · rw [if_neg z, if_neg z1, if_neg z2, if_neg z3, if_pos z4] at h; exact h
  · rw [if_neg z, if_neg z1, if_neg z2, if_neg z3, if_neg z4] at h; exact h
/-- the operands' places: -1 is read as 0 -/
def ys_op (o : Int32) (a : Nat) : Prop := (o = -1 ∧ a = 0) ∨ o = nI a
/-- the head of a step -/
theorem ys_head {post : SY → Prop} {f s d la ra n : Nat} {k : Int32} (hn : n = f + 1) (hn2 : n ≤ 20) (hs : s < 96) (hcu : b_cur f = nI s) (hk : b_kindOf s = k) (hd : b_scopeOf s = nI d) (hd2 : d ≤ 12) (hla : la < 12) (hra : ra < 12) (ha : ys_op (b_aOf s) la) (hb : ys_op (b_bOf s) ra)
    (h1 : ¬ (k = 5 ∧ (¬ b_varCell (f * 12 + la) = 0 ∨ ¬ b_varNum (f * 12 + la) = 0)) → wY_step_145 post (nI f) (nI s) k (b_numOf s) (nI (f * 12)) (nI (f * 12 + d)) (nI (f * 12 + la)) (b_varCell (f * 12 + la)) (b_varNum (f * 12 + la)) (b_varCell (f * 12 + ra)) (b_varNum (f * 12 + ra)) g_cap g_most g_functions g_open g_stored g_scope g_state g_bits (nI n) g_steps g_fresh g_reused g_peak g_resultCell g_resultNum g_seen b_firstOf b_arityOf b_maskOf b_kindOf b_numOf b_scopeOf b_aOf b_bOf b_cur b_spare b_varCell b_varNum b_borrowed b_tagOf b_fieldCell b_fieldNum b_marked b_digestOf)
    (h2 : k = 5 → (¬ b_varCell (f * 12 + la) = 0 ∨ ¬ b_varNum (f * 12 + la) = 0) → wY_step_167 post (nI f) (nI s) k (b_numOf s) (nI (f * 12)) (nI (f * 12 + d)) (nI (f * 12 + la)) (b_varCell (f * 12 + la)) (b_varNum (f * 12 + la)) (b_varCell (f * 12 + ra)) (b_varNum (f * 12 + ra)) g_cap g_most g_functions g_open g_stored g_scope g_state g_bits (nI n) g_steps g_fresh g_reused g_peak g_resultCell g_resultNum g_seen b_firstOf b_arityOf b_maskOf b_kindOf b_numOf b_scopeOf b_aOf b_bOf b_cur b_spare b_varCell b_varNum b_borrowed b_tagOf b_fieldCell b_fieldNum b_marked b_digestOf) :
    wpY_step post (g_cap, g_most, g_functions, g_open, g_stored, g_scope, g_state, g_bits, nI n, g_steps, g_fresh, g_reused, g_peak, g_resultCell, g_resultNum, g_seen, b_firstOf, b_arityOf, b_maskOf, b_kindOf, b_numOf, b_scopeOf, b_aOf, b_bOf, b_cur, b_spare, b_varCell, b_varNum, b_borrowed, b_tagOf, b_fieldCell, b_fieldNum, b_marked, b_digestOf) := by
  have g91 : ∀ z0, z0 = nI ra → wY_step_91 post (nI f) (nI s) k (b_numOf s) (nI (f * 12)) (nI (f * 12 + d)) (nI (f * 12 + la)) z0 (nI (f * 12)) g_cap g_most g_functions g_open g_stored g_scope g_state g_bits (nI n) g_steps g_fresh g_reused g_peak g_resultCell g_resultNum g_seen b_firstOf b_arityOf b_maskOf b_kindOf b_numOf b_scopeOf b_aOf b_bOf b_cur b_spare b_varCell b_varNum b_borrowed b_tagOf b_fieldCell b_fieldNum b_marked b_digestOf := by
    intro z0 e0
    unfold wY_step_91
    rw [e0, nI_add]
    refine nm_e ?_
    rw [nI_clamp (show f * 12 + la < 2 ^ 31 by omega), nI_clamp (show f * 12 + ra < 2 ^ 31 by omega)]
    refine ⟨vp_in_nI (by omega) (by omega), nm_e ⟨vp_in_nI (by omega) (by omega), nm_e ⟨vp_in_nI (by omega) (by omega), nm_e ⟨vp_in_nI (by omega) (by omega), nm_e (br_c (fun k5 => br_c (fun q1 => br_c (fun q2 => ?_) (fun q2 => ?_)) (fun q1 => ?_)) (fun k5 => ?_))⟩⟩⟩⟩
    · exact h1 (fun z => z.2.elim (fun w => w q1) (fun w => w q2))
    · exact h2 k5 (Or.inr q2)
    · exact h2 k5 (Or.inl q1)
    · exact h1 (fun z => k5 z.1)
  have g67 : ∀ z0, z0 = nI la → wY_step_67 post (nI f) (nI s) k (b_numOf s) (nI (f * 12)) (nI (f * 12 + d)) z0 (nI (f * 12)) g_cap g_most g_functions g_open g_stored g_scope g_state g_bits (nI n) g_steps g_fresh g_reused g_peak g_resultCell g_resultNum g_seen b_firstOf b_arityOf b_maskOf b_kindOf b_numOf b_scopeOf b_aOf b_bOf b_cur b_spare b_varCell b_varNum b_borrowed b_tagOf b_fieldCell b_fieldNum b_marked b_digestOf := by
    intro z0 e0
    unfold wY_step_67
    rw [e0, nI_add, nI_clamp (show s < 2 ^ 31 by omega)]
    refine nm_e ⟨vp_in_nI hs (by omega), br_c (fun q => ⟨vp_in_nI hs (by omega), g91 _ ?_⟩) (fun q => g91 _ ?_)⟩
    · rcases hb with ⟨w, _⟩ | w
      · rw [w] at q; exact absurd q (by decide)
      · exact w
    · rcases hb with ⟨_, w⟩ | w
      · rw [w]; rfl
      · rw [w] at q; exact absurd (nI_pos' (by omega)) q
  unfold wpY_step
  (try dsimp only)
  refine nm_r (e' := nI f) (by rw [hn]; exact nI_pred f) ⟨vp_in_nI (by omega) (by omega), ?_⟩
  rw [nI_clamp (show f < 2 ^ 31 by omega)]
  refine nm_r hcu ⟨vp_in_nI hs (by omega), ?_⟩
  rw [nI_clamp (show s < 2 ^ 31 by omega), hd]
  refine nm_r hk ⟨vp_in_nI hs (by omega), nm_e (nm_r (e' := nI (f * 12)) (pk_mul f 12) ⟨vp_in_nI hs (by omega), nm_r (nI_add _ _) ⟨vp_in_nI hs (by omega), br_c (fun q => ⟨vp_in_nI hs (by omega), g67 _ ?_⟩) (fun q => g67 _ ?_)⟩⟩)⟩
  · rcases ha with ⟨w, _⟩ | w
    · rw [w] at q; exact absurd q (by decide)
    · exact w
  · rcases ha with ⟨_, w⟩ | w
    · rw [w]; rfl
    · rw [w] at q; exact absurd (nI_pos' (by omega)) q
variable {x4 x5 x6 x7 x9 x10 x11 x12 : Int32}
theorem ys_172 {post : SY → Prop} {x1 x2 k z0 : Int32} (k0 : ¬ k = 0) (k1 : ¬ k = 1) (h : wY_step_245 post x1 x2 k x4 x5 x6 x7 x9 x10 x11 x12 z0 g_cap g_most g_functions g_open g_stored g_scope g_state g_bits g_frames g_steps g_fresh g_reused g_peak g_resultCell g_resultNum g_seen b_firstOf b_arityOf b_maskOf b_kindOf b_numOf b_scopeOf b_aOf b_bOf b_cur b_spare b_varCell b_varNum b_borrowed b_tagOf b_fieldCell b_fieldNum b_marked b_digestOf) : wY_step_172 post x1 x2 k x4 x5 x6 x7 x9 x10 x11 x12 z0 g_cap g_most g_functions g_open g_stored g_scope g_state g_bits g_frames g_steps g_fresh g_reused g_peak g_resultCell g_resultNum g_seen b_firstOf b_arityOf b_maskOf b_kindOf b_numOf b_scopeOf b_aOf b_bOf b_cur b_spare b_varCell b_varNum b_borrowed b_tagOf b_fieldCell b_fieldNum b_marked b_digestOf := by
  unfold wY_step_172
  refine br_f k1 ?_
  unfold wY_step_224
  exact br_f k0 (br_f k1 h)
theorem ys_145 {post : SY → Prop} {x1 x2 k : Int32} (k0 : ¬ k = 0) (k1 : ¬ k = 1) (k4 : ¬ k = 4) (h : wY_step_245 post x1 x2 k x4 x5 x6 x7 x9 x10 x11 x12 0 g_cap g_most g_functions g_open g_stored g_scope g_state g_bits g_frames g_steps g_fresh g_reused g_peak g_resultCell g_resultNum g_seen b_firstOf b_arityOf b_maskOf b_kindOf b_numOf b_scopeOf b_aOf b_bOf b_cur b_spare b_varCell b_varNum b_borrowed b_tagOf b_fieldCell b_fieldNum b_marked b_digestOf) : wY_step_145 post x1 x2 k x4 x5 x6 x7 x9 x10 x11 x12 g_cap g_most g_functions g_open g_stored g_scope g_state g_bits g_frames g_steps g_fresh g_reused g_peak g_resultCell g_resultNum g_seen b_firstOf b_arityOf b_maskOf b_kindOf b_numOf b_scopeOf b_aOf b_bOf b_cur b_spare b_varCell b_varNum b_borrowed b_tagOf b_fieldCell b_fieldNum b_marked b_digestOf := by
  unfold wY_step_145
  refine br_f k4 ?_
  unfold wY_step_171
  exact ys_172 k0 k1 h
theorem ys_245 {post : SY → Prop} {x1 x2 k z0 : Int32} (k2 : ¬ k = 2) (k4 : ¬ k = 4) (h : wY_step_413 post x1 x2 k x4 x5 x9 x10 x11 x12 z0 g_cap g_most g_functions g_open g_stored g_scope g_state g_bits g_frames g_steps g_fresh g_reused g_peak g_resultCell g_resultNum g_seen b_firstOf b_arityOf b_maskOf b_kindOf b_numOf b_scopeOf b_aOf b_bOf b_cur b_spare b_varCell b_varNum b_borrowed b_tagOf b_fieldCell b_fieldNum b_marked b_digestOf) : wY_step_245 post x1 x2 k x4 x5 x6 x7 x9 x10 x11 x12 z0 g_cap g_most g_functions g_open g_stored g_scope g_state g_bits g_frames g_steps g_fresh g_reused g_peak g_resultCell g_resultNum g_seen b_firstOf b_arityOf b_maskOf b_kindOf b_numOf b_scopeOf b_aOf b_bOf b_cur b_spare b_varCell b_varNum b_borrowed b_tagOf b_fieldCell b_fieldNum b_marked b_digestOf := by
  unfold wY_step_245
  refine br_f k2 ?_
  unfold wY_step_335
  exact br_f k4 h
/-- on to the next row -/
theorem ys_413a {post : SY → Prop} {f s : Nat} {k : Int32} (hf : f < 20) (k3 : ¬ k = 3) (k6 : ¬ k = 6) (h : wY_step_559 post (nI f) k x9 x10 g_cap g_most g_functions g_open g_stored g_scope g_state g_bits g_frames g_steps g_fresh g_reused g_peak g_resultCell g_resultNum g_seen b_firstOf b_arityOf b_maskOf b_kindOf b_numOf b_scopeOf b_aOf b_bOf (upd b_cur f (nI (s + 1))) b_spare b_varCell b_varNum b_borrowed b_tagOf b_fieldCell b_fieldNum b_marked b_digestOf) : wY_step_413 post (nI f) (nI s) k x4 x5 x9 x10 x11 x12 0 g_cap g_most g_functions g_open g_stored g_scope g_state g_bits g_frames g_steps g_fresh g_reused g_peak g_resultCell g_resultNum g_seen b_firstOf b_arityOf b_maskOf b_kindOf b_numOf b_scopeOf b_aOf b_bOf b_cur b_spare b_varCell b_varNum b_borrowed b_tagOf b_fieldCell b_fieldNum b_marked b_digestOf := by
  unfold wY_step_413
  refine br_f k3 (br_f k6 (br_t rfl ?_))
  unfold wY_step_558
  rw [nI_clamp (show f < 2 ^ 31 by omega), nI_1]
  exact ⟨vp_in_nI hf (by omega), nm_e h⟩
/-- on to the second branch -/
theorem ys_413b {post : SY → Prop} {f s m st : Nat} {k z0 : Int32} (hf : f < 20) (k3 : ¬ k = 3) (k6 : ¬ k = 6) (hz : ¬ z0 = 0) (hT : tx_T b_kindOf (s + 1) m) (hm : m ≤ st) (hst : st ≤ 96) (h : wY_step_559 post (nI f) k x9 x10 g_cap g_most g_functions g_open (nI st) g_scope g_state g_bits g_frames g_steps g_fresh g_reused g_peak g_resultCell g_resultNum g_seen b_firstOf b_arityOf b_maskOf b_kindOf b_numOf b_scopeOf b_aOf b_bOf (upd b_cur f (nI m)) b_spare b_varCell b_varNum b_borrowed b_tagOf b_fieldCell b_fieldNum b_marked b_digestOf) : wY_step_413 post (nI f) (nI s) k x4 x5 x9 x10 x11 x12 z0 g_cap g_most g_functions g_open (nI st) g_scope g_state g_bits g_frames g_steps g_fresh g_reused g_peak g_resultCell g_resultNum g_seen b_firstOf b_arityOf b_maskOf b_kindOf b_numOf b_scopeOf b_aOf b_bOf b_cur b_spare b_varCell b_varNum b_borrowed b_tagOf b_fieldCell b_fieldNum b_marked b_digestOf := by
  unfold wY_step_413
  refine br_f k3 (br_f k6 (br_f hz ?_))
  rw [nI_1]
  refine yw_endT hT hm hst ?_
  unfold wY_step_558
  rw [nI_clamp (show f < 2 ^ 31 by omega)]
  exact ⟨vp_in_nI hf (by omega), nm_e h⟩
theorem ys_235 {post : SY → Prop} {f s x : Nat} {k nv : Int32} (hf : f < 20) (hx : x < 240) (k01 : k = 0 ∨ k = 1)
    (h : wY_step_559 post (nI f) k x9 x10 g_cap g_most g_functions g_open g_stored g_scope g_state g_bits g_frames g_steps g_fresh g_reused g_peak g_resultCell g_resultNum g_seen b_firstOf b_arityOf b_maskOf b_kindOf b_numOf b_scopeOf b_aOf b_bOf (upd b_cur f (nI (s + 1))) b_spare (upd b_varCell x 0) (upd b_varNum x nv) (upd b_borrowed x 0) b_tagOf b_fieldCell b_fieldNum b_marked b_digestOf) :
    wY_step_235 post (nI f) (nI s) k x4 x5 (nI x) x7 x9 x10 x11 x12 0 nv g_cap g_most g_functions g_open g_stored g_scope g_state g_bits g_frames g_steps g_fresh g_reused g_peak g_resultCell g_resultNum g_seen b_firstOf b_arityOf b_maskOf b_kindOf b_numOf b_scopeOf b_aOf b_bOf b_cur b_spare b_varCell b_varNum b_borrowed b_tagOf b_fieldCell b_fieldNum b_marked b_digestOf := by
  unfold wY_step_235
  refine ys_bind hx (Or.inl rfl) (Or.inl rfl) ?_
  refine ys_245 (by rcases k01 with z | z <;> (rw [z]; decide)) (by rcases k01 with z | z <;> (rw [z]; decide)) ?_
  exact ys_413a hf (by rcases k01 with z | z <;> (rw [z]; decide)) (by rcases k01 with z | z <;> (rw [z]; decide)) h
theorem ys_num {post : SY → Prop} {f s x : Nat} (hf : f < 20) (hx : x < 240)
    (h : wY_step_559 post (nI f) 0 x9 x10 g_cap g_most g_functions g_open g_stored g_scope g_state g_bits g_frames g_steps g_fresh g_reused g_peak g_resultCell g_resultNum g_seen b_firstOf b_arityOf b_maskOf b_kindOf b_numOf b_scopeOf b_aOf b_bOf (upd b_cur f (nI (s + 1))) b_spare (upd b_varCell x 0) (upd b_varNum x x4) (upd b_borrowed x 0) b_tagOf b_fieldCell b_fieldNum b_marked b_digestOf) :
    wY_step_145 post (nI f) (nI s) 0 x4 x5 (nI x) x7 x9 x10 x11 x12 g_cap g_most g_functions g_open g_stored g_scope g_state g_bits g_frames g_steps g_fresh g_reused g_peak g_resultCell g_resultNum g_seen b_firstOf b_arityOf b_maskOf b_kindOf b_numOf b_scopeOf b_aOf b_bOf b_cur b_spare b_varCell b_varNum b_borrowed b_tagOf b_fieldCell b_fieldNum b_marked b_digestOf := by
  unfold wY_step_145
  refine br_f (by decide) ?_
  unfold wY_step_171 wY_step_172
  refine br_f (by decide) ?_
  unfold wY_step_224
  exact br_t rfl (ys_235 hf hx (Or.inl rfl) h)
def ys_opd (tY : Nat → Int32) (cl nm : Int32) : Int32 := if cl = 0 then nm else tY nm.toNatClampNeg
theorem ys_opn {post : SY → Prop} {f s x : Nat} (hf : f < 20) (hx : x < 240) (h10 : ¬ x9 = 0 → ∃ c, c < 160 ∧ x10 = nI c) (h12 : ¬ x11 = 0 → ∃ c, c < 160 ∧ x12 = nI c)
    (h : wY_step_559 post (nI f) 1 x9 x10 g_cap g_most g_functions g_open g_stored g_scope g_state g_bits g_frames g_steps g_fresh g_reused g_peak g_resultCell g_resultNum g_seen b_firstOf b_arityOf b_maskOf b_kindOf b_numOf b_scopeOf b_aOf b_bOf (upd b_cur f (nI (s + 1))) b_spare (upd b_varCell x 0) (upd b_varNum x (xs_cmp x4 (ys_opd b_tagOf x9 x10) (ys_opd b_tagOf x11 x12))) (upd b_borrowed x 0) b_tagOf b_fieldCell b_fieldNum b_marked b_digestOf) :
    wY_step_145 post (nI f) (nI s) 1 x4 x5 (nI x) x7 x9 x10 x11 x12 g_cap g_most g_functions g_open g_stored g_scope g_state g_bits g_frames g_steps g_fresh g_reused g_peak g_resultCell g_resultNum g_seen b_firstOf b_arityOf b_maskOf b_kindOf b_numOf b_scopeOf b_aOf b_bOf b_cur b_spare b_varCell b_varNum b_borrowed b_tagOf b_fieldCell b_fieldNum b_marked b_digestOf := by
  have g199 : ∀ z0, z0 = ys_opd b_tagOf x9 x10 → wY_step_199 post (nI f) (nI s) 1 x4 x5 (nI x) x7 x9 x10 x11 x12 0 z0 x4 g_cap g_most g_functions g_open g_stored g_scope g_state g_bits g_frames g_steps g_fresh g_reused g_peak g_resultCell g_resultNum g_seen b_firstOf b_arityOf b_maskOf b_kindOf b_numOf b_scopeOf b_aOf b_bOf b_cur b_spare b_varCell b_varNum b_borrowed b_tagOf b_fieldCell b_fieldNum b_marked b_digestOf := by
    intro z0 e0
    rw [← e0] at h
    have g216 : ∀ z1, z1 = ys_opd b_tagOf x11 x12 → wY_step_216 post (nI f) (nI s) 1 x4 x5 (nI x) x7 x9 x10 x11 x12 0 z1 z0 x4 g_cap g_most g_functions g_open g_stored g_scope g_state g_bits g_frames g_steps g_fresh g_reused g_peak g_resultCell g_resultNum g_seen b_firstOf b_arityOf b_maskOf b_kindOf b_numOf b_scopeOf b_aOf b_bOf b_cur b_spare b_varCell b_varNum b_borrowed b_tagOf b_fieldCell b_fieldNum b_marked b_digestOf := by
      intro z1 e1
      rw [← e1] at h
      unfold wY_step_216
      refine ys_compute ?_
      unfold wY_step_224
      exact br_f (by decide) (br_t rfl (ys_235 hf hx (Or.inr rfl) h))
    unfold wY_step_199
    refine br_c (fun z => g216 _ ?_) (fun z => ?_)
    · unfold ys_opd; rw [if_pos z]
    · obtain ⟨c, hc, ec⟩ := h12 z
      refine ⟨by rw [ec]; exact vp_in_nI hc (by omega), g216 _ ?_⟩
      unfold ys_opd; rw [if_neg z]
  unfold wY_step_145
  refine br_f (by decide) ?_
  unfold wY_step_171 wY_step_172
  refine br_t rfl (br_c (fun z => g199 _ ?_) (fun z => ?_))
  · unfold ys_opd; rw [if_pos z]
  · obtain ⟨c, hc, ec⟩ := h10 z
    refine ⟨by rw [ec]; exact vp_in_nI hc (by omega), g199 _ ?_⟩
    unfold ys_opd; rw [if_neg z]
/-- ifZero: first branch, second branch -/
theorem ys_if1 {post : SY → Prop} {f s : Nat} (hf : f < 20) (h : wY_step_559 post (nI f) 5 x9 x10 g_cap g_most g_functions g_open g_stored g_scope g_state g_bits g_frames g_steps g_fresh g_reused g_peak g_resultCell g_resultNum g_seen b_firstOf b_arityOf b_maskOf b_kindOf b_numOf b_scopeOf b_aOf b_bOf (upd b_cur f (nI (s + 1))) b_spare b_varCell b_varNum b_borrowed b_tagOf b_fieldCell b_fieldNum b_marked b_digestOf) : wY_step_145 post (nI f) (nI s) 5 x4 x5 x6 x7 x9 x10 x11 x12 g_cap g_most g_functions g_open g_stored g_scope g_state g_bits g_frames g_steps g_fresh g_reused g_peak g_resultCell g_resultNum g_seen b_firstOf b_arityOf b_maskOf b_kindOf b_numOf b_scopeOf b_aOf b_bOf b_cur b_spare b_varCell b_varNum b_borrowed b_tagOf b_fieldCell b_fieldNum b_marked b_digestOf :=
  ys_145 (by decide) (by decide) (by decide) (ys_245 (by decide) (by decide) (ys_413a hf (by decide) (by decide) h))
theorem ys_if2 {post : SY → Prop} {f s m st : Nat} (hf : f < 20) (hT : tx_T b_kindOf (s + 1) m) (hm : m ≤ st) (hst : st ≤ 96) (h : wY_step_559 post (nI f) 5 x9 x10 g_cap g_most g_functions g_open (nI st) g_scope g_state g_bits g_frames g_steps g_fresh g_reused g_peak g_resultCell g_resultNum g_seen b_firstOf b_arityOf b_maskOf b_kindOf b_numOf b_scopeOf b_aOf b_bOf (upd b_cur f (nI m)) b_spare b_varCell b_varNum b_borrowed b_tagOf b_fieldCell b_fieldNum b_marked b_digestOf) : wY_step_167 post (nI f) (nI s) 5 x4 x5 x6 x7 x9 x10 x11 x12 g_cap g_most g_functions g_open (nI st) g_scope g_state g_bits g_frames g_steps g_fresh g_reused g_peak g_resultCell g_resultNum g_seen b_firstOf b_arityOf b_maskOf b_kindOf b_numOf b_scopeOf b_aOf b_bOf b_cur b_spare b_varCell b_varNum b_borrowed b_tagOf b_fieldCell b_fieldNum b_marked b_digestOf := by
  unfold wY_step_167
  exact ys_172 (by decide) (by decide) (ys_245 (by decide) (by decide) (ys_413b hf (by decide) (by decide) (by decide) hT hm hst h))
/-- match: second branch, first branch -/
theorem ys_m2 {post : SY → Prop} {f s m st : Nat} (hf : f < 20) (hT : tx_T b_kindOf (s + 1) m) (hm : m ≤ st) (hst : st ≤ 96) (h10 : ¬ x9 = 0 → ∃ c, c < 160 ∧ x10 = nI c ∧ ¬ b_tagOf c = x4)
    (h : wY_step_559 post (nI f) 4 x9 x10 g_cap g_most g_functions g_open (nI st) g_scope g_state g_bits g_frames g_steps g_fresh g_reused g_peak g_resultCell g_resultNum g_seen b_firstOf b_arityOf b_maskOf b_kindOf b_numOf b_scopeOf b_aOf b_bOf (upd b_cur f (nI m)) b_spare b_varCell b_varNum b_borrowed b_tagOf b_fieldCell b_fieldNum b_marked b_digestOf) : wY_step_145 post (nI f) (nI s) 4 x4 x5 x6 x7 x9 x10 x11 x12 g_cap g_most g_functions g_open (nI st) g_scope g_state g_bits g_frames g_steps g_fresh g_reused g_peak g_resultCell g_resultNum g_seen b_firstOf b_arityOf b_maskOf b_kindOf b_numOf b_scopeOf b_aOf b_bOf b_cur b_spare b_varCell b_varNum b_borrowed b_tagOf b_fieldCell b_fieldNum b_marked b_digestOf := by
  have g : wY_step_167 post (nI f) (nI s) 4 x4 x5 x6 x7 x9 x10 x11 x12 g_cap g_most g_functions g_open (nI st) g_scope g_state g_bits g_frames g_steps g_fresh g_reused g_peak g_resultCell g_resultNum g_seen b_firstOf b_arityOf b_maskOf b_kindOf b_numOf b_scopeOf b_aOf b_bOf b_cur b_spare b_varCell b_varNum b_borrowed b_tagOf b_fieldCell b_fieldNum b_marked b_digestOf := by
    unfold wY_step_167
    refine ys_172 (by decide) (by decide) ?_
    unfold wY_step_245
    refine br_f (by decide) ?_
    unfold wY_step_335
    exact br_t rfl (br_f (by decide) (ys_413b hf (by decide) (by decide) (by decide) hT hm hst h))
  unfold wY_step_145
  refine br_t rfl (br_c (fun z => g) (fun z => ?_))
  obtain ⟨c, hc, ec, et⟩ := h10 z
  rw [ec, nI_clamp (show c < 2 ^ 31 by omega)]
  rw [ec] at g
  exact ⟨vp_in_nI hc (by omega), br_f et g⟩
theorem ys_m1 {post : SY → Prop} {f s c d y : Nat} (hf : f < 20) (hc : c < 160) (hd : d + 1 < 240) (hy : y < 240) (hyd : y ≠ d) (h9 : ¬ x9 = 0) (h10 : x10 = nI c) (ht : b_tagOf c = x4)
    (hf0 : b_fieldCell (2 * c) = 0 ∨ b_fieldCell (2 * c) = 1) (hf1 : b_fieldCell (2 * c + 1) = 0 ∨ b_fieldCell (2 * c + 1) = 1) (hyb : b_borrowed y = 0 ∨ b_borrowed y = 1)
    (h : wY_step_559 post (nI f) 4 x9 x10 g_cap g_most g_functions g_open g_stored g_scope g_state g_bits g_frames g_steps g_fresh g_reused g_peak g_resultCell g_resultNum g_seen b_firstOf b_arityOf b_maskOf b_kindOf b_numOf b_scopeOf b_aOf b_bOf (upd b_cur f (nI (s + 1))) b_spare (upd (upd b_varCell d (b_fieldCell (2 * c))) (d + 1) (b_fieldCell (2 * c + 1))) (upd (upd b_varNum d (b_fieldNum (2 * c))) (d + 1) (b_fieldNum (2 * c + 1))) (upd (upd b_borrowed d (b_borrowed y)) (d + 1) (b_borrowed y)) b_tagOf b_fieldCell b_fieldNum b_marked b_digestOf) :
    wY_step_145 post (nI f) (nI s) 4 x4 x5 (nI d) (nI y) x9 x10 x11 x12 g_cap g_most g_functions g_open g_stored g_scope g_state g_bits g_frames g_steps g_fresh g_reused g_peak g_resultCell g_resultNum g_seen b_firstOf b_arityOf b_maskOf b_kindOf b_numOf b_scopeOf b_aOf b_bOf b_cur b_spare b_varCell b_varNum b_borrowed b_tagOf b_fieldCell b_fieldNum b_marked b_digestOf := by
  unfold wY_step_145
  refine br_t rfl (br_f h9 ?_)
  rw [h10, nI_clamp (show c < 2 ^ 31 by omega)]
  refine ⟨vp_in_nI hc (by omega), br_t ht ?_⟩
  unfold wY_step_171
  refine ys_172 (by decide) (by decide) ?_
  unfold wY_step_245
  refine br_f (by decide) ?_
  unfold wY_step_335
  refine br_t rfl (br_t rfl ?_)
  rw [show 2 * nI c = nI (2 * c) from pk_mul 2 c, nI_1, nI_1, nI_clamp (show 2 * c < 2 ^ 31 by omega), nI_clamp (show 2 * c + 1 < 2 ^ 31 by omega), nI_clamp (show y < 2 ^ 31 by omega)]
  refine ⟨vp_in_nI (by omega) (by omega), vp_in_nI (by omega) (by omega), vp_in_nI hy (by omega), ?_⟩
  refine ys_bind (by omega) hf0 hyb ?_
  refine ⟨vp_in_nI (by omega) (by omega), vp_in_nI (by omega) (by omega), vp_in_nI hy (by omega), ?_⟩
  rw [pk_un hyd]
  refine ys_bind hd hf1 hyb ?_
  rw [h10] at h
  exact ys_413a hf (by decide) (by decide) h
end
end
section
/-! ===== Y: con, call, ret ===== -/
theorem rc_free {G : Nat → Bool} (h : rc_sm (fun c => if G c = true then 1 else 0) 160 < 160) : ∃ c, c < 160 ∧ G c = false ∧ ∀ i, i < c → G i = true := by
  have h1 : ∃ c, c < 160 ∧ G c = false := by
    by_cases z : ∃ c, c < 160 ∧ G c = false
    · exact z
    · have : rc_sm (fun c => if G c = true then 1 else 0) 160 = rc_sm (fun c => if c < 160 then 1 else 0) 160 := rc_sm_eq 160 (fun c hc => by
        rw [if_pos hc]
        cases q : G c
        · exact absurd ⟨c, hc, q⟩ z
        · rfl)
      rw [hx_cnt 160 (Nat.le_refl _)] at this
      omega
  obtain ⟨c, ⟨c1, c2⟩, c3⟩ := pk_least (fun c => c < 160 ∧ G c = false) h1
  refine ⟨c, c1, c2, fun i hi => ?_⟩
  cases q : G i
  · exact absurd ⟨by omega, q⟩ (c3 i hi)
  · rfl
section
variable {g_cap g_most g_functions g_open g_stored g_scope g_state g_bits g_frames g_steps g_fresh g_reused g_peak g_resultCell g_resultNum g_seen : Int32} {b_firstOf b_arityOf b_maskOf b_kindOf b_numOf b_scopeOf b_aOf b_bOf b_cur b_spare b_varCell b_varNum b_borrowed b_tagOf b_fieldCell b_fieldNum b_marked b_digestOf : Nat → Int32}
variable {G : Nat → Bool} {lv : Nat}
theorem ys_88 {post : Int32 → SY → Prop} {c : Nat} (hc : c < 160) (hG : ∀ i, i < 160 → b_marked i = rc_b (G i)) (h0 : G c = false) (h1 : ∀ i, i < c → G i = true) (h : post (nI c) (g_cap, g_most, g_functions, g_open, g_stored, g_scope, g_state, g_bits, g_frames, g_steps, g_fresh, g_reused, g_peak, g_resultCell, g_resultNum, g_seen, b_firstOf, b_arityOf, b_maskOf, b_kindOf, b_numOf, b_scopeOf, b_aOf, b_bOf, b_cur, b_spare, b_varCell, b_varNum, b_borrowed, b_tagOf, b_fieldCell, b_fieldNum, b_marked, b_digestOf)) :
    ∀ (k n : Nat) (x3 : Int32), k ≤ 160 → k < n → (k ≤ c → x3 = nI c) → wY_place_88 post g_cap g_most g_functions g_open g_stored g_scope g_state g_bits g_frames g_steps g_fresh g_reused g_peak g_resultCell g_resultNum g_seen b_firstOf b_arityOf b_maskOf b_kindOf b_numOf b_scopeOf b_aOf b_bOf b_cur b_spare b_varCell b_varNum b_borrowed b_tagOf b_fieldCell b_fieldNum b_marked b_digestOf n x3 (nI k + (-1)) := by
  intro k
  induction k with
  | zero =>
    intro n x3 _ hn hx
    obtain ⟨n, rfl⟩ : ∃ q, n = q + 1 := ⟨n - 1, by omega⟩
    rw [← hx (by omega)] at h
    exact br_t (by decide) h
  | succ m ih =>
    intro n x3 hm hn hx
    obtain ⟨n, rfl⟩ : ∃ q, n = q + 1 := ⟨n - 1, by omega⟩
    rw [pk_m1]
    refine br_f (nI_pos (by omega)) ⟨vp_in_nI (by omega) (by omega), ?_⟩
    rw [nI_clamp (show m < 2 ^ 31 by omega), hG m (by omega)]
    refine br_c (fun z => nm_e (ih n _ (by omega) (by omega) (fun hmc => ?_))) (fun z => nm_e (ih n _ (by omega) (by omega) (fun hmc => hx ?_)))
    · have hz := rc_bz.mp z
      by_cases e : m = c
      · rw [e]
      · rw [h1 m (by omega)] at hz; exact absurd hz (by decide)
    · have : m ≠ c := fun e => z (by rw [e, h0]; rfl)
      omega
theorem ys_39 {Q : Int32 → SY → Prop} {f c : Nat} (hf : f < 20) (hc : c < 160) (hG : ∀ i, i < 160 → b_marked i = rc_b (G i)) (h0 : G c = false) (h1 : ∀ i, i < c → G i = true)
    (hF : b_spare f = 0 → Q (nI c) (g_cap, g_most, g_functions, g_open, g_stored, g_scope, g_state, g_bits, g_frames, g_steps, g_fresh + 1, g_reused, g_peak, g_resultCell, g_resultNum, g_seen, b_firstOf, b_arityOf, b_maskOf, b_kindOf, b_numOf, b_scopeOf, b_aOf, b_bOf, b_cur, b_spare, b_varCell, b_varNum, b_borrowed, b_tagOf, b_fieldCell, b_fieldNum, b_marked, b_digestOf)) (hR : ¬ b_spare f = 0 → Q (nI c) (g_cap, g_most, g_functions, g_open, g_stored, g_scope, g_state, g_bits, g_frames, g_steps, g_fresh, g_reused + 1, g_peak, g_resultCell, g_resultNum, g_seen, b_firstOf, b_arityOf, b_maskOf, b_kindOf, b_numOf, b_scopeOf, b_aOf, b_bOf, b_cur, upd b_spare f (b_spare f - 1), b_varCell, b_varNum, b_borrowed, b_tagOf, b_fieldCell, b_fieldNum, b_marked, b_digestOf)) : wY_place_39 Q (nI f) g_cap g_most g_functions g_open g_stored g_scope g_state g_bits g_frames g_steps g_fresh g_reused g_peak g_resultCell g_resultNum g_seen b_firstOf b_arityOf b_maskOf b_kindOf b_numOf b_scopeOf b_aOf b_bOf b_cur b_spare b_varCell b_varNum b_borrowed b_tagOf b_fieldCell b_fieldNum b_marked b_digestOf := by
  unfold wY_place_39
  rw [nI_clamp (show f < 2 ^ 31 by omega)]
  refine ⟨vp_in_nI hf (by omega), br_c (fun z => nm_e ⟨161, ?_⟩) (fun z => ⟨vp_in_nI hf (by omega), vp_in_nI hf (by omega), nm_e (nm_e ⟨161, ?_⟩)⟩)⟩
  · exact ys_88 hc hG h0 h1 (hF z) 160 161 0 (by omega) (by omega) (fun q => by omega)
  · exact ys_88 hc hG h0 h1 (hR z) 160 161 0 (by omega) (by omega) (fun q => by omega)
/-- the three outcomes of place -/
theorem ys_place {Q : Int32 → SY → Prop} {n f cp lim : Nat} {sp : Nat → Nat} {kp : Int32} (hn : n ≤ 20) (hf : f < n) (hsp : ∀ f, f < n → b_spare f = nI (sp f)) (hs31 : ∀ f, f < n → sp f < 2 ^ 31)
    (hMk : ∀ (Q : Int32 → SY → Prop) (mk0 : Nat → Int32), (∀ mk, (∀ c, c < 160 → mk c = rc_b (G c)) → Q (nI lv) (nI cp, g_most, g_functions, g_open, g_stored, g_scope, g_state, g_bits, nI n, g_steps, g_fresh, g_reused, g_peak, g_resultCell, g_resultNum, g_seen, b_firstOf, b_arityOf, b_maskOf, b_kindOf, b_numOf, b_scopeOf, b_aOf, b_bOf, b_cur, b_spare, b_varCell, b_varNum, b_borrowed, b_tagOf, b_fieldCell, b_fieldNum, mk, b_digestOf)) → wpY_mark Q (nI cp, g_most, g_functions, g_open, g_stored, g_scope, g_state, g_bits, nI n, g_steps, g_fresh, g_reused, g_peak, g_resultCell, g_resultNum, g_seen, b_firstOf, b_arityOf, b_maskOf, b_kindOf, b_numOf, b_scopeOf, b_aOf, b_bOf, b_cur, b_spare, b_varCell, b_varNum, b_borrowed, b_tagOf, b_fieldCell, b_fieldNum, mk0, b_digestOf) 1)
    (hkp : bt g_bits 2 = !decide (kp = 0)) (hlim : lim = if kp = 0 then cp else 160) (hcp : cp ≤ 64) (hT : lv + rc_sm sp n < 2 ^ 31)
    (hN : sp f = 0 → lv + rc_sm sp n = lim → ∀ mk, (∀ c, c < 160 → mk c = rc_b (G c)) → Q (-1) (nI cp, g_most, g_functions, g_open, g_stored, g_scope, g_state, g_bits, nI n, g_steps, g_fresh, g_reused, g_peak, g_resultCell, g_resultNum, g_seen, b_firstOf, b_arityOf, b_maskOf, b_kindOf, b_numOf, b_scopeOf, b_aOf, b_bOf, b_cur, b_spare, b_varCell, b_varNum, b_borrowed, b_tagOf, b_fieldCell, b_fieldNum, mk, b_digestOf))
    (hc : (sp f = 0 → ¬ lv + rc_sm sp n = lim) → ∃ c, c < 160 ∧ G c = false ∧ (∀ i, i < c → G i = true) ∧
      (sp f = 0 → ∀ mk, (∀ c, c < 160 → mk c = rc_b (G c)) → Q (nI c) (nI cp, g_most, g_functions, g_open, g_stored, g_scope, g_state, g_bits, nI n, g_steps, g_fresh + 1, g_reused, g_peak, g_resultCell, g_resultNum, g_seen, b_firstOf, b_arityOf, b_maskOf, b_kindOf, b_numOf, b_scopeOf, b_aOf, b_bOf, b_cur, b_spare, b_varCell, b_varNum, b_borrowed, b_tagOf, b_fieldCell, b_fieldNum, mk, b_digestOf)) ∧
      (∀ k, sp f = k + 1 → ∀ mk, (∀ c, c < 160 → mk c = rc_b (G c)) → Q (nI c) (nI cp, g_most, g_functions, g_open, g_stored, g_scope, g_state, g_bits, nI n, g_steps, g_fresh, g_reused + 1, g_peak, g_resultCell, g_resultNum, g_seen, b_firstOf, b_arityOf, b_maskOf, b_kindOf, b_numOf, b_scopeOf, b_aOf, b_bOf, b_cur, upd b_spare f (nI k), b_varCell, b_varNum, b_borrowed, b_tagOf, b_fieldCell, b_fieldNum, mk, b_digestOf))) :
    wpY_place Q (nI cp, g_most, g_functions, g_open, g_stored, g_scope, g_state, g_bits, nI n, g_steps, g_fresh, g_reused, g_peak, g_resultCell, g_resultNum, g_seen, b_firstOf, b_arityOf, b_maskOf, b_kindOf, b_numOf, b_scopeOf, b_aOf, b_bOf, b_cur, b_spare, b_varCell, b_varNum, b_borrowed, b_tagOf, b_fieldCell, b_fieldNum, b_marked, b_digestOf) (nI f) := by
  unfold wpY_place
  (try dsimp only)
  refine ys_occ (lv := lv) hn hsp (fun Q' mk0 hQ => hMk Q' mk0 hQ) (fun mk hmk => ?_)
  (try dsimp only)
  have hs := hs31 f hf
  have g39 : (sp f = 0 → ¬ lv + rc_sm sp n = lim) → wY_place_39 Q (nI f) (nI cp) g_most g_functions g_open g_stored g_scope g_state g_bits (nI n) g_steps g_fresh g_reused g_peak g_resultCell g_resultNum g_seen b_firstOf b_arityOf b_maskOf b_kindOf b_numOf b_scopeOf b_aOf b_bOf b_cur b_spare b_varCell b_varNum b_borrowed b_tagOf b_fieldCell b_fieldNum mk b_digestOf := fun hh => by
    obtain ⟨c, c1, c2, c3, c4, c5⟩ := hc hh
    refine ys_39 (b_marked := mk) (by omega) c1 hmk c2 c3 (fun z => c4 ?_ mk hmk) (fun z => ?_)
    · rw [hsp f hf] at z
      exact (nI_eq hs (by omega)).mp z
    · obtain ⟨k, ek⟩ : ∃ k, sp f = k + 1 := ⟨sp f - 1, by
        have : sp f ≠ 0 := fun q => z (by rw [hsp f hf, q]; rfl)
        omega⟩
      have := c5 k ek mk hmk
      rw [hsp f hf, ek, nI_pred]
      exact this
  have g34 : sp f = 0 → wY_place_34 Q (nI f) (nI lim) (nI (lv + rc_sm sp n)) (nI cp) g_most g_functions g_open g_stored g_scope g_state g_bits (nI n) g_steps g_fresh g_reused g_peak g_resultCell g_resultNum g_seen b_firstOf b_arityOf b_maskOf b_kindOf b_numOf b_scopeOf b_aOf b_bOf b_cur b_spare b_varCell b_varNum b_borrowed b_tagOf b_fieldCell b_fieldNum mk b_digestOf := fun h0 => by
    unfold wY_place_34
    have : lim < 2 ^ 31 := by rw [hlim]; split <;> omega
    exact pk_eq (lv + rc_sm sp n) lim (fun z => hN h0 z mk hmk) (fun z => g39 (fun _ => z))
  rw [nI_clamp (show f < 2 ^ 31 by omega), hsp f hf]
  refine ⟨vp_in_nI (by omega) (by omega), pk_eq (sp f) 0 (fun z => br_c (fun q => ?_) (fun q => ?_)) (fun z => g39 (fun q => absurd q z))⟩
  · have hk : kp = 0 := by
      rw [yw_and4, hkp] at q
      by_cases w : kp = 0
      · exact w
      · rw [decide_eq_false w] at q; exact absurd q (by decide)
    rw [if_pos hk] at hlim
    rw [hlim] at g34
    exact g34 z
  · have hk : ¬ kp = 0 := fun w => by
      rw [yw_and4, hkp, decide_eq_true w] at q; exact absurd rfl q
    rw [if_neg hk] at hlim
    rw [hlim] at g34
    exact g34 z
variable {x4 x5 x7 x9 x10 x11 x12 : Int32}
theorem ys_con {post : SY → Prop} {f s c x : Nat} {fre' reu' : Int32} {sp' : Nat → Int32} (hf : f < 20) (hx : x < 240) (hc : c < 160) (h9 : x9 = 0 ∨ x9 = 1) (h11 : x11 = 0 ∨ x11 = 1)
    (hpl : ∀ Q : Int32 → SY → Prop, (∀ mk, Q (nI c) (g_cap, g_most, g_functions, g_open, g_stored, g_scope, g_state, g_bits, g_frames, g_steps, fre', reu', g_peak, g_resultCell, g_resultNum, g_seen, b_firstOf, b_arityOf, b_maskOf, b_kindOf, b_numOf, b_scopeOf, b_aOf, b_bOf, b_cur, sp', b_varCell, b_varNum, b_borrowed, b_tagOf, b_fieldCell, b_fieldNum, mk, b_digestOf)) → wpY_place Q (g_cap, g_most, g_functions, g_open, g_stored, g_scope, g_state, g_bits, g_frames, g_steps, g_fresh, g_reused, g_peak, g_resultCell, g_resultNum, g_seen, b_firstOf, b_arityOf, b_maskOf, b_kindOf, b_numOf, b_scopeOf, b_aOf, b_bOf, b_cur, b_spare, b_varCell, b_varNum, b_borrowed, b_tagOf, b_fieldCell, b_fieldNum, b_marked, b_digestOf) (nI f))
    (h : ∀ mk, wY_step_559 post (nI f) 2 x9 x10 g_cap g_most g_functions g_open g_stored g_scope g_state g_bits g_frames g_steps fre' reu' g_peak g_resultCell g_resultNum g_seen b_firstOf b_arityOf b_maskOf b_kindOf b_numOf b_scopeOf b_aOf b_bOf (upd b_cur f (nI (s + 1))) sp' (upd b_varCell x 1) (upd b_varNum x (nI c)) (upd b_borrowed x 0) (upd b_tagOf c x4) (upd (upd b_fieldCell (2 * c) x9) (2 * c + 1) x11) (upd (upd b_fieldNum (2 * c) x10) (2 * c + 1) x12) mk b_digestOf) :
    wY_step_145 post (nI f) (nI s) 2 x4 x5 (nI x) x7 x9 x10 x11 x12 g_cap g_most g_functions g_open g_stored g_scope g_state g_bits g_frames g_steps g_fresh g_reused g_peak g_resultCell g_resultNum g_seen b_firstOf b_arityOf b_maskOf b_kindOf b_numOf b_scopeOf b_aOf b_bOf b_cur b_spare b_varCell b_varNum b_borrowed b_tagOf b_fieldCell b_fieldNum b_marked b_digestOf := by
  refine ys_145 (by decide) (by decide) (by decide) ?_
  unfold wY_step_245
  refine br_t rfl (hpl _ (fun mk => br_t (nI_pos' (by omega)) ?_))
  rw [show 2 * nI c = nI (2 * c) from pk_mul 2 c, nI_1, nI_clamp (show 2 * c < 2 ^ 31 by omega), nI_clamp (show 2 * c + 1 < 2 ^ 31 by omega), nI_clamp (show c < 2 ^ 31 by omega), rc_nar h9, rc_nar h11]
  refine ⟨vp_in_nI (by omega) (by omega), nm_e ⟨vp_in_nI (by omega) (by omega), nm_e ⟨vp_in_nI (by omega) (by omega), nm_e ⟨vp_in_nI (by omega) (by omega), nm_e ⟨vp_in_nI (by omega) (by omega), nm_e ?_⟩⟩⟩⟩⟩
  refine ys_bind hx (Or.inr rfl) (Or.inl rfl) ?_
  unfold wY_step_335
  exact br_f (by decide) (ys_413a hf (by decide) (by decide) (h mk))
theorem ys_conF {post : SY → Prop} {x1 x2 x6 : Int32} (hpl : ∀ Q : Int32 → SY → Prop, (∀ mk, Q (-1) (g_cap, g_most, g_functions, g_open, g_stored, g_scope, g_state, g_bits, g_frames, g_steps, g_fresh, g_reused, g_peak, g_resultCell, g_resultNum, g_seen, b_firstOf, b_arityOf, b_maskOf, b_kindOf, b_numOf, b_scopeOf, b_aOf, b_bOf, b_cur, b_spare, b_varCell, b_varNum, b_borrowed, b_tagOf, b_fieldCell, b_fieldNum, mk, b_digestOf)) → wpY_place Q (g_cap, g_most, g_functions, g_open, g_stored, g_scope, g_state, g_bits, g_frames, g_steps, g_fresh, g_reused, g_peak, g_resultCell, g_resultNum, g_seen, b_firstOf, b_arityOf, b_maskOf, b_kindOf, b_numOf, b_scopeOf, b_aOf, b_bOf, b_cur, b_spare, b_varCell, b_varNum, b_borrowed, b_tagOf, b_fieldCell, b_fieldNum, b_marked, b_digestOf) x1) (h : ∀ mk, post (g_cap, g_most, g_functions, g_open, g_stored, g_scope, 3, g_bits, g_frames, g_steps, g_fresh, g_reused, g_peak, g_resultCell, g_resultNum, g_seen, b_firstOf, b_arityOf, b_maskOf, b_kindOf, b_numOf, b_scopeOf, b_aOf, b_bOf, b_cur, b_spare, b_varCell, b_varNum, b_borrowed, b_tagOf, b_fieldCell, b_fieldNum, mk, b_digestOf)) :
    wY_step_145 post x1 x2 2 x4 x5 x6 x7 x9 x10 x11 x12 g_cap g_most g_functions g_open g_stored g_scope g_state g_bits g_frames g_steps g_fresh g_reused g_peak g_resultCell g_resultNum g_seen b_firstOf b_arityOf b_maskOf b_kindOf b_numOf b_scopeOf b_aOf b_bOf b_cur b_spare b_varCell b_varNum b_borrowed b_tagOf b_fieldCell b_fieldNum b_marked b_digestOf := by
  refine ys_145 (by decide) (by decide) (by decide) ?_
  unfold wY_step_245
  exact br_t rfl (hpl _ (fun mk => br_f (by decide) (h mk)))
theorem ys_enter {post : SY → Prop} {n g : Nat} {bor xc xn yc yn : Int32} {t : Int32} (hn : n < 20) (hg : g < 6) (hb : bt g_bits 0 = !decide (bor = 0)) (ht : b_firstOf g = t) (hxc : xc = 0 ∨ xc = 1) (hyc : yc = 0 ∨ yc = 1)
    (h : post (g_cap, g_most, g_functions, g_open, g_stored, g_scope, g_state, g_bits, nI (n + 1), g_steps, g_fresh, g_reused, g_peak, g_resultCell, g_resultNum, g_seen, b_firstOf, b_arityOf, b_maskOf, b_kindOf, b_numOf, b_scopeOf, b_aOf, b_bOf, upd b_cur n t, upd b_spare n 0, upd (upd b_varCell (n * 12) xc) (n * 12 + 1) yc, upd (upd b_varNum (n * 12) xn) (n * 12 + 1) yn, upd (upd b_borrowed (n * 12) (rc_b (!decide (bor = 0) && bt (b_maskOf g) 0))) (n * 12 + 1) (rc_b (!decide (bor = 0) && bt (b_maskOf g) 1)), b_tagOf, b_fieldCell, b_fieldNum, b_marked, b_digestOf)) :
    wpY_enter post (g_cap, g_most, g_functions, g_open, g_stored, g_scope, g_state, g_bits, nI n, g_steps, g_fresh, g_reused, g_peak, g_resultCell, g_resultNum, g_seen, b_firstOf, b_arityOf, b_maskOf, b_kindOf, b_numOf, b_scopeOf, b_aOf, b_bOf, b_cur, b_spare, b_varCell, b_varNum, b_borrowed, b_tagOf, b_fieldCell, b_fieldNum, b_marked, b_digestOf) (nI g) xc xn yc yn := by
  have r01 : ∀ b : Bool, rc_b b = 0 ∨ rc_b b = 1 := fun b => by cases b; exact Or.inl rfl; exact Or.inr rfl
  have go : ∀ z0 : Int32, bt z0 0 = (!decide (bor = 0) && bt (b_maskOf g) 0) → bt z0 1 = (!decide (bor = 0) && bt (b_maskOf g) 1) → wY_enter_19 post (nI g) xc xn yc yn z0 g_cap g_most g_functions g_open g_stored g_scope g_state g_bits (nI n) g_steps g_fresh g_reused g_peak g_resultCell g_resultNum g_seen b_firstOf b_arityOf b_maskOf b_kindOf b_numOf b_scopeOf b_aOf b_bOf b_cur b_spare b_varCell b_varNum b_borrowed b_tagOf b_fieldCell b_fieldNum b_marked b_digestOf := by
    intro z0 e0 e1
    rw [← e0, ← e1] at h
    unfold wY_enter_19
    rw [nI_clamp (show g < 2 ^ 31 by omega), nI_clamp (show n < 2 ^ 31 by omega), ht]
    have g82 : ∀ b0 : Int32, b0 = rc_b (bt z0 0) → wY_enter_82 post yc yn z0 (nI (n * 12)) b0 xn xc (nI (n * 12)) g_cap g_most g_functions g_open g_stored g_scope g_state g_bits (nI (n + 1)) g_steps g_fresh g_reused g_peak g_resultCell g_resultNum g_seen b_firstOf b_arityOf b_maskOf b_kindOf b_numOf b_scopeOf b_aOf b_bOf (upd b_cur n t) (upd b_spare n 0) b_varCell b_varNum b_borrowed b_tagOf b_fieldCell b_fieldNum b_marked b_digestOf := by
      intro b0 eb0
      unfold wY_enter_82
      rw [eb0]
      refine ys_bind (by omega) hxc (r01 _) ?_
      rw [nI_1]
      have g106 : ∀ b1 : Int32, b1 = rc_b (bt z0 1) → wY_enter_106 post b1 yn yc (nI (n * 12 + 1)) g_cap g_most g_functions g_open g_stored g_scope g_state g_bits (nI (n + 1)) g_steps g_fresh g_reused g_peak g_resultCell g_resultNum g_seen b_firstOf b_arityOf b_maskOf b_kindOf b_numOf b_scopeOf b_aOf b_bOf (upd b_cur n t) (upd b_spare n 0) (upd b_varCell (n * 12) xc) (upd b_varNum (n * 12) xn) (upd b_borrowed (n * 12) (rc_b (bt z0 0))) b_tagOf b_fieldCell b_fieldNum b_marked b_digestOf := by
        intro b1 eb1
        unfold wY_enter_106
        rw [eb1]
        exact ys_bind (by omega) hyc (r01 _) h
      refine br_c (fun q => g106 0 ?_) (fun q => g106 1 ?_)
      · rw [yw_and2.mp q]; rfl
      · cases w : bt z0 1
        · exact absurd (yw_and2.mpr w) q
        · rfl
    refine nm_r (e' := nI (n * 12)) (pk_mul n 12) ⟨vp_in_nI hg (by omega), vp_in_nI hn (by omega), nm_e ⟨vp_in_nI hn (by omega), nm_e (nm_r (nI_1 n) (br_c (fun q => g82 0 ?_) (fun q => g82 1 ?_)))⟩⟩
    · rw [yw_and1.mp q]; rfl
    · cases w : bt z0 0
      · exact absurd (yw_and1.mpr w) q
      · rfl
  unfold wpY_enter
  (try dsimp only)
  rw [nI_clamp (show g < 2 ^ 31 by omega)]
  refine br_c (fun q => go 0 ?_ ?_) (fun q => ⟨vp_in_nI hg (by omega), go _ ?_ ?_⟩)
  · rw [yw_and1, hb] at q
    rw [b_0, q]; rfl
  · rw [yw_and1, hb] at q
    rw [b_0, q]; rfl
  · rw [yw_and1, hb] at q
    cases w : (!decide (bor = 0))
    · exact absurd w q
    · rfl
  · rw [yw_and1, hb] at q
    cases w : (!decide (bor = 0))
    · exact absurd w q
    · rfl
theorem ys_call {post : SY → Prop} {n dp g : Nat} {bor t x1 x2 x6 : Int32} (hn : n < dp) (hdp : dp ≤ 20) (hg : g < 6) (hb : bt g_bits 0 = !decide (bor = 0)) (ht : b_firstOf g = t) (h9 : x9 = 0 ∨ x9 = 1) (h11 : x11 = 0 ∨ x11 = 1)
    (h : wY_step_559 post x1 3 x9 x10 g_cap (nI dp) g_functions g_open g_stored g_scope g_state g_bits (nI (n + 1)) g_steps g_fresh g_reused g_peak g_resultCell g_resultNum g_seen b_firstOf b_arityOf b_maskOf b_kindOf b_numOf b_scopeOf b_aOf b_bOf (upd b_cur n t) (upd b_spare n 0) (upd (upd b_varCell (n * 12) x9) (n * 12 + 1) x11) (upd (upd b_varNum (n * 12) x10) (n * 12 + 1) x12) (upd (upd b_borrowed (n * 12) (rc_b (!decide (bor = 0) && bt (b_maskOf g) 0))) (n * 12 + 1) (rc_b (!decide (bor = 0) && bt (b_maskOf g) 1))) b_tagOf b_fieldCell b_fieldNum b_marked b_digestOf) :
    wY_step_145 post x1 x2 3 (nI g) x5 x6 x7 x9 x10 x11 x12 g_cap (nI dp) g_functions g_open g_stored g_scope g_state g_bits (nI n) g_steps g_fresh g_reused g_peak g_resultCell g_resultNum g_seen b_firstOf b_arityOf b_maskOf b_kindOf b_numOf b_scopeOf b_aOf b_bOf b_cur b_spare b_varCell b_varNum b_borrowed b_tagOf b_fieldCell b_fieldNum b_marked b_digestOf := by
  refine ys_145 (by decide) (by decide) (by decide) (ys_245 (by decide) (by decide) ?_)
  unfold wY_step_413
  exact br_t rfl (br_f (fun z => by rw [nI_eq (by omega) (by omega)] at z; omega) (ys_enter (bor := bor) (by omega) hg hb ht h9 h11 h))
theorem ys_callD {post : SY → Prop} {x1 x2 x6 : Int32} (h : post (g_cap, g_most, g_functions, g_open, g_stored, g_scope, 4, g_bits, g_most, g_steps, g_fresh, g_reused, g_peak, g_resultCell, g_resultNum, g_seen, b_firstOf, b_arityOf, b_maskOf, b_kindOf, b_numOf, b_scopeOf, b_aOf, b_bOf, b_cur, b_spare, b_varCell, b_varNum, b_borrowed, b_tagOf, b_fieldCell, b_fieldNum, b_marked, b_digestOf)) : wY_step_145 post x1 x2 3 x4 x5 x6 x7 x9 x10 x11 x12 g_cap g_most g_functions g_open g_stored g_scope g_state g_bits g_most g_steps g_fresh g_reused g_peak g_resultCell g_resultNum g_seen b_firstOf b_arityOf b_maskOf b_kindOf b_numOf b_scopeOf b_aOf b_bOf b_cur b_spare b_varCell b_varNum b_borrowed b_tagOf b_fieldCell b_fieldNum b_marked b_digestOf := by
  refine ys_145 (by decide) (by decide) (by decide) (ys_245 (by decide) (by decide) ?_)
  unfold wY_step_413
  exact br_t rfl (br_t rfl h)
theorem ys_ret0 {post : SY → Prop} {x2 x6 : Int32} (h9 : x9 = 0 ∨ x9 = 1) (h : wY_step_559 post 0 6 x9 x10 g_cap g_most g_functions g_open g_stored g_scope 2 g_bits 0 g_steps g_fresh g_reused g_peak x9 x10 g_seen b_firstOf b_arityOf b_maskOf b_kindOf b_numOf b_scopeOf b_aOf b_bOf b_cur b_spare b_varCell b_varNum b_borrowed b_tagOf b_fieldCell b_fieldNum b_marked b_digestOf) :
    wY_step_145 post 0 x2 6 x4 x5 x6 x7 x9 x10 x11 x12 g_cap g_most g_functions g_open g_stored g_scope g_state g_bits 1 g_steps g_fresh g_reused g_peak g_resultCell g_resultNum g_seen b_firstOf b_arityOf b_maskOf b_kindOf b_numOf b_scopeOf b_aOf b_bOf b_cur b_spare b_varCell b_varNum b_borrowed b_tagOf b_fieldCell b_fieldNum b_marked b_digestOf := by
  refine ys_145 (by decide) (by decide) (by decide) (ys_245 (by decide) (by decide) ?_)
  unfold wY_step_413
  refine br_f (by decide) (br_t rfl (nm_r (e' := 0) (by decide) (br_t rfl ⟨?_, ?_, h⟩)))
  · rcases h9 with rfl | rfl <;> rfl
  · rcases h9 with rfl | rfl <;> rfl
theorem ys_ret1 {post : SY → Prop} {w t d : Nat} {x2 x6 : Int32} (hw : w + 1 < 20) (ht : t < 96) (et : b_cur w = nI t) (ed : b_scopeOf t = nI d) (hd : d < 12) (h9 : x9 = 0 ∨ x9 = 1)
    (h : wY_step_559 post (nI (w + 1)) 6 x9 x10 g_cap g_most g_functions g_open g_stored g_scope g_state g_bits (nI (w + 1)) g_steps g_fresh g_reused g_peak g_resultCell g_resultNum g_seen b_firstOf b_arityOf b_maskOf b_kindOf b_numOf b_scopeOf b_aOf b_bOf (upd b_cur w (nI (t + 1))) b_spare (upd b_varCell (w * 12 + d) x9) (upd b_varNum (w * 12 + d) x10) (upd b_borrowed (w * 12 + d) 0) b_tagOf b_fieldCell b_fieldNum b_marked b_digestOf) :
    wY_step_145 post (nI (w + 1)) x2 6 x4 (nI ((w + 1) * 12)) x6 x7 x9 x10 x11 x12 g_cap g_most g_functions g_open g_stored g_scope g_state g_bits (nI (w + 2)) g_steps g_fresh g_reused g_peak g_resultCell g_resultNum g_seen b_firstOf b_arityOf b_maskOf b_kindOf b_numOf b_scopeOf b_aOf b_bOf b_cur b_spare b_varCell b_varNum b_borrowed b_tagOf b_fieldCell b_fieldNum b_marked b_digestOf := by
  refine ys_145 (by decide) (by decide) (by decide) (ys_245 (by decide) (by decide) ?_)
  unfold wY_step_413
  refine br_f (by decide) (br_t rfl (nm_r (nI_pred (w + 1)) (br_f (nI_ne0 (by omega) (by omega)) ?_)))
  rw [nI_pred w, nI_clamp (show w < 2 ^ 31 by omega), et, nI_clamp (show t < 2 ^ 31 by omega), ed, show nI ((w + 1) * 12) - 12 = nI (w * 12) from by rw [show (12 : Int32) = nI 12 from rfl, pk_sub (by omega)]; exact congrArg nI (by omega), nI_add]
  refine ⟨vp_in_nI (by omega) (by omega), vp_in_nI ht (by omega), ?_⟩
  refine ys_bind (by omega) h9 (Or.inl rfl) ?_
  (try dsimp only)
  rw [et, nI_1]
  exact ⟨vp_in_nI (by omega) (by omega), vp_in_nI (by omega) (by omega), nm_e h⟩
end
end
section
/-! ===== the run's core, and what Y's mark and step's end do with it ===== -/
def rr_S (st kp : Int32) (res : Int64) (fresh rc rn : Int32) (L : Nat → Bool) (sg : Nat → Nat) (n lv : Nat) : Prop :=
  (st = 0 ∨ st = 1 ∨ st = 2 ∨ st = 3 ∨ st = 4) ∧ (st = 0 ∨ st = 2 → n = 0) ∧ (st = 1 ∨ st = 3 ∨ st = 4 → 0 < n) ∧ (st = 2 → rc_vr L sg res rc rn) ∧ (¬ kp = 0 → fresh = nI lv ∧ ∀ c, c < lv → sg c = c)
def rr_K (f_state : Int32) (f_borrowing : Int32) (f_reusing : Int32) (f_keeping : Int32) (f_result : Int64) (f_fresh : Int32) (a_codes : Nat → Int32) (a_borrowed : Nat → Int32) (a_lends : Nat → Int32) (a_frees : Nat → Int32) (a_afters : Nat → Int32) (a_tags : Nat → Int32) (a_firsts : Nat → Int64) (a_seconds : Nat → Int64) (a_digests : Nat → Int32) (a_counts : Nat → Int32) (a_places : Nat → Int32) (a_work : Nat → Int32) (a_variables : Nat → Int64) (a_currents : Nat → Int32) (a_held : Nat → Int32) (g_bits : Int32) (g_resultCell : Int32) (g_resultNum : Int32) (b_varCell : Nat → Int32) (b_varNum : Nat → Int32) (b_borrowed : Nat → Int32) (b_tagOf : Nat → Int32) (b_fieldCell : Nat → Int32) (b_fieldNum : Nat → Int32) (sc cu sg rk : Nat → Nat) (L : Nat → Bool) (b n lv : Nat) : Prop :=
  rr_F a_codes a_frees a_afters a_borrowed a_lends f_borrowing a_currents a_held cu b n ∧
  rr_V a_frees a_afters a_lends f_borrowing cu n L sg a_variables b_varCell b_varNum ∧
  rr_B a_borrowed sc f_borrowing cu n b_borrowed ∧
  rr_Q a_frees a_afters a_borrowed f_borrowing cu n a_held a_firsts a_seconds a_variables ∧
  rr_I L sg rk a_firsts a_seconds a_tags a_digests b_tagOf b_fieldCell b_fieldNum ∧
  rr_Y b_varCell b_varNum b_borrowed b_fieldCell b_fieldNum g_resultCell g_resultNum ∧
  rr_M f_keeping f_borrowing f_reusing g_bits ∧
  rr_L f_keeping L a_firsts a_seconds a_variables (xr_H n a_held) (xr_E f_state f_result) lv ∧
  (¬ f_state = 0 → hx_S f_keeping L a_firsts a_seconds a_variables (xr_H n a_held) (xr_E f_state f_result) a_counts a_places lv a_work) ∧
  rr_S f_state f_keeping f_result f_fresh g_resultCell g_resultNum L sg n lv
def rr_R (f_capacity : Int32) (f_depth : Int32) (f_liveCells : Int32) (f_frames : Int32) (f_spareTotal : Int32) (a_spareCounts : Nat → Int32) (b_spare : Nat → Int32) (f_state : Int32) (f_borrowing : Int32) (f_reusing : Int32) (f_keeping : Int32) (f_result : Int64) (f_fresh : Int32) (a_codes : Nat → Int32) (a_borrowed : Nat → Int32) (a_lends : Nat → Int32) (a_frees : Nat → Int32) (a_afters : Nat → Int32) (a_tags : Nat → Int32) (a_firsts : Nat → Int64) (a_seconds : Nat → Int64) (a_digests : Nat → Int32) (a_counts : Nat → Int32) (a_places : Nat → Int32) (a_work : Nat → Int32) (a_variables : Nat → Int64) (a_currents : Nat → Int32) (a_held : Nat → Int32) (g_bits : Int32) (g_resultCell : Int32) (g_resultNum : Int32) (b_varCell : Nat → Int32) (b_varNum : Nat → Int32) (b_borrowed : Nat → Int32) (b_tagOf : Nat → Int32) (b_fieldCell : Nat → Int32) (b_fieldNum : Nat → Int32) (sc cu sg rk sp : Nat → Nat) (L : Nat → Bool) (b n lv cp dp : Nat) : Prop :=
  (f_depth = nI dp ∧ 2 ≤ dp ∧ dp ≤ 20 ∧ n ≤ dp) ∧ f_liveCells = nI lv ∧ f_frames = nI n ∧
  rr_P f_keeping f_capacity f_spareTotal a_spareCounts b_spare sp n lv cp ∧ rr_K f_state f_borrowing f_reusing f_keeping f_result f_fresh a_codes a_borrowed a_lends a_frees a_afters a_tags a_firsts a_seconds a_digests a_counts a_places a_work a_variables a_currents a_held g_bits g_resultCell g_resultNum b_varCell b_varNum b_borrowed b_tagOf b_fieldCell b_fieldNum sc cu sg rk L b n lv
section
variable {f_codeNum f_codeOp f_codeCon f_codeCall f_codeMatch f_codeIfZero f_codeRet : Int32} {f_cellBase f_unseen : Int64} {f_capacity f_depth f_complete f_open f_stored f_scope f_borrowedNow f_pending f_liveCells f_frames f_spareTotal f_state f_borrowing f_reusing f_keeping : Int32} {f_result : Int64} {f_steps f_fresh f_reused f_peak : Int32} {a_arities a_masks a_starts a_codes a_extras a_lefts a_rights a_scopes a_uses a_borrowed a_lends a_others a_frees a_afters a_builds a_pendingAt a_tags : Nat → Int32} {a_firsts a_seconds : Nat → Int64} {a_digests a_counts a_places a_work a_marks : Nat → Int32} {a_variables : Nat → Int64} {a_currents a_held a_spareCounts : Nat → Int32} {g_bits g_resultCell g_resultNum g_seen : Int32} {b_aOf b_bOf b_spare b_varCell b_varNum b_borrowed b_tagOf b_fieldCell b_fieldNum b_marked b_digestOf : Nat → Int32}
variable {sc cu sg rk sp : Nat → Nat} {bw : Nat → Int32} {L : Nat → Bool} {cm b n lv st : Nat}
theorem yk_mark {post : Int32 → SY → Prop} (C : ct_C a_arities a_masks a_starts a_codes a_extras a_lefts a_rights a_scopes a_uses a_borrowed a_lends a_others a_frees a_afters a_builds b_aOf b_bOf sc bw cm b) (K : rr_K f_state f_borrowing f_reusing f_keeping f_result f_fresh a_codes a_borrowed a_lends a_frees a_afters a_tags a_firsts a_seconds a_digests a_counts a_places a_work a_variables a_currents a_held g_bits g_resultCell g_resultNum b_varCell b_varNum b_borrowed b_tagOf b_fieldCell b_fieldNum sc cu sg rk L b n lv) (hb : b ≤ st) (hst : st ≤ 96)
    (hp : ∀ mk, (∀ c, c < 160 → mk c = rc_b (ym_G L sg c)) → post (nI lv) (f_capacity, f_depth, f_complete, f_open, nI st, f_scope, f_state, g_bits, nI n, f_steps, f_fresh, f_reused, f_peak, g_resultCell, g_resultNum, g_seen, a_starts, a_arities, a_masks, a_codes, a_extras, a_scopes, b_aOf, b_bOf, a_currents, b_spare, b_varCell, b_varNum, b_borrowed, b_tagOf, b_fieldCell, b_fieldNum, mk, b_digestOf)) : wpY_mark post (f_capacity, f_depth, f_complete, f_open, nI st, f_scope, f_state, g_bits, nI n, f_steps, f_fresh, f_reused, f_peak, g_resultCell, g_resultNum, g_seen, a_starts, a_arities, a_masks, a_codes, a_extras, a_scopes, b_aOf, b_bOf, a_currents, b_spare, b_varCell, b_varNum, b_borrowed, b_tagOf, b_fieldCell, b_fieldNum, b_marked, b_digestOf) 1 := by
  obtain ⟨k1, k2, k3, k4, k5, k6, k7, k8, k9, k10⟩ := K
  exact yr_mark C k1 k2 k3 k5 k6 k7 k8 k10.2.2.2.1 k10.2.2.2.2 hb hst hp
/-- the greatest number of cells that the last frame can still build -/
theorem yk_bd (C : ct_C a_arities a_masks a_starts a_codes a_extras a_lefts a_rights a_scopes a_uses a_borrowed a_lends a_others a_frees a_afters a_builds b_aOf b_bOf sc bw cm b) (K : rr_K f_state f_borrowing f_reusing f_keeping f_result f_fresh a_codes a_borrowed a_lends a_frees a_afters a_tags a_firsts a_seconds a_digests a_counts a_places a_work a_variables a_currents a_held g_bits g_resultCell g_resultNum b_varCell b_varNum b_borrowed b_tagOf b_fieldCell b_fieldNum sc cu sg rk L b n lv) (h0 : 0 < n) : ∃ B e, B ≤ 96 ∧ a_builds (cu (n - 1)) = nI B ∧ e ≤ b ∧ tx_T a_codes (cu (n - 1)) e ∧ tx_B a_codes (cu (n - 1)) e B := by
  obtain ⟨f1, f2, f3, f4⟩ := K.1.2 (n - 1) (by omega)
  obtain ⟨e, he, T⟩ := C.2.2.1 _ f2
  have hC := C.1
  obtain ⟨B, b1, b2, b3⟩ := tx_bd C.1 C.2.2.2.1 C.2.2.2.2.1 e (cu (n - 1)) e (by omega) he T
  exact ⟨B, e, by omega, b2, he, T, b3⟩
/-- what Y does behind the change itself -/
theorem yk_559 {post : SY → Prop} {f B e : Nat} {k x9 x10 : Int32} (C : ct_C a_arities a_masks a_starts a_codes a_extras a_lefts a_rights a_scopes a_uses a_borrowed a_lends a_others a_frees a_afters a_builds b_aOf b_bOf sc bw cm b) (K : rr_K f_state f_borrowing f_reusing f_keeping f_result f_fresh a_codes a_borrowed a_lends a_frees a_afters a_tags a_firsts a_seconds a_digests a_counts a_places a_work a_variables a_currents a_held g_bits g_resultCell g_resultNum b_varCell b_varNum b_borrowed b_tagOf b_fieldCell b_fieldNum sc cu sg rk L b n lv) (hb : b ≤ st) (hst : st ≤ 96) (k4 : ¬ k = 4)
    (hB : B ≤ 96) (hbd : 0 < n → a_builds (cu (n - 1)) = nI B ∧ e ≤ b ∧ tx_T a_codes (cu (n - 1)) e ∧ tx_B a_codes (cu (n - 1)) e B)
    (hs31 : ∀ f, f < n → sp f < 2 ^ 31) (hsp : ∀ f, f < n → b_spare f = nI (sp f))
    (h : ∀ mk spY, (∀ f, f < n → spY f = nI (ys_cut sp n B f)) → post (f_capacity, f_depth, f_complete, f_open, nI st, f_scope, f_state, g_bits, nI n, f_steps + 1, f_fresh, f_reused, ys_pk f_peak (lv + rc_sm (ys_cut sp n B) n), g_resultCell, g_resultNum, g_seen, a_starts, a_arities, a_masks, a_codes, a_extras, a_scopes, b_aOf, b_bOf, a_currents, spY, b_varCell, b_varNum, b_borrowed, b_tagOf, b_fieldCell, b_fieldNum, mk, b_digestOf)) :
    wY_step_559 post (nI f) k x9 x10 f_capacity f_depth f_complete f_open (nI st) f_scope f_state g_bits (nI n) f_steps f_fresh f_reused f_peak g_resultCell g_resultNum g_seen a_starts a_arities a_masks a_codes a_extras a_scopes b_aOf b_bOf a_currents b_spare b_varCell b_varNum b_borrowed b_tagOf b_fieldCell b_fieldNum b_marked b_digestOf := by
  refine ys_559 (G := ym_G L sg) (lv := lv) K.1.1 (by omega) hs31 hsp (fun Q ss sp' mk0 hQ => ?_) (fun h0 Q sp' mk hQ => ?_) k4 (fun mk spY _ hs => h mk spY hs)
  · exact yk_mark (f_steps := ss) (b_spare := sp') (b_marked := mk0) C K hb hst hQ
  · obtain ⟨b1, b2, b3, b4⟩ := hbd h0
    rw [(K.1.2 (n - 1) (by omega)).1]
    exact yw_builds b3 (by omega) hst b4 hQ
theorem yk_559m {post : SY → Prop} {f B e : Nat} {x9 x10 : Int32} {sp1 : Nat → Nat} (C : ct_C a_arities a_masks a_starts a_codes a_extras a_lefts a_rights a_scopes a_uses a_borrowed a_lends a_others a_frees a_afters a_builds b_aOf b_bOf sc bw cm b) (K : rr_K f_state f_borrowing f_reusing f_keeping f_result f_fresh a_codes a_borrowed a_lends a_frees a_afters a_tags a_firsts a_seconds a_digests a_counts a_places a_work a_variables a_currents a_held g_bits g_resultCell g_resultNum b_varCell b_varNum b_borrowed b_tagOf b_fieldCell b_fieldNum sc cu sg rk L b n lv) (hb : b ≤ st) (hst : st ≤ 96) (hf : f < n)
    (hB : B ≤ 96) (hbd : 0 < n → a_builds (cu (n - 1)) = nI B ∧ e ≤ b ∧ tx_T a_codes (cu (n - 1)) e ∧ tx_B a_codes (cu (n - 1)) e B)
    (hs31 : ∀ f, f < n → sp f + 1 < 2 ^ 31) (hsp : ∀ f, f < n → b_spare f = nI (sp f)) (h10 : ¬ x9 = 0 → ∃ c, c < 160 ∧ x10 = nI c)
    (hs1 : ∀ g, sp1 g = if g = f ∧ (¬ x9 = 0 ∧ bt g_bits 1 = true ∧ ym_G L sg x10.toNatClampNeg = false) then sp g + 1 else sp g)
    (h : ∀ mk spY, (∀ f, f < n → spY f = nI (ys_cut sp1 n B f)) → post (f_capacity, f_depth, f_complete, f_open, nI st, f_scope, f_state, g_bits, nI n, f_steps + 1, f_fresh, f_reused, ys_pk f_peak (lv + rc_sm (ys_cut sp1 n B) n), g_resultCell, g_resultNum, g_seen, a_starts, a_arities, a_masks, a_codes, a_extras, a_scopes, b_aOf, b_bOf, a_currents, spY, b_varCell, b_varNum, b_borrowed, b_tagOf, b_fieldCell, b_fieldNum, mk, b_digestOf)) :
    wY_step_559 post (nI f) 4 x9 x10 f_capacity f_depth f_complete f_open (nI st) f_scope f_state g_bits (nI n) f_steps f_fresh f_reused f_peak g_resultCell g_resultNum g_seen a_starts a_arities a_masks a_codes a_extras a_scopes b_aOf b_bOf a_currents b_spare b_varCell b_varNum b_borrowed b_tagOf b_fieldCell b_fieldNum b_marked b_digestOf := by
  refine ys_559m (G := ym_G L sg) (lv := lv) K.1.1 hf (by omega) hs31 hsp (fun Q ss sp' mk0 hQ => ?_) (fun h0 Q sp' mk hQ => ?_) h10 sp1 hs1 (fun mk spY _ hs => h mk spY hs)
  · exact yk_mark (f_steps := ss) (b_spare := sp') (b_marked := mk0) C K hb hst hQ
  · obtain ⟨b1, b2, b3, b4⟩ := hbd h0
    rw [(K.1.2 (n - 1) (by omega)).1]
    exact yw_builds b3 (by omega) hst b4 hQ
end
/-- the operands of a row -/
theorem ct_opr {ar mk sa kd ex lf rt sp us bo ln ot fr af bd aO bO : Nat → Int32} {sc : Nat → Nat} {bw : Nat → Int32} {cm b s : Nat} (C : ct_C ar mk sa kd ex lf rt sp us bo ln ot fr af bd aO bO sc bw cm b) (hs : s < b) :
    ∃ la ra, la < 12 ∧ ra < 12 ∧ ys_op (aO s) la ∧ ys_op (bO s) ra ∧ lf s = nI la ∧ rt s = nI ra ∧ (aO s ≠ -1 → la < sc s ∧ aO s = nI la ∧ bt (fr s) la = true) ∧ (bO s ≠ -1 → ra < sc s ∧ bO s = nI ra ∧ bt (fr s) ra = true) := by
  obtain ⟨-, w2, w3, w4, -⟩ := C.2.2.2.1 s hs
  have h12 := w2.2.2.1
  have hA : ∃ la, la < 12 ∧ ys_op (aO s) la ∧ lf s = nI la ∧ (aO s ≠ -1 → la < sc s ∧ aO s = nI la ∧ bt (fr s) la = true) := by
    rcases w3 with ⟨a1, a2⟩ | ⟨a, a1, a2, a3⟩
    · exact ⟨0, by omega, Or.inl ⟨a1, rfl⟩, a2, fun z => absurd a1 z⟩
    · exact ⟨a, by omega, Or.inr a2, a3, fun _ => ⟨a1, a2, ct_us C hs (by omega) (Or.inl a2)⟩⟩
  have hB : ∃ ra, ra < 12 ∧ ys_op (bO s) ra ∧ rt s = nI ra ∧ (bO s ≠ -1 → ra < sc s ∧ bO s = nI ra ∧ bt (fr s) ra = true) := by
    rcases w4 with ⟨a1, a2⟩ | ⟨a, a1, a2, a3⟩
    · exact ⟨0, by omega, Or.inl ⟨a1, rfl⟩, a2, fun z => absurd a1 z⟩
    · exact ⟨a, by omega, Or.inr a2, a3, fun _ => ⟨a1, a2, ct_us C hs (by omega) (Or.inr a2)⟩⟩
  obtain ⟨la, l1, l2, l3, l4⟩ := hA
  obtain ⟨ra, r1, r2, r3, r4⟩ := hB
  exact ⟨la, ra, l1, r1, l2, r2, l3, r3, l4, r4⟩
/-- operands alike -/
theorem rc_vr_opd {L : Nat → Bool} {sg : Nat → Nat} {v : Int64} {cl nm : Int32} {tg tY : Nat → Int32} (h : rc_vr L sg v cl nm) (hs : ∀ c, c < 160 → L c = true → sg c < 160 ∧ tY (sg c) = tg c) : ys_opd tY cl nm = xs_opd tg v := by
  unfold ys_opd xs_opd
  rcases h with ⟨h0, h1⟩ | ⟨h0, c, hc, hL, h1, h2⟩
  · rw [if_pos h0, h1, if_pos (rc_nv_lt nm), rc_nv_32]
  · obtain ⟨s1, s2⟩ := hs c hc hL
    rw [h0, if_neg (by decide), h1, if_neg (rc_cv_ge (by omega)), rc_cv_of (by omega), nI_clamp (by omega), h2, nI_clamp (by omega), s2]
end
section
/-! ===== steps within the last frame ===== -/
theorem rr_gain {bor : Int32} {fr bo : Nat → Int32} {sc : Nat → Nat} {s t i : Nat} (hi : i < 32) (hlt : bt (fr t) i = true → i < sc t) (hfr : ∀ v, v < sc s → bt (fr t) v = true → bt (fr s) v = true) (hbo : ∀ v, v < sc s → bt (bo t) v = bt (bo s) v)
    (h1 : bt (xg_m bor (fr t) (bo t)) i = true) (h2 : bt (xg_m bor (fr s) (bo s)) i = false) : sc s ≤ i ∧ i < sc t ∧ bt (fr t) i = true := by
  unfold xg_m at h1 h2
  by_cases hb : bor = 0
  · rw [if_pos hb] at h1 h2
    refine ⟨?_, hlt h1, h1⟩
    rcases Nat.lt_or_ge i (sc s) with z | z
    · rw [hfr i z h1] at h2; exact absurd h2 (by decide)
    · exact z
  · rw [if_neg hb, b_and, rc_not _ hi, Bool.and_eq_true] at h1
    rw [if_neg hb, b_and, rc_not _ hi] at h2
    refine ⟨?_, hlt h1.1, h1.1⟩
    rcases Nat.lt_or_ge i (sc s) with z | z
    · rw [hfr i z h1.1, ← hbo i z, h1.2] at h2; exact absurd h2 (by decide)
    · exact z
theorem rr_Yu {vc vn yb fc fn : Nat → Int32} {rc rn : Int32} {x : Nat} {p1 p2 p3 : Int32} (Y : rr_Y vc vn yb fc fn rc rn) (h1 : p1 = 0 ∨ p1 = 1) (h2 : ¬ p1 = 0 → ∃ c, c < 160 ∧ p2 = nI c) (h3 : p3 = 0 ∨ p3 = 1) :
    rr_Y (upd vc x p1) (upd vn x p2) (upd yb x p3) fc fn rc rn := by
  refine ⟨fun y hy => ?_, Y.2⟩
  by_cases e : y = x
  · rw [e, pk_us, pk_us, pk_us]; exact ⟨h1, h2, h3⟩
  · rw [pk_un e, pk_un e, pk_un e]; exact Y.1 y hy
theorem rr_lvle {kp : Int32} {L L' : Nat → Bool} {fx sy vs fx' sy' vs' : Nat → Int64} {H H' : Nat → Bool} {E E' : Nat → Nat} {lv lv' : Nat} (h : rr_L kp L fx sy vs H E lv) (h' : rr_L kp L' fx' sy' vs' H' E' lv') (hs : ∀ c, L' c = true → L c = true) : lv' ≤ lv := by
  rw [h.2.2.2.2.2.1, h'.2.2.2.2.2.1]
  refine rc_sm_mono 160 (fun c _ => ?_)
  by_cases z : L' c = true
  · rw [if_pos z, if_pos (hs c z)]; exact Nat.le_refl _
  · rw [if_neg z]; exact Nat.zero_le _
theorem rr_Pcut {kp cap spT : Int32} {sX sY sX' sY' : Nat → Int32} {sp : Nat → Nat} {n lv lv' cp B : Nat} (P : rr_P kp cap spT sX sY sp n lv cp) (hl : lv' ≤ lv)
    (hX : ∀ f, f < n → sX' f = nI (ys_cut sp n B f)) (hY : ∀ f, f < n → sY' f = nI (ys_cut sp n B f)) : rr_P kp cap (nI (rc_sm (ys_cut sp n B) n)) sX' sY' (ys_cut sp n B) n lv' cp := by
  obtain ⟨p1, p2, p3, p4, p5, p6, p7⟩ := P
  have hm : rc_sm (ys_cut sp n B) n ≤ rc_sm sp n := rc_sm_mono n (fun f _ => ys_cut_le)
  exact ⟨fun f hf => ⟨hX f hf, hY f hf⟩, rfl, fun hk => by have := p3 hk; omega, fun hk f hf => by have := p4 hk f hf; have := ys_cut_le (sp := sp) (n := n) (B := B) (f := f); omega, p5, p6, p7⟩
theorem rr_spb {kp cap spT : Int32} {sX sY : Nat → Int32} {sp : Nat → Nat} {n lv cp : Nat} (P : rr_P kp cap spT sX sY sp n lv cp) : (∀ f, f < n → sp f ≤ 64) ∧ (rc_sm sp n ≤ 64) := by
  obtain ⟨p1, p2, p3, p4, p5, p6, p7⟩ := P
  by_cases hk : kp = 0
  · have := p3 hk
    refine ⟨fun f hf => ?_, by omega⟩
    have := rc_sm_ge (f := sp) n hf; omega
  · refine ⟨fun f hf => by have := p4 hk f hf; omega, ?_⟩
    rw [rc_sm_0 n (fun f hf => p4 hk f hf)]; omega
section
variable {f_codeNum f_codeOp f_codeCon f_codeCall f_codeMatch f_codeIfZero f_codeRet : Int32} {f_cellBase f_unseen : Int64} {f_capacity f_depth f_complete f_open f_stored f_scope f_borrowedNow f_pending f_liveCells f_frames f_spareTotal f_state f_borrowing f_reusing f_keeping : Int32} {f_result : Int64} {f_steps f_fresh f_reused f_peak : Int32} {a_arities a_masks a_starts a_codes a_extras a_lefts a_rights a_scopes a_uses a_borrowed a_lends a_others a_frees a_afters a_builds a_pendingAt a_tags : Nat → Int32} {a_firsts a_seconds : Nat → Int64} {a_digests a_counts a_places a_work a_marks : Nat → Int32} {a_variables : Nat → Int64} {a_currents a_held a_spareCounts : Nat → Int32} {g_bits g_resultCell g_resultNum g_seen : Int32} {b_aOf b_bOf b_spare b_varCell b_varNum b_borrowed b_tagOf b_fieldCell b_fieldNum b_marked b_digestOf : Nat → Int32}
variable {sc cu sg rk sp : Nat → Nat} {bw : Nat → Int32} {L : Nat → Bool} {cm b n lv st cp dp : Nat}
theorem rk_stay {f s t : Nat} {L' : Nat → Bool} {vs' : Nat → Int64} {vc' vn' yb' cnt' pl' wk' : Nat → Int32} {lv' : Nat} (C : ct_C a_arities a_masks a_starts a_codes a_extras a_lefts a_rights a_scopes a_uses a_borrowed a_lends a_others a_frees a_afters a_builds b_aOf b_bOf sc bw cm b) (K : rr_K f_state f_borrowing f_reusing f_keeping f_result f_fresh a_codes a_borrowed a_lends a_frees a_afters a_tags a_firsts a_seconds a_digests a_counts a_places a_work a_variables a_currents a_held g_bits g_resultCell g_resultNum b_varCell b_varNum b_borrowed b_tagOf b_fieldCell b_fieldNum sc cu sg rk L b n lv) (h1 : f_state = 1) (hn : n = f + 1)
    (es : cu f = s) (ht : t < b) (hst : sc s ≤ sc t) (hst2 : sc t ≤ 12) (hfr : ∀ v, v < sc s → bt (a_frees t) v = true → bt (a_frees s) v = true) (hbo : ∀ v, v < sc s → bt (a_borrowed t) v = bt (a_borrowed s) v)
    (hlow : ∀ x, x < f * 12 + sc s → vs' x = a_variables x ∧ vc' x = b_varCell x ∧ vn' x = b_varNum x ∧ yb' x = b_borrowed x)
    (hnew : ∀ v, sc s ≤ v → v < sc t → bt (a_frees t) v = true → rc_vr L sg (vs' (f * 12 + v)) (vc' (f * 12 + v)) (vn' (f * 12 + v)))
    (hnb : ∀ v, sc s ≤ v → v < sc t → yb' (f * 12 + v) = rc_b (!decide (f_borrowing = 0) && bt (a_borrowed t) v))
    (hnq : ¬ f_borrowing = 0 → ∀ v c, sc s ≤ v → v < sc t → c < 160 → bt (a_frees t) v = true → bt (a_borrowed t) v = true → vs' (f * 12 + v) = rc_cv c → rc_rch a_firsts a_seconds (fun q => ∃ x, x < f * 12 ∧ bt (a_held (x / 12)) (x % 12) = true ∧ a_variables x = rc_cv q) c)
    (Y' : rr_Y vc' vn' yb' b_fieldCell b_fieldNum g_resultCell g_resultNum)
    (hs : ∀ c, L' c = true → L c = true) (hk : ¬ f_keeping = 0 → L' = L ∧ lv' = lv)
    (S' : hx_S f_keeping L' a_firsts a_seconds vs' (hp_h (xr_H n a_held) (f * 12) (xg_m f_borrowing (a_frees t) (a_borrowed t))) (xr_E f_state f_result) cnt' pl' lv' wk') :
    lv' ≤ lv ∧ rr_K f_state f_borrowing f_reusing f_keeping f_result f_fresh a_codes a_borrowed a_lends a_frees a_afters a_tags a_firsts a_seconds a_digests cnt' pl' wk' vs' (upd a_currents f (nI t)) (upd a_held f (xg_m f_borrowing (a_frees t) (a_borrowed t))) g_bits g_resultCell g_resultNum vc' vn' yb' b_tagOf b_fieldCell b_fieldNum sc (fun g => if g = f then t else cu g) sg rk L' b n lv' := by
  obtain ⟨F, V, B, Q, I, Y, M, Lv, S, SS⟩ := K
  have S2 := hx_vs (H' := xr_H n (upd a_held f (xg_m f_borrowing (a_frees t) (a_borrowed t)))) (fun x _ => (xh_row (by omega) x).symm) (fun _ _ _ => rfl) S'
  have Lv' := rr_LS S2
  have hn20 := F.1
  have hr : ¬ f_borrowing = 0 → (∀ x q, x < f * 12 → q < 160 → bt (a_held (x / 12)) (x % 12) = true → a_variables x = rc_cv q → L q = true) ∧ ∀ d q, d < 160 → q < 160 → L d = true → (a_firsts d = rc_cv q ∨ a_seconds d = rc_cv q) → L q = true := fun hb => by
    refine ⟨fun x q hx hq hh e => ?_, fun d q hd hq hL hch => Lv.2.2.1 d q hd hq hL hch⟩
    have hkp : f_keeping = 0 := by
      by_cases z : f_keeping = 0
      · exact z
      · exact absurd (M.2.2.2.2.2.2 z).1 hb
    refine Lv.1 hkp x q (by omega) hq ?_ e
    unfold xr_H
    rw [decide_eq_true (show x < n * 12 by omega), hh]; rfl
  obtain ⟨F', V1, B', Q'⟩ := rr_stay (L1 := L) (sg' := sg) (fx' := a_firsts) (sy' := a_seconds) C hn F V B Q hr es ht hst hst2 hfr hbo hlow (fun c _ h => ⟨h, rfl⟩) (fun _ _ _ => ⟨rfl, rfl⟩) hnew hnb hnq
  refine ⟨rr_lvle Lv Lv' hs, F', ?_, B', Q', rr_Im I hs Lv', Y', M, Lv', fun _ => S2, SS.1, SS.2.1, SS.2.2.1, fun z => ?_, fun z => ?_⟩
  · exact rr_live F' Q' Lv' (fun z c _ hc => by rw [(hk z).1]; exact hc) V1
  · rw [h1] at z; exact absurd z (by decide)
  · rw [(hk z).2]; exact SS.2.2.2.2 z
end
end
section
section
variable {f_codeNum f_codeOp f_codeCon f_codeCall f_codeMatch f_codeIfZero f_codeRet : Int32} {f_cellBase f_unseen : Int64} {f_capacity f_depth f_complete f_open f_stored f_scope f_borrowedNow f_pending f_liveCells f_frames f_spareTotal f_state f_borrowing f_reusing f_keeping : Int32} {f_result : Int64} {f_steps f_fresh f_reused f_peak : Int32} {a_arities a_masks a_starts a_codes a_extras a_lefts a_rights a_scopes a_uses a_borrowed a_lends a_others a_frees a_afters a_builds a_pendingAt a_tags : Nat → Int32} {a_firsts a_seconds : Nat → Int64} {a_digests a_counts a_places a_work a_marks : Nat → Int32} {a_variables : Nat → Int64} {a_currents a_held a_spareCounts : Nat → Int32} {g_bits g_resultCell g_resultNum g_seen : Int32} {b_aOf b_bOf b_spare b_varCell b_varNum b_borrowed b_tagOf b_fieldCell b_fieldNum b_marked b_digestOf : Nat → Int32}
variable {sc cu sg rk sp : Nat → Nat} {bw : Nat → Int32} {L : Nat → Bool} {cm b n lv st cp dp : Nat}
theorem st_num {PX : SX → Prop} {f : Nat} (C : ct_C a_arities a_masks a_starts a_codes a_extras a_lefts a_rights a_scopes a_uses a_borrowed a_lends a_others a_frees a_afters a_builds b_aOf b_bOf sc bw cm b) (R : rr_R f_capacity f_depth f_liveCells f_frames f_spareTotal a_spareCounts b_spare f_state f_borrowing f_reusing f_keeping f_result f_fresh a_codes a_borrowed a_lends a_frees a_afters a_tags a_firsts a_seconds a_digests a_counts a_places a_work a_variables a_currents a_held g_bits g_resultCell g_resultNum b_varCell b_varNum b_borrowed b_tagOf b_fieldCell b_fieldNum sc cu sg rk sp L b n lv cp dp) (hb : b ≤ st) (hst : st ≤ 96) (hS : f_stored = nI st) (h1 : f_state = 1) (hn : n = f + 1)
    (hk : a_codes (cu f) = 0 ∨ a_codes (cu f) = 1) (hp : ∀ (n_lc n_fr n_st n_ss : Int32) (n_rs : Int64) (n_sp n_fe n_re n_pk : Int32) (n_tg : Nat → Int32) (n_fx n_sy : Nat → Int64) (n_dg n_cn n_pl n_wk : Nat → Int32) (n_vs : Nat → Int64) (n_cr n_hd n_sc : Nat → Int32) (m_rc m_rn : Int32) (m_vc m_vn m_yb m_tY m_fc m_fn : Nat → Int32) (cu' sg' rk' sp' : Nat → Nat) (L' : Nat → Bool) (n' lv' : Nat), rr_R f_capacity f_depth n_lc n_fr n_st n_sc (fun g => nI (sp' g)) n_ss f_borrowing f_reusing f_keeping n_rs n_fe a_codes a_borrowed a_lends a_frees a_afters n_tg n_fx n_sy n_dg n_cn n_pl n_wk n_vs n_cr n_hd g_bits m_rc m_rn m_vc m_vn m_yb m_tY m_fc m_fn sc cu' sg' rk' sp' L' b n' lv' cp dp → (∀ Yp : SY → Prop, (∀ mk spY, (∀ g, g < n' → spY g = nI (sp' g)) → Yp (f_capacity, f_depth, f_complete, f_open, f_stored, f_scope, n_ss, g_bits, n_fr, n_sp, n_fe, n_re, n_pk, m_rc, m_rn, g_seen, a_starts, a_arities, a_masks, a_codes, a_extras, a_scopes, b_aOf, b_bOf, n_cr, spY, m_vc, m_vn, m_yb, m_tY, m_fc, m_fn, mk, b_digestOf)) → ∀ mk0 spY0, (∀ g, g < n → spY0 g = nI (sp g)) → wpY_step Yp (f_capacity, f_depth, f_complete, f_open, f_stored, f_scope, f_state, g_bits, f_frames, f_steps, f_fresh, f_reused, f_peak, g_resultCell, g_resultNum, g_seen, a_starts, a_arities, a_masks, a_codes, a_extras, a_scopes, b_aOf, b_bOf, a_currents, spY0, b_varCell, b_varNum, b_borrowed, b_tagOf, b_fieldCell, b_fieldNum, mk0, b_digestOf)) → PX (f_codeNum, f_codeOp, f_codeCon, f_codeCall, f_codeMatch, f_codeIfZero, f_codeRet, f_cellBase, f_unseen, f_capacity, f_depth, f_complete, f_open, f_stored, f_scope, f_borrowedNow, f_pending, n_lc, n_fr, n_st, n_ss, f_borrowing, f_reusing, f_keeping, n_rs, n_sp, n_fe, n_re, n_pk, a_arities, a_masks, a_starts, a_codes, a_extras, a_lefts, a_rights, a_scopes, a_uses, a_borrowed, a_lends, a_others, a_frees, a_afters, a_builds, a_pendingAt, n_tg, n_fx, n_sy, n_dg, n_cn, n_pl, n_wk, a_marks, n_vs, n_cr, n_hd, n_sc)) : wpX_step PX (f_codeNum, f_codeOp, f_codeCon, f_codeCall, f_codeMatch, f_codeIfZero, f_codeRet, f_cellBase, f_unseen, f_capacity, f_depth, f_complete, f_open, f_stored, f_scope, f_borrowedNow, f_pending, f_liveCells, f_frames, f_spareTotal, f_state, f_borrowing, f_reusing, f_keeping, f_result, f_steps, f_fresh, f_reused, f_peak, a_arities, a_masks, a_starts, a_codes, a_extras, a_lefts, a_rights, a_scopes, a_uses, a_borrowed, a_lends, a_others, a_frees, a_afters, a_builds, a_pendingAt, a_tags, a_firsts, a_seconds, a_digests, a_counts, a_places, a_work, a_marks, a_variables, a_currents, a_held, a_spareCounts) := by
  obtain ⟨⟨r1, r2, r3, r4⟩, r5, r6, P, K⟩ := R
  have K0 := K
  obtain ⟨F, V, B, Q, I, Y, M, Lv, S, SS⟩ := K
  obtain ⟨f1, f2, f3, f4⟩ := F.2 f (by omega)
  obtain ⟨s, es⟩ : ∃ s, cu f = s := ⟨_, rfl⟩
  rw [es] at f1 f2 hk
  have hS1 := S (by rw [h1]; decide)
  have hspb := rr_spb P
  subst r5 r6 hS h1 r1
  have hb96 := C.1
  have hn20 := F.1
  have hk4 : a_codes s = 0 ∨ a_codes s = 1 ∨ a_codes s = 2 ∨ a_codes s = 3 := by
    rcases hk with z | z
    · exact Or.inl z
    · exact Or.inr (Or.inl z)
  obtain ⟨e, he, T, T1, hs1⟩ := ct_nx C f2 hk4
  obtain ⟨-, w2, -, -, -, w6, w7, -, w9, -⟩ := C.2.2.2.1 s f2
  obtain ⟨g1, g2, g3⟩ := w9 hk4
  have w2' := (C.2.2.2.1 (s + 1) hs1).2.1
  have hA := ((C.2.2.2.2.1 s f2).2.2.2 hk4).1
  obtain ⟨la, ra, hla, hra, oa, ob, ela, era, va, vb⟩ := ct_opr C f2
  have need : rr_need a_frees a_afters cu n f = a_frees s := by unfold rr_need; rw [if_pos hn.symm, es]
  have hfr : ∀ v, v < sc s → bt (a_frees (s + 1)) v = true → bt (a_frees s) v = true := fun v hv h => by
    refine ct_af C f2 (by have := w2.2.2.1; omega) ?_
    rw [hA v (by have := w2.2.2.1; omega), h, decide_eq_false (show ¬ v = sc s by omega)]; rfl
  have hbo : ∀ v, v < sc s → bt (a_borrowed (s + 1)) v = bt (a_borrowed s) v := fun v hv => by rw [w2'.2.1, w2.2.1, g3]
  have hlt : ∀ v, v < 32 → bt (a_frees (s + 1)) v = true → v < sc (s + 1) := fun v hv h => ((ct_F C he T1 hv).mp h).1
  have hv : ∀ a, a < 12 → bt (a_frees s) a = true → rc_vr L sg (a_variables (f * 12 + a)) (b_varCell (f * 12 + a)) (b_varNum (f * 12 + a)) := fun a ha h => V f a (by omega) ha (by rw [need, h]; rfl)
  have hE : ∀ c, c < 160 → xr_E 1 f_result c ≤ 20 := fun c _ => by unfold xr_E; rw [if_neg (by decide)]; omega
  have hbs : bt (a_borrowed s) (sc s) = false := by
    cases q : bt (a_borrowed s) (sc s)
    · rfl
    · rw [w2.2.1] at q
      have := w2.2.2.2 (sc s) (by have := w2.2.2.1; omega) q; omega
  have hheld : a_held f = xg_m f_borrowing (a_frees s) (a_borrowed s) := by rw [f4]; unfold rr_hold; rw [if_pos hn.symm, es]
  have hHd : bt (a_held f) (sc s) = false := by
    rw [hheld]
    have : bt (a_frees s) (sc s) = false := by
      cases q : bt (a_frees s) (sc s)
      · rfl
      · have := ((ct_F C he T (by have := w2.2.2.1; omega)).mp q).1; omega
    unfold xg_m
    split
    · exact this
    · rw [b_and, this]; rfl
  have nk : ∀ k : Int32, k ≠ 0 → k ≠ 1 → ¬ a_codes s = k := fun k h0 h1 z => by
    rcases hk with y | y
    · exact h0 (by rw [← z, y])
    · exact h1 (by rw [← z, y])
  have hgop : a_codes s = 1 → rc_vr L sg (a_variables (f * 12 + la)) (b_varCell (f * 12 + la)) (b_varNum (f * 12 + la)) ∧ rc_vr L sg (a_variables (f * 12 + ra)) (b_varCell (f * 12 + ra)) (b_varNum (f * 12 + ra)) := fun z => by
    have n0 : a_codes s ≠ 0 := by rw [z]; decide
    have n3 : a_codes s ≠ 3 := by rw [z]; decide
    exact ⟨hv la hla (va (w6 n0 n3)).2.2, hv ra hra (vb (w7 (Or.inl z))).2.2⟩
  generalize hvs : vp_updL a_variables (f * 12 + sc s) (xs_nv a_codes a_extras a_lefts a_rights a_tags a_variables (f * 12) s).toInt64 = vs'
  have hlow : ∀ x, x < f * 12 + sc s → vs' x = a_variables x := fun x hx => by rw [← hvs]; exact pk_uLn (by omega)
  have hvd : vs' (f * 12 + sc s) = (xs_nv a_codes a_extras a_lefts a_rights a_tags a_variables (f * 12) s).toInt64 := by rw [← hvs]; exact pk_uLs
  refine nm_r (e' := nI f) (by rw [hn]; exact nI_pred f) ⟨vp_in_nI (by omega) (by omega), ?_⟩
  rw [nI_clamp (show f < 2 ^ 31 by omega)]
  refine nm_r f1 ⟨vp_in_nI (by omega) (by omega), ?_⟩
  rw [nI_clamp (show s < 2 ^ 31 by omega)]
  refine nm_e (br_f (nk 2 (by decide) (by decide)) (br_f (nk 3 (by decide) (by decide)) (br_f (nk 4 (by decide) (by decide)) (br_f (nk 5 (by decide) (by decide)) (br_f (nk 6 (by decide) (by decide)) ?_)))))
  refine xs_number (d := sc s) (H := xr_H n a_held) (E := xr_E 1 f_result) (L := L) (vs' := vs') (by omega) (by omega) w2.1 (by omega) (fun z => ⟨la, ra, hla, hra, ela, era, (rc_vr_g (hgop z).1).1, (rc_vr_g (hgop z).2).1⟩) hvs.symm hE (fun i hi => xr_Hx (by omega) hi) (fun i hi q1 q2 => ?_) (hx_vs (fun _ _ => rfl) (fun x hx hH => ?_) hS1) (fun L' cnt' pl' lv' wk' hs hk' S' => ?_)
  · rw [hheld] at q2
    have := rr_gain (sc := sc) (by omega) (hlt i (by omega)) hfr hbo q1 q2
    have ei : i = sc s := by omega
    rw [ei, hvd]
    exact ⟨Or.inl (rc_nv_lt _), fun c hc z => absurd z (rc_nv_cv (by omega))⟩
  · rw [← hvs]
    refine pk_uLn (fun z => ?_)
    rw [z, xr_Hx (by omega) (by have := w2.2.2.1; omega), hHd] at hH
    exact absurd hH (by decide)
  · -- the value on Y's side
    obtain ⟨nv, env⟩ : ∃ nv, nv = xs_nv a_codes a_extras a_lefts a_rights a_tags a_variables (f * 12) s := ⟨_, rfl⟩
    rw [← env] at hvd
    have Y' := rr_Yu (x := f * 12 + sc s) (p1 := 0) (p2 := nv) (p3 := 0) Y (Or.inl rfl) (fun z => absurd rfl z) (Or.inl rfl)
    obtain ⟨hl, K'⟩ := rk_stay (t := s + 1) (L' := L') (vs' := vs') (vc' := upd b_varCell (f * 12 + sc s) 0) (vn' := upd b_varNum (f * 12 + sc s) nv) (yb' := upd b_borrowed (f * 12 + sc s) 0) (cnt' := cnt') (pl' := pl') (wk' := wk') (lv' := lv') C K0 rfl hn es hs1 (by omega) g2 hfr hbo
      (fun x hx => ⟨hlow x hx, pk_un (by omega), pk_un (by omega), pk_un (by omega)⟩)
      (fun v q1 q2 q3 => by
        have ev : v = sc s := by omega
        rw [ev, hvd, pk_us, pk_us]; exact Or.inl ⟨rfl, rfl⟩)
      (fun v q1 q2 => by
        have ev : v = sc s := by omega
        rw [ev, pk_us, w2'.2.1, g3, ← w2.2.1, hbs, Bool.and_false]; rfl)
      (fun _ v c q1 q2 q3 q4 q5 q6 => by
        have ev : v = sc s := by omega
        rw [ev, hvd] at q6
        exact absurd q6 (rc_nv_cv (by omega))) Y' hs hk' S'
    obtain ⟨Bd, e2, hBd, ebd, he2, TB, hTB⟩ := yk_bd C K' (by omega)
    obtain ⟨p1, p2, p3, p4, p5, p6, p7⟩ := P
    have hcu' : (if n - 1 = f then s + 1 else cu (n - 1)) = s + 1 := if_pos (by omega)
    rw [hcu'] at ebd TB hTB
    unfold wX_step_105
    refine br_f (by decide) ?_
    rw [p2]
    refine xs_finish (n := n) (s := s + 1) (B := Bd) (sp := sp) hn20 (fun _ => ⟨by rw [show n - 1 = f by omega, pk_us], by omega, ebd⟩) (by omega) (fun g hg => (p1 g hg).1) (fun g hg => by have := hspb.1 g hg; omega) rfl (fun sX hX => ?_)
    refine hp _ _ _ _ _ _ _ _ _ _ _ _ _ _ _ _ _ _ _ _ _ _ _ _ _ _ _ _ _ _ _ (ys_cut sp n Bd) _ _ _ ⟨⟨rfl, r2, r3, r4⟩, rfl, rfl, rr_Pcut ⟨p1, p2, p3, p4, p5, p6, p7⟩ hl hX (fun g _ => rfl), K'⟩ (fun Yp hY mk0 spY0 hs0 => ?_)
    have fin : ∀ x9 x10, wY_step_559 Yp (nI f) (a_codes s) x9 x10 f_capacity (nI dp) f_complete f_open (nI st) f_scope 1 g_bits (nI n) f_steps f_fresh f_reused f_peak g_resultCell g_resultNum g_seen a_starts a_arities a_masks a_codes a_extras a_scopes b_aOf b_bOf (upd a_currents f (nI (s + 1))) spY0 (upd b_varCell (f * 12 + sc s) 0) (upd b_varNum (f * 12 + sc s) nv) (upd b_borrowed (f * 12 + sc s) 0) b_tagOf b_fieldCell b_fieldNum mk0 b_digestOf := by
      intro x9 x10
      exact yk_559 (B := Bd) (e := e2) (sp := sp) C K' hb hst (nk 4 (by decide) (by decide)) hBd (fun _ => by (try dsimp only); rw [hcu']; exact ⟨ebd, he2, TB, hTB⟩) (fun g hg => by have := hspb.1 g hg; omega) hs0 hY
    refine ys_head (k := a_codes s) (d := sc s) (la := la) (ra := ra) hn hn20 (by omega) f1 rfl w2.1 (by omega) hla hra oa ob (fun _ => ?_) (fun z => absurd z (nk 5 (by decide) (by decide)))
    rcases hk with z | z
    · rw [z] at fin ⊢
      have e0 : nv = a_extras s := by rw [env]; unfold xs_nv; rw [if_neg (by rw [z]; decide)]
      rw [e0] at fin
      exact ys_num (by omega) (by omega) (fin _ _)
    · have hg := hgop z
      rw [z] at fin ⊢
      have e0 : nv = xs_cmp (a_extras s) (ys_opd b_tagOf (b_varCell (f * 12 + la)) (b_varNum (f * 12 + la))) (ys_opd b_tagOf (b_varCell (f * 12 + ra)) (b_varNum (f * 12 + ra))) := by
        rw [env]; unfold xs_nv
        rw [if_pos z, ela, era, nI_clamp (by omega), nI_clamp (by omega), rc_vr_opd hg.1 (fun c hc hL => ⟨(I.1 c hc hL).1, (I.1 c hc hL).2.1⟩), rc_vr_opd hg.2 (fun c hc hL => ⟨(I.1 c hc hL).1, (I.1 c hc hL).2.1⟩)]
      rw [e0] at fin
      exact ys_opn (by omega) (by omega) (fun q => (Y.1 (f * 12 + la) (by omega)).2.1 q) (fun q => (Y.1 (f * 12 + ra) (by omega)).2.1 q) (fin _ _)
end
end
section
section
variable {f_codeNum f_codeOp f_codeCon f_codeCall f_codeMatch f_codeIfZero f_codeRet : Int32} {f_cellBase f_unseen : Int64} {f_capacity f_depth f_complete f_open f_stored f_scope f_borrowedNow f_pending f_liveCells f_frames f_spareTotal f_state f_borrowing f_reusing f_keeping : Int32} {f_result : Int64} {f_steps f_fresh f_reused f_peak : Int32} {a_arities a_masks a_starts a_codes a_extras a_lefts a_rights a_scopes a_uses a_borrowed a_lends a_others a_frees a_afters a_builds a_pendingAt a_tags : Nat → Int32} {a_firsts a_seconds : Nat → Int64} {a_digests a_counts a_places a_work a_marks : Nat → Int32} {a_variables : Nat → Int64} {a_currents a_held a_spareCounts : Nat → Int32} {g_bits g_resultCell g_resultNum g_seen : Int32} {b_aOf b_bOf b_spare b_varCell b_varNum b_borrowed b_tagOf b_fieldCell b_fieldNum b_marked b_digestOf : Nat → Int32}
variable {sc cu sg rk sp : Nat → Nat} {bw : Nat → Int32} {L : Nat → Bool} {cm b n lv st cp dp : Nat}
theorem st_ifz {PX : SX → Prop} {f : Nat} (C : ct_C a_arities a_masks a_starts a_codes a_extras a_lefts a_rights a_scopes a_uses a_borrowed a_lends a_others a_frees a_afters a_builds b_aOf b_bOf sc bw cm b) (R : rr_R f_capacity f_depth f_liveCells f_frames f_spareTotal a_spareCounts b_spare f_state f_borrowing f_reusing f_keeping f_result f_fresh a_codes a_borrowed a_lends a_frees a_afters a_tags a_firsts a_seconds a_digests a_counts a_places a_work a_variables a_currents a_held g_bits g_resultCell g_resultNum b_varCell b_varNum b_borrowed b_tagOf b_fieldCell b_fieldNum sc cu sg rk sp L b n lv cp dp) (hb : b ≤ st) (hst : st ≤ 96) (hS : f_stored = nI st) (h1 : f_state = 1) (hn : n = f + 1)
    (hk : a_codes (cu f) = 5) (hp : ∀ (n_lc n_fr n_st n_ss : Int32) (n_rs : Int64) (n_sp n_fe n_re n_pk : Int32) (n_tg : Nat → Int32) (n_fx n_sy : Nat → Int64) (n_dg n_cn n_pl n_wk : Nat → Int32) (n_vs : Nat → Int64) (n_cr n_hd n_sc : Nat → Int32) (m_rc m_rn : Int32) (m_vc m_vn m_yb m_tY m_fc m_fn : Nat → Int32) (cu' sg' rk' sp' : Nat → Nat) (L' : Nat → Bool) (n' lv' : Nat), rr_R f_capacity f_depth n_lc n_fr n_st n_sc (fun g => nI (sp' g)) n_ss f_borrowing f_reusing f_keeping n_rs n_fe a_codes a_borrowed a_lends a_frees a_afters n_tg n_fx n_sy n_dg n_cn n_pl n_wk n_vs n_cr n_hd g_bits m_rc m_rn m_vc m_vn m_yb m_tY m_fc m_fn sc cu' sg' rk' sp' L' b n' lv' cp dp → (∀ Yp : SY → Prop, (∀ mk spY, (∀ g, g < n' → spY g = nI (sp' g)) → Yp (f_capacity, f_depth, f_complete, f_open, f_stored, f_scope, n_ss, g_bits, n_fr, n_sp, n_fe, n_re, n_pk, m_rc, m_rn, g_seen, a_starts, a_arities, a_masks, a_codes, a_extras, a_scopes, b_aOf, b_bOf, n_cr, spY, m_vc, m_vn, m_yb, m_tY, m_fc, m_fn, mk, b_digestOf)) → ∀ mk0 spY0, (∀ g, g < n → spY0 g = nI (sp g)) → wpY_step Yp (f_capacity, f_depth, f_complete, f_open, f_stored, f_scope, f_state, g_bits, f_frames, f_steps, f_fresh, f_reused, f_peak, g_resultCell, g_resultNum, g_seen, a_starts, a_arities, a_masks, a_codes, a_extras, a_scopes, b_aOf, b_bOf, a_currents, spY0, b_varCell, b_varNum, b_borrowed, b_tagOf, b_fieldCell, b_fieldNum, mk0, b_digestOf)) → PX (f_codeNum, f_codeOp, f_codeCon, f_codeCall, f_codeMatch, f_codeIfZero, f_codeRet, f_cellBase, f_unseen, f_capacity, f_depth, f_complete, f_open, f_stored, f_scope, f_borrowedNow, f_pending, n_lc, n_fr, n_st, n_ss, f_borrowing, f_reusing, f_keeping, n_rs, n_sp, n_fe, n_re, n_pk, a_arities, a_masks, a_starts, a_codes, a_extras, a_lefts, a_rights, a_scopes, a_uses, a_borrowed, a_lends, a_others, a_frees, a_afters, a_builds, a_pendingAt, n_tg, n_fx, n_sy, n_dg, n_cn, n_pl, n_wk, a_marks, n_vs, n_cr, n_hd, n_sc)) : wpX_step PX (f_codeNum, f_codeOp, f_codeCon, f_codeCall, f_codeMatch, f_codeIfZero, f_codeRet, f_cellBase, f_unseen, f_capacity, f_depth, f_complete, f_open, f_stored, f_scope, f_borrowedNow, f_pending, f_liveCells, f_frames, f_spareTotal, f_state, f_borrowing, f_reusing, f_keeping, f_result, f_steps, f_fresh, f_reused, f_peak, a_arities, a_masks, a_starts, a_codes, a_extras, a_lefts, a_rights, a_scopes, a_uses, a_borrowed, a_lends, a_others, a_frees, a_afters, a_builds, a_pendingAt, a_tags, a_firsts, a_seconds, a_digests, a_counts, a_places, a_work, a_marks, a_variables, a_currents, a_held, a_spareCounts) := by
  obtain ⟨⟨r1, r2, r3, r4⟩, r5, r6, P, K⟩ := R
  have K0 := K
  obtain ⟨F, V, B, Q, I, Y, M, Lv, S, SS⟩ := K
  obtain ⟨f1, f2, f3, f4⟩ := F.2 f (by omega)
  obtain ⟨s, es⟩ : ∃ s, cu f = s := ⟨_, rfl⟩
  rw [es] at f1 f2 hk
  have hS1 := S (by rw [h1]; decide)
  have hspb := rr_spb P
  subst r5 r6 hS h1 r1
  have hb96 := C.1
  have hn20 := F.1
  obtain ⟨e, m, he, hm, T, T1, T2, hs1, eot, esm, ebm⟩ := ct_br C f2 (Or.inr hk)
  obtain ⟨-, w2, -, -, -, w6, w7, -, -, -, w11, -⟩ := C.2.2.2.1 s f2
  obtain ⟨g1, g3⟩ := w11 hk
  have w2' := (C.2.2.2.1 (s + 1) hs1).2.1
  have w2m := (C.2.2.2.1 m hm).2.1
  have hA := ((C.2.2.2.2.1 s f2).2.2.1 (Or.inr hk) m T1).1
  obtain ⟨la, ra, hla, hra, oa, ob, ela, era, va, vb⟩ := ct_opr C f2
  have need : rr_need a_frees a_afters cu n f = a_frees s := by unfold rr_need; rw [if_pos hn.symm, es]
  have h12 := w2.2.2.1
  have n0 : a_codes s ≠ 0 := by rw [hk]; decide
  have n3 : a_codes s ≠ 3 := by rw [hk]; decide
  have vr := V f la (by omega) hla (by rw [need, (va (w6 n0 n3)).2.2]; rfl)
  obtain ⟨t, et⟩ : ∃ t, t = if a_variables (f * 12 + la) = 0 then s + 1 else m := ⟨_, rfl⟩
  have ht : t < b ∧ sc t = sc s ∧ bw t = bw s := by
    rw [et]; split
    · exact ⟨hs1, g1, g3⟩
    · exact ⟨hm, esm, ebm⟩
  obtain ⟨ht1, ht2, ht3⟩ := ht
  have w2t := (C.2.2.2.1 t ht1).2.1
  have hfr : ∀ v, v < sc s → bt (a_frees t) v = true → bt (a_frees s) v = true := fun v hv h => by
    refine ct_af C f2 (by omega) ?_
    rw [hA v (by omega), decide_eq_false (show ¬ a_codes s = 4 by rw [hk]; decide)]
    rw [et] at h
    split at h
    · rw [h]; rfl
    · rw [h, Bool.or_true]
  have hbo : ∀ v, v < sc s → bt (a_borrowed t) v = bt (a_borrowed s) v := fun v hv => by rw [w2t.2.1, w2.2.1, ht3]
  obtain ⟨et2, het2, Tt⟩ := C.2.2.1 t ht1
  have hlt : ∀ v, v < 32 → bt (a_frees t) v = true → v < sc t := fun v hv h => ((ct_F C het2 Tt hv).mp h).1
  have hE : ∀ c, c < 160 → xr_E 1 f_result c ≤ 20 := fun c _ => by unfold xr_E; rw [if_neg (by decide)]; omega
  have hheld : a_held f = xg_m f_borrowing (a_frees s) (a_borrowed s) := by rw [f4]; unfold rr_hold; rw [if_pos hn.symm, es]
  refine nm_r (e' := nI f) (by rw [hn]; exact nI_pred f) ⟨vp_in_nI (by omega) (by omega), ?_⟩
  rw [nI_clamp (show f < 2 ^ 31 by omega)]
  refine nm_r f1 ⟨vp_in_nI (by omega) (by omega), ?_⟩
  rw [nI_clamp (show s < 2 ^ 31 by omega)]
  refine nm_r hk (br_f (by decide) (br_f (by decide) (br_f (by decide) (br_t rfl ?_))))
  refine xs_ifz (la := la) (m := m) (t := t) (H := xr_H n a_held) (E := xr_E 1 f_result) (L := L) (by omega) (by omega) (by omega) hla ela eot et hE (fun i hi => xr_Hx (by omega) hi) (fun i hi q1 q2 => ?_) hS1 (fun L' cnt' pl' lv' wk' hs hk' S' => ?_)
  · rw [hheld] at q2
    have := rr_gain (sc := sc) (by omega) (hlt i (by omega)) hfr hbo q1 q2
    omega
  · obtain ⟨hl, K'⟩ := rk_stay (t := t) (L' := L') (vs' := a_variables) (vc' := b_varCell) (vn' := b_varNum) (yb' := b_borrowed) (cnt' := cnt') (pl' := pl') (wk' := wk') (lv' := lv') C K0 rfl hn es ht1 (by omega) (by omega) hfr hbo
      (fun x hx => ⟨rfl, rfl, rfl, rfl⟩) (fun v q1 q2 q3 => by omega) (fun v q1 q2 => by omega) (fun _ v c q1 q2 => by omega) Y hs hk' S'
    obtain ⟨Bd, e2, hBd, ebd, he2, TB, hTB⟩ := yk_bd C K' (by omega)
    obtain ⟨p1, p2, p3, p4, p5, p6, p7⟩ := P
    have hcu' : (if n - 1 = f then t else cu (n - 1)) = t := if_pos (by omega)
    rw [hcu'] at ebd TB hTB
    unfold wX_step_105
    refine br_f (by decide) ?_
    rw [p2]
    refine xs_finish (n := n) (s := t) (B := Bd) (sp := sp) hn20 (fun _ => ⟨by rw [show n - 1 = f by omega, pk_us], by omega, ebd⟩) (by omega) (fun g hg => (p1 g hg).1) (fun g hg => by have := hspb.1 g hg; omega) rfl (fun sX hX => ?_)
    refine hp _ _ _ _ _ _ _ _ _ _ _ _ _ _ _ _ _ _ _ _ _ _ _ _ _ _ _ _ _ _ _ (ys_cut sp n Bd) _ _ _ ⟨⟨rfl, r2, r3, r4⟩, rfl, rfl, rr_Pcut ⟨p1, p2, p3, p4, p5, p6, p7⟩ hl hX (fun g _ => rfl), K'⟩ (fun Yp hY mk0 spY0 hs0 => ?_)
    have fin : ∀ x9 x10, wY_step_559 Yp (nI f) 5 x9 x10 f_capacity (nI dp) f_complete f_open (nI st) f_scope 1 g_bits (nI n) f_steps f_fresh f_reused f_peak g_resultCell g_resultNum g_seen a_starts a_arities a_masks a_codes a_extras a_scopes b_aOf b_bOf (upd a_currents f (nI t)) spY0 b_varCell b_varNum b_borrowed b_tagOf b_fieldCell b_fieldNum mk0 b_digestOf := by
      intro x9 x10
      exact yk_559 (B := Bd) (e := e2) (sp := sp) C K' hb hst (by decide) hBd (fun _ => by (try dsimp only); rw [hcu']; exact ⟨ebd, he2, TB, hTB⟩) (fun g hg => by have := hspb.1 g hg; omega) hs0 hY
    have hz : a_variables (f * 12 + la) = 0 ↔ ¬ (¬ b_varCell (f * 12 + la) = 0 ∨ ¬ b_varNum (f * 12 + la) = 0) := by
      rcases vr with ⟨v0, v1⟩ | ⟨v0, c, hc, hL, v1, v2⟩
      · rw [v1, rc_nv_0]
        constructor
        · intro z w; exact w.elim (fun w => w v0) (fun w => w z)
        · intro w
          by_cases z : b_varNum (f * 12 + la) = 0
          · exact z
          · exact absurd (Or.inr z) w
      · rw [v1]
        constructor
        · intro z; exact absurd z (rc_cv_0 (by omega))
        · intro w; exact absurd (Or.inl (by rw [v0]; decide)) w
    refine ys_head (k := 5) (d := sc s) (la := la) (ra := ra) hn hn20 (by omega) f1 hk w2.1 (by omega) hla hra oa ob (fun z => ?_) (fun _ z => ?_)
    · have ez : a_variables (f * 12 + la) = 0 := hz.mpr (fun w => z ⟨rfl, w⟩)
      rw [if_pos ez] at et
      rw [et] at fin
      refine ys_if1 (by omega) ?_
      have := fin (b_varCell (f * 12 + la)) (b_varNum (f * 12 + la))
      rw [← et] at this ⊢
      exact this
    · have ez : ¬ a_variables (f * 12 + la) = 0 := fun w => hz.mp w z
      rw [if_neg ez] at et
      refine ys_if2 (m := m) (by omega) T1 (by omega) hst ?_
      rw [← et]
      exact fin _ _
end
end
section
section
variable {f_codeNum f_codeOp f_codeCon f_codeCall f_codeMatch f_codeIfZero f_codeRet : Int32} {f_cellBase f_unseen : Int64} {f_capacity f_depth f_complete f_open f_stored f_scope f_borrowedNow f_pending f_liveCells f_frames f_spareTotal f_state f_borrowing f_reusing f_keeping : Int32} {f_result : Int64} {f_steps f_fresh f_reused f_peak : Int32} {a_arities a_masks a_starts a_codes a_extras a_lefts a_rights a_scopes a_uses a_borrowed a_lends a_others a_frees a_afters a_builds a_pendingAt a_tags : Nat → Int32} {a_firsts a_seconds : Nat → Int64} {a_digests a_counts a_places a_work a_marks : Nat → Int32} {a_variables : Nat → Int64} {a_currents a_held a_spareCounts : Nat → Int32}
theorem xs_matN {post : SX → Prop} {f s la m : Nat} (hf : f < 20) (hs : s < 96) (hla : la < 12) (ela : a_lefts s = nI la) (em : a_others s = nI m) (hv : a_variables (f * 12 + la) < 4294967296)
    (h : wX_stepMatch_115 post (nI f) 0 (nI 0) (nI m) f_codeNum f_codeOp f_codeCon f_codeCall f_codeMatch f_codeIfZero f_codeRet f_cellBase f_unseen f_capacity f_depth f_complete f_open f_stored f_scope f_borrowedNow f_pending f_liveCells f_frames f_spareTotal f_state f_borrowing f_reusing f_keeping f_result f_steps f_fresh f_reused f_peak a_arities a_masks a_starts a_codes a_extras a_lefts a_rights a_scopes a_uses a_borrowed a_lends a_others a_frees a_afters a_builds a_pendingAt a_tags a_firsts a_seconds a_digests a_counts a_places a_work a_marks a_variables a_currents a_held a_spareCounts) : wpX_stepMatch post (f_codeNum, f_codeOp, f_codeCon, f_codeCall, f_codeMatch, f_codeIfZero, f_codeRet, f_cellBase, f_unseen, f_capacity, f_depth, f_complete, f_open, f_stored, f_scope, f_borrowedNow, f_pending, f_liveCells, f_frames, f_spareTotal, f_state, f_borrowing, f_reusing, f_keeping, f_result, f_steps, f_fresh, f_reused, f_peak, a_arities, a_masks, a_starts, a_codes, a_extras, a_lefts, a_rights, a_scopes, a_uses, a_borrowed, a_lends, a_others, a_frees, a_afters, a_builds, a_pendingAt, a_tags, a_firsts, a_seconds, a_digests, a_counts, a_places, a_work, a_marks, a_variables, a_currents, a_held, a_spareCounts) (nI f) (nI s) := by
  unfold wpX_stepMatch
  (try dsimp only)
  rw [nI_clamp (show s < 2 ^ 31 by omega), ela]
  refine nm_r (e' := nI (f * 12)) (pk_mul f 12) ?_
  rw [nI_add, nI_clamp (show f * 12 + la < 2 ^ 31 by omega)]
  exact ⟨vp_in_nI hs (by omega), vp_in_nI (by omega) (by omega), nm_e (xw_isN hv ⟨vp_in_nI hs (by omega), nm_r em (br_t rfl h)⟩)⟩
theorem xs_mat2 {post : SX → Prop} {f s la m c : Nat} (hf : f < 20) (hs : s < 96) (hla : la < 12) (ela : a_lefts s = nI la) (em : a_others s = nI m) (hc : c < 160) (hv : a_variables (f * 12 + la) = rc_cv c) (ht : ¬ a_tags c = a_extras s)
    (h : wX_stepMatch_115 post (nI f) 1 (nI c) (nI m) f_codeNum f_codeOp f_codeCon f_codeCall f_codeMatch f_codeIfZero f_codeRet f_cellBase f_unseen f_capacity f_depth f_complete f_open f_stored f_scope f_borrowedNow f_pending f_liveCells f_frames f_spareTotal f_state f_borrowing f_reusing f_keeping f_result f_steps f_fresh f_reused f_peak a_arities a_masks a_starts a_codes a_extras a_lefts a_rights a_scopes a_uses a_borrowed a_lends a_others a_frees a_afters a_builds a_pendingAt a_tags a_firsts a_seconds a_digests a_counts a_places a_work a_marks a_variables a_currents a_held a_spareCounts) : wpX_stepMatch post (f_codeNum, f_codeOp, f_codeCon, f_codeCall, f_codeMatch, f_codeIfZero, f_codeRet, f_cellBase, f_unseen, f_capacity, f_depth, f_complete, f_open, f_stored, f_scope, f_borrowedNow, f_pending, f_liveCells, f_frames, f_spareTotal, f_state, f_borrowing, f_reusing, f_keeping, f_result, f_steps, f_fresh, f_reused, f_peak, a_arities, a_masks, a_starts, a_codes, a_extras, a_lefts, a_rights, a_scopes, a_uses, a_borrowed, a_lends, a_others, a_frees, a_afters, a_builds, a_pendingAt, a_tags, a_firsts, a_seconds, a_digests, a_counts, a_places, a_work, a_marks, a_variables, a_currents, a_held, a_spareCounts) (nI f) (nI s) := by
  unfold wpX_stepMatch
  (try dsimp only)
  rw [nI_clamp (show s < 2 ^ 31 by omega), ela]
  refine nm_r (e' := nI (f * 12)) (pk_mul f 12) ?_
  rw [nI_add, nI_clamp (show f * 12 + la < 2 ^ 31 by omega)]
  refine ⟨vp_in_nI hs (by omega), vp_in_nI (by omega) (by omega), nm_r hv (xw_isC hc ⟨vp_in_nI hs (by omega), nm_r em (br_f (by decide) (xw_cellOf hc ⟨vp_in_nI hc (by omega), vp_in_nI hs (by omega), ?_⟩))⟩)⟩
  rw [nI_clamp (show c < 2 ^ 31 by omega)]
  exact br_f ht h
theorem xs_mat1 {post : SX → Prop} {f s la d c : Nat} (hf : f < 20) (hs : s < 96) (hla : la < 12) (ela : a_lefts s = nI la) (ed : a_scopes s = nI d) (hd : d + 1 < 12) (hc : c < 160) (hv : a_variables (f * 12 + la) = rc_cv c) (ht : a_tags c = a_extras s)
    (h : wX_stepMatch_115 post (nI f) 1 (nI c) (nI (s + 1)) f_codeNum f_codeOp f_codeCon f_codeCall f_codeMatch f_codeIfZero f_codeRet f_cellBase f_unseen f_capacity f_depth f_complete f_open f_stored f_scope f_borrowedNow f_pending f_liveCells f_frames f_spareTotal f_state f_borrowing f_reusing f_keeping f_result f_steps f_fresh f_reused f_peak a_arities a_masks a_starts a_codes a_extras a_lefts a_rights a_scopes a_uses a_borrowed a_lends a_others a_frees a_afters a_builds a_pendingAt a_tags a_firsts a_seconds a_digests a_counts a_places a_work a_marks (vp_updL (vp_updL a_variables (f * 12 + d) (a_firsts c)) (f * 12 + d + 1) (a_seconds c)) a_currents a_held a_spareCounts) : wpX_stepMatch post (f_codeNum, f_codeOp, f_codeCon, f_codeCall, f_codeMatch, f_codeIfZero, f_codeRet, f_cellBase, f_unseen, f_capacity, f_depth, f_complete, f_open, f_stored, f_scope, f_borrowedNow, f_pending, f_liveCells, f_frames, f_spareTotal, f_state, f_borrowing, f_reusing, f_keeping, f_result, f_steps, f_fresh, f_reused, f_peak, a_arities, a_masks, a_starts, a_codes, a_extras, a_lefts, a_rights, a_scopes, a_uses, a_borrowed, a_lends, a_others, a_frees, a_afters, a_builds, a_pendingAt, a_tags, a_firsts, a_seconds, a_digests, a_counts, a_places, a_work, a_marks, a_variables, a_currents, a_held, a_spareCounts) (nI f) (nI s) := by
  unfold wpX_stepMatch
  (try dsimp only)
  rw [nI_clamp (show s < 2 ^ 31 by omega), ela]
  refine nm_r (e' := nI (f * 12)) (pk_mul f 12) ?_
  rw [nI_add, nI_clamp (show f * 12 + la < 2 ^ 31 by omega)]
  refine ⟨vp_in_nI hs (by omega), vp_in_nI (by omega) (by omega), nm_r hv (xw_isC hc ⟨vp_in_nI hs (by omega), nm_e (br_f (by decide) (xw_cellOf hc ⟨vp_in_nI hc (by omega), vp_in_nI hs (by omega), ?_⟩))⟩)⟩
  rw [nI_clamp (show c < 2 ^ 31 by omega)]
  refine br_t ht ⟨vp_in_nI hs (by omega), nm_r ed ⟨vp_in_nI hc (by omega), ?_⟩⟩
  rw [nI_add, nI_1, nI_clamp (show f * 12 + d < 2 ^ 31 by omega), nI_clamp (show f * 12 + d + 1 < 2 ^ 31 by omega)]
  exact ⟨vp_in_nI (by omega) (by omega), nm_e ⟨vp_in_nI hc (by omega), vp_in_nI (by omega) (by omega), nm_e (nm_r (nI_1 s) h)⟩⟩
end
section
variable {f_codeNum f_codeOp f_codeCon f_codeCall f_codeMatch f_codeIfZero f_codeRet : Int32} {f_cellBase f_unseen : Int64} {f_capacity f_depth f_complete f_open f_stored f_scope f_borrowedNow f_pending f_liveCells f_frames f_spareTotal f_state f_borrowing f_reusing f_keeping : Int32} {f_result : Int64} {f_steps f_fresh f_reused f_peak : Int32} {a_arities a_masks a_starts a_codes a_extras a_lefts a_rights a_scopes a_uses a_borrowed a_lends a_others a_frees a_afters a_builds a_pendingAt a_tags : Nat → Int32} {a_firsts a_seconds : Nat → Int64} {a_digests a_counts a_places a_work a_marks : Nat → Int32} {a_variables : Nat → Int64} {a_currents a_held a_spareCounts : Nat → Int32} {g_bits g_resultCell g_resultNum g_seen : Int32} {b_aOf b_bOf b_spare b_varCell b_varNum b_borrowed b_tagOf b_fieldCell b_fieldNum b_marked b_digestOf : Nat → Int32}
variable {sc cu sg rk sp : Nat → Nat} {bw : Nat → Int32} {L : Nat → Bool} {cm b n lv st cp dp : Nat}
/-- the end of a match, on both sides: x6, c what X has of the cell; x9, x10 what Y has of it -/
theorem st_mend {PX : SX → Prop} {f s t c : Nat} {x6 x9 x10 : Int32} {vs' : Nat → Int64} {vc' vn' yb' : Nat → Int32} (C : ct_C a_arities a_masks a_starts a_codes a_extras a_lefts a_rights a_scopes a_uses a_borrowed a_lends a_others a_frees a_afters a_builds b_aOf b_bOf sc bw cm b) (R : rr_R f_capacity f_depth f_liveCells f_frames f_spareTotal a_spareCounts b_spare f_state f_borrowing f_reusing f_keeping f_result f_fresh a_codes a_borrowed a_lends a_frees a_afters a_tags a_firsts a_seconds a_digests a_counts a_places a_work a_variables a_currents a_held g_bits g_resultCell g_resultNum b_varCell b_varNum b_borrowed b_tagOf b_fieldCell b_fieldNum sc cu sg rk sp L b n lv cp dp) (hb : b ≤ st) (hst : st ≤ 96) (hS : f_stored = nI st) (h1 : f_state = 1) (hn : n = f + 1)
    (es : cu f = s) (ht : t < b) (hst1 : sc s ≤ sc t) (hst2 : sc t ≤ 12) (hfr : ∀ v, v < sc s → bt (a_frees t) v = true → bt (a_frees s) v = true) (hbo : ∀ v, v < sc s → bt (a_borrowed t) v = bt (a_borrowed s) v)
    (hlow : ∀ x, x < f * 12 + sc s → vs' x = a_variables x ∧ vc' x = b_varCell x ∧ vn' x = b_varNum x ∧ yb' x = b_borrowed x)
    (hnew : ∀ v, sc s ≤ v → v < sc t → rc_vr L sg (vs' (f * 12 + v)) (vc' (f * 12 + v)) (vn' (f * 12 + v)))
    (hnb : ∀ v, sc s ≤ v → v < sc t → yb' (f * 12 + v) = rc_b (!decide (f_borrowing = 0) && bt (a_borrowed t) v))
    (hnq : ¬ f_borrowing = 0 → ∀ v c, sc s ≤ v → v < sc t → c < 160 → bt (a_frees t) v = true → bt (a_borrowed t) v = true → vs' (f * 12 + v) = rc_cv c → rc_rch a_firsts a_seconds (fun q => ∃ x, x < f * 12 ∧ bt (a_held (x / 12)) (x % 12) = true ∧ a_variables x = rc_cv q) c)
    (Y' : rr_Y vc' vn' yb' b_fieldCell b_fieldNum g_resultCell g_resultNum)
    (hc : c < 160) (h6 : x6 = 0 ∧ x9 = 0 ∨ x6 = 1 ∧ x9 = 1 ∧ L c = true ∧ x10 = nI (sg c))
    (hX : ∀ Xp : SX → Prop, wX_stepMatch_115 (fun u => match u with | (f_codeNum, f_codeOp, f_codeCon, f_codeCall, f_codeMatch, f_codeIfZero, f_codeRet, f_cellBase, f_unseen, f_capacity, f_depth, f_complete, f_open, f_stored, f_scope, f_borrowedNow, f_pending, f_liveCells, f_frames, f_spareTotal, f_state, f_borrowing, f_reusing, f_keeping, f_result, f_steps, f_fresh, f_reused, f_peak, a_arities, a_masks, a_starts, a_codes, a_extras, a_lefts, a_rights, a_scopes, a_uses, a_borrowed, a_lends, a_others, a_frees, a_afters, a_builds, a_pendingAt, a_tags, a_firsts, a_seconds, a_digests, a_counts, a_places, a_work, a_marks, a_variables, a_currents, a_held, a_spareCounts) => wX_step_105 Xp 1 f_codeNum f_codeOp f_codeCon f_codeCall f_codeMatch f_codeIfZero f_codeRet f_cellBase f_unseen f_capacity f_depth f_complete f_open f_stored f_scope f_borrowedNow f_pending f_liveCells f_frames f_spareTotal f_state f_borrowing f_reusing f_keeping f_result f_steps f_fresh f_reused f_peak a_arities a_masks a_starts a_codes a_extras a_lefts a_rights a_scopes a_uses a_borrowed a_lends a_others a_frees a_afters a_builds a_pendingAt a_tags a_firsts a_seconds a_digests a_counts a_places a_work a_marks a_variables a_currents a_held a_spareCounts) (nI f) x6 (nI c) (nI t) f_codeNum f_codeOp f_codeCon f_codeCall f_codeMatch f_codeIfZero f_codeRet f_cellBase f_unseen f_capacity f_depth f_complete f_open f_stored f_scope f_borrowedNow f_pending f_liveCells f_frames f_spareTotal f_state f_borrowing f_reusing f_keeping f_result f_steps f_fresh f_reused f_peak a_arities a_masks a_starts a_codes a_extras a_lefts a_rights a_scopes a_uses a_borrowed a_lends a_others a_frees a_afters a_builds a_pendingAt a_tags a_firsts a_seconds a_digests a_counts a_places a_work a_marks vs' a_currents a_held a_spareCounts → wpX_step Xp (f_codeNum, f_codeOp, f_codeCon, f_codeCall, f_codeMatch, f_codeIfZero, f_codeRet, f_cellBase, f_unseen, f_capacity, f_depth, f_complete, f_open, f_stored, f_scope, f_borrowedNow, f_pending, f_liveCells, f_frames, f_spareTotal, f_state, f_borrowing, f_reusing, f_keeping, f_result, f_steps, f_fresh, f_reused, f_peak, a_arities, a_masks, a_starts, a_codes, a_extras, a_lefts, a_rights, a_scopes, a_uses, a_borrowed, a_lends, a_others, a_frees, a_afters, a_builds, a_pendingAt, a_tags, a_firsts, a_seconds, a_digests, a_counts, a_places, a_work, a_marks, a_variables, a_currents, a_held, a_spareCounts))
    (hY : ∀ (Yp : SY → Prop) (mk0 spY0 : Nat → Int32), wY_step_559 Yp (nI f) 4 x9 x10 f_capacity f_depth f_complete f_open f_stored f_scope f_state g_bits f_frames f_steps f_fresh f_reused f_peak g_resultCell g_resultNum g_seen a_starts a_arities a_masks a_codes a_extras a_scopes b_aOf b_bOf (upd a_currents f (nI t)) spY0 vc' vn' yb' b_tagOf b_fieldCell b_fieldNum mk0 b_digestOf → wpY_step Yp (f_capacity, f_depth, f_complete, f_open, f_stored, f_scope, f_state, g_bits, f_frames, f_steps, f_fresh, f_reused, f_peak, g_resultCell, g_resultNum, g_seen, a_starts, a_arities, a_masks, a_codes, a_extras, a_scopes, b_aOf, b_bOf, a_currents, spY0, b_varCell, b_varNum, b_borrowed, b_tagOf, b_fieldCell, b_fieldNum, mk0, b_digestOf))
    (hp : ∀ (n_lc n_fr n_st n_ss : Int32) (n_rs : Int64) (n_sp n_fe n_re n_pk : Int32) (n_tg : Nat → Int32) (n_fx n_sy : Nat → Int64) (n_dg n_cn n_pl n_wk : Nat → Int32) (n_vs : Nat → Int64) (n_cr n_hd n_sc : Nat → Int32) (m_rc m_rn : Int32) (m_vc m_vn m_yb m_tY m_fc m_fn : Nat → Int32) (cu' sg' rk' sp' : Nat → Nat) (L' : Nat → Bool) (n' lv' : Nat), rr_R f_capacity f_depth n_lc n_fr n_st n_sc (fun g => nI (sp' g)) n_ss f_borrowing f_reusing f_keeping n_rs n_fe a_codes a_borrowed a_lends a_frees a_afters n_tg n_fx n_sy n_dg n_cn n_pl n_wk n_vs n_cr n_hd g_bits m_rc m_rn m_vc m_vn m_yb m_tY m_fc m_fn sc cu' sg' rk' sp' L' b n' lv' cp dp → (∀ Yp : SY → Prop, (∀ mk spY, (∀ g, g < n' → spY g = nI (sp' g)) → Yp (f_capacity, f_depth, f_complete, f_open, f_stored, f_scope, n_ss, g_bits, n_fr, n_sp, n_fe, n_re, n_pk, m_rc, m_rn, g_seen, a_starts, a_arities, a_masks, a_codes, a_extras, a_scopes, b_aOf, b_bOf, n_cr, spY, m_vc, m_vn, m_yb, m_tY, m_fc, m_fn, mk, b_digestOf)) → ∀ mk0 spY0, (∀ g, g < n → spY0 g = nI (sp g)) → wpY_step Yp (f_capacity, f_depth, f_complete, f_open, f_stored, f_scope, f_state, g_bits, f_frames, f_steps, f_fresh, f_reused, f_peak, g_resultCell, g_resultNum, g_seen, a_starts, a_arities, a_masks, a_codes, a_extras, a_scopes, b_aOf, b_bOf, a_currents, spY0, b_varCell, b_varNum, b_borrowed, b_tagOf, b_fieldCell, b_fieldNum, mk0, b_digestOf)) → PX (f_codeNum, f_codeOp, f_codeCon, f_codeCall, f_codeMatch, f_codeIfZero, f_codeRet, f_cellBase, f_unseen, f_capacity, f_depth, f_complete, f_open, f_stored, f_scope, f_borrowedNow, f_pending, n_lc, n_fr, n_st, n_ss, f_borrowing, f_reusing, f_keeping, n_rs, n_sp, n_fe, n_re, n_pk, a_arities, a_masks, a_starts, a_codes, a_extras, a_lefts, a_rights, a_scopes, a_uses, a_borrowed, a_lends, a_others, a_frees, a_afters, a_builds, a_pendingAt, n_tg, n_fx, n_sy, n_dg, n_cn, n_pl, n_wk, a_marks, n_vs, n_cr, n_hd, n_sc)) : wpX_step PX (f_codeNum, f_codeOp, f_codeCon, f_codeCall, f_codeMatch, f_codeIfZero, f_codeRet, f_cellBase, f_unseen, f_capacity, f_depth, f_complete, f_open, f_stored, f_scope, f_borrowedNow, f_pending, f_liveCells, f_frames, f_spareTotal, f_state, f_borrowing, f_reusing, f_keeping, f_result, f_steps, f_fresh, f_reused, f_peak, a_arities, a_masks, a_starts, a_codes, a_extras, a_lefts, a_rights, a_scopes, a_uses, a_borrowed, a_lends, a_others, a_frees, a_afters, a_builds, a_pendingAt, a_tags, a_firsts, a_seconds, a_digests, a_counts, a_places, a_work, a_marks, a_variables, a_currents, a_held, a_spareCounts) := by
  obtain ⟨⟨r1, r2, r3, r4⟩, r5, r6, P, K⟩ := R
  have K0 := K
  obtain ⟨F, V, B, Q, I, Y, M, Lv, S, SS⟩ := K
  obtain ⟨f1, f2, f3, f4⟩ := F.2 f (by omega)
  rw [es] at f1 f2
  have hS1 := S (by rw [h1]; decide)
  have hspb := rr_spb P
  subst r5 r6 hS h1 r1
  have hb96 := C.1
  have hn20 := F.1
  obtain ⟨e0, he0, T0⟩ := C.2.2.1 s f2
  obtain ⟨et2, het2, Tt⟩ := C.2.2.1 t ht
  have hlt : ∀ v, v < 32 → bt (a_frees t) v = true → v < sc t := fun v hv h => ((ct_F C het2 Tt hv).mp h).1
  have hE : ∀ c, c < 160 → xr_E 1 f_result c ≤ 20 := fun c _ => by unfold xr_E; rw [if_neg (by decide)]; omega
  have hheld : a_held f = xg_m f_borrowing (a_frees s) (a_borrowed s) := by rw [f4]; unfold rr_hold; rw [if_pos hn.symm, es]
  have hHlt : ∀ v, v < 12 → bt (a_held f) v = true → v < sc s := fun v hv h => by
    rw [hheld] at h
    have : bt (a_frees s) v = true := by
      unfold xg_m at h
      split at h
      · exact h
      · rw [b_and, Bool.and_eq_true] at h; exact h.1
    exact ((ct_F C he0 T0 (by omega)).mp this).1
  obtain ⟨p1, p2, p3, p4, p5, p6, p7⟩ := P
  have hreu : ¬ f_reusing = 0 → f_keeping = 0 := fun z => by
    by_cases q : f_keeping = 0
    · exact q
    · exact absurd (M.2.2.2.2.2.2 q).2 z
  -- the common end
  have fin : ∀ (L' : Nat → Bool) (cnt' pl' : Nat → Int32) (lv' : Nat) (wk' : Nat → Int32) (sX1 : Nat → Int32) (cond : Bool), (∀ c, L' c = true → L c = true) → (¬ f_keeping = 0 → L' = L ∧ lv' = lv) →
      hx_S f_keeping L' a_firsts a_seconds vs' (hp_h (xr_H n a_held) (f * 12) (xg_m f_borrowing (a_frees t) (a_borrowed t))) (xr_E 1 f_result) cnt' pl' lv' wk' →
      (cond = true ↔ (¬ x6 = 0 ∧ ¬ f_reusing = 0 ∧ L' c = false)) → (∀ g, g < n → sX1 g = nI (if g = f ∧ cond = true then sp g + 1 else sp g)) →
      wpX_finish PX (f_codeNum, f_codeOp, f_codeCon, f_codeCall, f_codeMatch, f_codeIfZero, f_codeRet, f_cellBase, f_unseen, f_capacity, nI dp, f_complete, f_open, nI st, f_scope, f_borrowedNow, f_pending, nI lv', nI n, nI (rc_sm (fun g => if g = f ∧ cond = true then sp g + 1 else sp g) n), 1, f_borrowing, f_reusing, f_keeping, f_result, f_steps, f_fresh, f_reused, f_peak, a_arities, a_masks, a_starts, a_codes, a_extras, a_lefts, a_rights, a_scopes, a_uses, a_borrowed, a_lends, a_others, a_frees, a_afters, a_builds, a_pendingAt, a_tags, a_firsts, a_seconds, a_digests, cnt', pl', wk', a_marks, vs', upd a_currents f (nI t), upd a_held f (xg_m f_borrowing (a_frees t) (a_borrowed t)), sX1) := by
    intro L' cnt' pl' lv' wk' sX1 cond hs hk' S' hcond hsX1
    obtain ⟨hl, K'⟩ := rk_stay (t := t) (L' := L') (vs' := vs') (vc' := vc') (vn' := vn') (yb' := yb') (cnt' := cnt') (pl' := pl') (wk' := wk') (lv' := lv') C K0 rfl hn es ht hst1 hst2 hfr hbo hlow (fun v q1 q2 _ => hnew v q1 q2) hnb hnq Y' hs hk' S'
    obtain ⟨Bd, e2, hBd, ebd, he2, TB, hTB⟩ := yk_bd C K' (by omega)
    have hcu' : (if n - 1 = f then t else cu (n - 1)) = t := if_pos (by omega)
    rw [hcu'] at ebd TB hTB
    have hG : (¬ x9 = 0 ∧ bt g_bits 1 = true ∧ ym_G L' sg x10.toNatClampNeg = false) ↔ cond = true := by
      rw [hcond]
      have hb1 : bt g_bits 1 = true ↔ ¬ f_reusing = 0 := by
        rw [M.2.2.2.2.1]
        by_cases z : f_reusing = 0
        · rw [decide_eq_true z]; simp [z]
        · rw [decide_eq_false z]; simp [z]
      rw [hb1]
      rcases h6 with ⟨q1, q2⟩ | ⟨q1, q2, q3, q4⟩
      · rw [q1, q2]
        exact ⟨fun z => absurd rfl z.1, fun z => absurd rfl z.1⟩
      · have h160 := (I.1 c hc q3).1
        rw [q1, q2, q4, nI_clamp (by omega)]
        have : ym_G L' sg (sg c) = false ↔ L' c = false := by
          constructor
          · intro z
            cases w : L' c
            · rfl
            · rw [ym_Gs hc w] at z; exact absurd z (by decide)
          · intro z
            cases w : ym_G L' sg (sg c)
            · rfl
            · obtain ⟨d, d1, d2, d3⟩ := ym_Gi.mp w
              have := I.2 d c d1 hc (hs d d2) q3 d3
              rw [this, z] at d2; exact absurd d2 (by decide)
        rw [this]
    have hsum : rc_sm (fun g => if g = f ∧ cond = true then sp g + 1 else sp g) n = rc_sm sp n + (if cond = true then 1 else 0) := by
      have := rc_sm_upd (f := sp) (g := fun g => if g = f ∧ cond = true then sp g + 1 else sp g) (x := f) (fun j hj => if_neg (fun z => hj z.1)) n (by omega)
      (try dsimp only at this)
      by_cases z : cond = true
      · rw [if_pos ⟨rfl, z⟩] at this
        rw [if_pos z]; omega
      · rw [if_neg (fun q => z q.2)] at this
        rw [if_neg z]; omega
    have hlv : cond = true → lv' + 1 ≤ lv := fun z => by
      obtain ⟨q1, q2, q3⟩ := hcond.mp z
      have hLc : L c = true := by
        rcases h6 with w | w
        · exact absurd w.1 q1
        · exact w.2.2.1
      have e1 := Lv.2.2.2.2.2.1
      have e2 := K'.2.2.2.2.2.2.2.1.2.2.2.2.2.1
      have hm : rc_sm (fun q => if hp_ad L' c q = true then 1 else 0) 160 ≤ rc_sm (fun q => if L q = true then 1 else 0) 160 := rc_sm_mono 160 (fun q _ => by
        (try dsimp only)
        by_cases w : hp_ad L' c q = true
        · rw [if_pos w]
          have : L q = true := by
            unfold hp_ad at w
            split at w
            · rename_i y; rw [y]; exact hLc
            · exact hs q w
          rw [if_pos this]; exact Nat.le_refl _
        · rw [if_neg w]; exact Nat.zero_le _)
      have hu := rc_sm_upd (f := fun q => if L' q = true then 1 else 0) (g := fun q => if hp_ad L' c q = true then 1 else 0) (x := c) (fun j hj => by (try dsimp only); unfold hp_ad; rw [if_neg hj]) 160 hc
      (try dsimp only at hu)
      rw [q3, show hp_ad L' c c = true from if_pos rfl, if_pos rfl, if_neg (by decide)] at hu
      omega
    have P1 : rr_P f_keeping f_capacity (nI (rc_sm (fun g => if g = f ∧ cond = true then sp g + 1 else sp g) n)) sX1 sX1 (fun g => if g = f ∧ cond = true then sp g + 1 else sp g) n lv' cp := by
      refine ⟨fun g hg => ⟨hsX1 g hg, hsX1 g hg⟩, rfl, fun hk0 => ?_, fun hk0 g hg => ?_, p5, p6, p7⟩
      · have := p3 hk0
        rw [hsum]
        by_cases z : cond = true
        · have := hlv z; rw [if_pos z]; omega
        · rw [if_neg z]; omega
      · (try dsimp only)
        rw [if_neg (fun z => hk0 (hreu (hcond.mp z.2).2.1))]
        exact p4 hk0 g hg
    have hspb1 := rr_spb P1
    refine xs_finish (n := n) (s := t) (B := Bd) (sp := fun g => if g = f ∧ cond = true then sp g + 1 else sp g) hn20 (fun _ => ⟨by rw [show n - 1 = f by omega, pk_us], by omega, ebd⟩) (by omega) hsX1 (fun g hg => by have := hspb1.1 g hg; (try dsimp only at this); (try dsimp only); omega) rfl (fun sX hX2 => ?_)
    refine hp _ _ _ _ _ _ _ _ _ _ _ _ _ _ _ _ _ _ _ _ _ _ _ _ _ _ _ _ _ _ _ (ys_cut (fun g => if g = f ∧ cond = true then sp g + 1 else sp g) n Bd) _ _ _ ⟨⟨rfl, r2, r3, r4⟩, rfl, rfl, rr_Pcut P1 (Nat.le_refl _) hX2 (fun g _ => rfl), K'⟩ (fun Yp hYp mk0 spY0 hs0 => hY _ _ _ ?_)
    refine yk_559m (B := Bd) (e := e2) (sp := sp) (sp1 := fun g => if g = f ∧ cond = true then sp g + 1 else sp g) C K' hb hst (by omega) hBd (fun _ => by (try dsimp only); rw [hcu']; exact ⟨ebd, he2, TB, hTB⟩) (fun g hg => by have := hspb.1 g hg; omega) hs0 (fun z => ?_) (fun g => ?_) hYp
    · rcases h6 with ⟨q1, q2⟩ | ⟨q1, q2, q3, q4⟩
      · exact absurd q2 z
      · exact ⟨sg c, (I.1 c hc q3).1, q4⟩
    · (try dsimp only)
      by_cases z : g = f
      · by_cases w : cond = true
        · rw [if_pos ⟨z, w⟩, if_pos ⟨z, hG.mpr w⟩]
        · rw [if_neg (fun q => w q.2), if_neg (fun q => w (hG.mp q.2))]
      · rw [if_neg (fun q => z q.1), if_neg (fun q => z q.1)]
  refine hX _ ?_
  have hsf := (p1 f (by omega)).1
  refine xs_m115 (c := c) (sp := sp f) (H := xr_H n a_held) (E := xr_E 1 f_result) (L := L) (by omega) (by omega) hc (by rcases h6 with z | z; exact Or.inl z.1; exact Or.inr z.1) hreu hsf hE (fun i hi => xr_Hx (by omega) hi) (fun i hi q1 q2 => ?_) (hx_vs (fun _ _ => rfl) (fun x hx hH => ?_) hS1) (fun L' cnt' pl' lv' wk' hs hk' S' hz => ?_) (fun L' cnt' pl' lv' wk' hs hk' S' hz => ?_)
  · rw [hheld] at q2
    have := rr_gain (sc := sc) (by omega) (hlt i (by omega)) hfr hbo q1 q2
    exact rc_vr_g (hnew i this.1 this.2.1)
  · obtain ⟨hx1, hx2⟩ := xr_Hn hH
    refine (hlow x ?_).1
    by_cases w : x / 12 = f
    · rw [w] at hx2
      have := hHlt (x % 12) (by omega) hx2
      omega
    · omega
  · have := fin L' cnt' pl' lv' wk' a_spareCounts false hs hk' S' ⟨fun z => absurd z (by decide), fun z => absurd z hz⟩ (fun g hg => by rw [if_neg (fun z => absurd z.2 (by decide))]; exact (p1 g hg).1)
    have e1 : rc_sm (fun g => if g = f ∧ false = true then sp g + 1 else sp g) n = rc_sm sp n := rc_sm_eq n (fun g _ => if_neg (fun z => absurd z.2 (by decide)))
    rw [e1, ← p2] at this
    unfold wX_step_105
    exact br_f (by decide) this
  · have := fin L' cnt' pl' lv' wk' (upd a_spareCounts f (nI (sp f + 1))) true hs hk' S' ⟨fun _ => hz, fun _ => rfl⟩ (fun g hg => by
      by_cases w : g = f
      · rw [w, pk_us, if_pos ⟨rfl, rfl⟩]
      · rw [pk_un w, if_neg (fun z => w z.1)]; exact (p1 g hg).1)
    have e1 : rc_sm (fun g => if g = f ∧ true = true then sp g + 1 else sp g) n = rc_sm sp n + 1 := by
      have := rc_sm_upd (f := sp) (g := fun g => if g = f ∧ true = true then sp g + 1 else sp g) (x := f) (fun j hj => if_neg (fun z => hj z.1)) n (by omega)
      (try dsimp only at this)
      rw [if_pos ⟨rfl, rfl⟩] at this
      omega
    rw [e1, ← nI_1, ← p2] at this
    unfold wX_step_105
    exact br_f (by decide) this
end
end
section
section
variable {f_codeNum f_codeOp f_codeCon f_codeCall f_codeMatch f_codeIfZero f_codeRet : Int32} {f_cellBase f_unseen : Int64} {f_capacity f_depth f_complete f_open f_stored f_scope f_borrowedNow f_pending f_liveCells f_frames f_spareTotal f_state f_borrowing f_reusing f_keeping : Int32} {f_result : Int64} {f_steps f_fresh f_reused f_peak : Int32} {a_arities a_masks a_starts a_codes a_extras a_lefts a_rights a_scopes a_uses a_borrowed a_lends a_others a_frees a_afters a_builds a_pendingAt a_tags : Nat → Int32} {a_firsts a_seconds : Nat → Int64} {a_digests a_counts a_places a_work a_marks : Nat → Int32} {a_variables : Nat → Int64} {a_currents a_held a_spareCounts : Nat → Int32} {g_bits g_resultCell g_resultNum g_seen : Int32} {b_aOf b_bOf b_spare b_varCell b_varNum b_borrowed b_tagOf b_fieldCell b_fieldNum b_marked b_digestOf : Nat → Int32}
variable {sc cu sg rk sp : Nat → Nat} {bw : Nat → Int32} {L : Nat → Bool} {cm b n lv st cp dp : Nat}
theorem st_match {PX : SX → Prop} {f : Nat} (C : ct_C a_arities a_masks a_starts a_codes a_extras a_lefts a_rights a_scopes a_uses a_borrowed a_lends a_others a_frees a_afters a_builds b_aOf b_bOf sc bw cm b) (R : rr_R f_capacity f_depth f_liveCells f_frames f_spareTotal a_spareCounts b_spare f_state f_borrowing f_reusing f_keeping f_result f_fresh a_codes a_borrowed a_lends a_frees a_afters a_tags a_firsts a_seconds a_digests a_counts a_places a_work a_variables a_currents a_held g_bits g_resultCell g_resultNum b_varCell b_varNum b_borrowed b_tagOf b_fieldCell b_fieldNum sc cu sg rk sp L b n lv cp dp) (hb : b ≤ st) (hst : st ≤ 96) (hS : f_stored = nI st) (h1 : f_state = 1) (hn : n = f + 1)
    (hk : a_codes (cu f) = 4) (hp : ∀ (n_lc n_fr n_st n_ss : Int32) (n_rs : Int64) (n_sp n_fe n_re n_pk : Int32) (n_tg : Nat → Int32) (n_fx n_sy : Nat → Int64) (n_dg n_cn n_pl n_wk : Nat → Int32) (n_vs : Nat → Int64) (n_cr n_hd n_sc : Nat → Int32) (m_rc m_rn : Int32) (m_vc m_vn m_yb m_tY m_fc m_fn : Nat → Int32) (cu' sg' rk' sp' : Nat → Nat) (L' : Nat → Bool) (n' lv' : Nat), rr_R f_capacity f_depth n_lc n_fr n_st n_sc (fun g => nI (sp' g)) n_ss f_borrowing f_reusing f_keeping n_rs n_fe a_codes a_borrowed a_lends a_frees a_afters n_tg n_fx n_sy n_dg n_cn n_pl n_wk n_vs n_cr n_hd g_bits m_rc m_rn m_vc m_vn m_yb m_tY m_fc m_fn sc cu' sg' rk' sp' L' b n' lv' cp dp → (∀ Yp : SY → Prop, (∀ mk spY, (∀ g, g < n' → spY g = nI (sp' g)) → Yp (f_capacity, f_depth, f_complete, f_open, f_stored, f_scope, n_ss, g_bits, n_fr, n_sp, n_fe, n_re, n_pk, m_rc, m_rn, g_seen, a_starts, a_arities, a_masks, a_codes, a_extras, a_scopes, b_aOf, b_bOf, n_cr, spY, m_vc, m_vn, m_yb, m_tY, m_fc, m_fn, mk, b_digestOf)) → ∀ mk0 spY0, (∀ g, g < n → spY0 g = nI (sp g)) → wpY_step Yp (f_capacity, f_depth, f_complete, f_open, f_stored, f_scope, f_state, g_bits, f_frames, f_steps, f_fresh, f_reused, f_peak, g_resultCell, g_resultNum, g_seen, a_starts, a_arities, a_masks, a_codes, a_extras, a_scopes, b_aOf, b_bOf, a_currents, spY0, b_varCell, b_varNum, b_borrowed, b_tagOf, b_fieldCell, b_fieldNum, mk0, b_digestOf)) → PX (f_codeNum, f_codeOp, f_codeCon, f_codeCall, f_codeMatch, f_codeIfZero, f_codeRet, f_cellBase, f_unseen, f_capacity, f_depth, f_complete, f_open, f_stored, f_scope, f_borrowedNow, f_pending, n_lc, n_fr, n_st, n_ss, f_borrowing, f_reusing, f_keeping, n_rs, n_sp, n_fe, n_re, n_pk, a_arities, a_masks, a_starts, a_codes, a_extras, a_lefts, a_rights, a_scopes, a_uses, a_borrowed, a_lends, a_others, a_frees, a_afters, a_builds, a_pendingAt, n_tg, n_fx, n_sy, n_dg, n_cn, n_pl, n_wk, a_marks, n_vs, n_cr, n_hd, n_sc)) : wpX_step PX (f_codeNum, f_codeOp, f_codeCon, f_codeCall, f_codeMatch, f_codeIfZero, f_codeRet, f_cellBase, f_unseen, f_capacity, f_depth, f_complete, f_open, f_stored, f_scope, f_borrowedNow, f_pending, f_liveCells, f_frames, f_spareTotal, f_state, f_borrowing, f_reusing, f_keeping, f_result, f_steps, f_fresh, f_reused, f_peak, a_arities, a_masks, a_starts, a_codes, a_extras, a_lefts, a_rights, a_scopes, a_uses, a_borrowed, a_lends, a_others, a_frees, a_afters, a_builds, a_pendingAt, a_tags, a_firsts, a_seconds, a_digests, a_counts, a_places, a_work, a_marks, a_variables, a_currents, a_held, a_spareCounts) := by
  have R0 := R
  obtain ⟨⟨r1, r2, r3, r4⟩, r5, r6, P, K⟩ := R
  obtain ⟨F, V, B, Q, I, Y, M, Lv, S, SS⟩ := K
  obtain ⟨f1, f2, f3, f4⟩ := F.2 f (by omega)
  obtain ⟨s, es⟩ : ∃ s, cu f = s := ⟨_, rfl⟩
  rw [es] at f1 f2 hk
  have hb96 := C.1
  have hn20 := F.1
  obtain ⟨e, m, he, hm, T, T1, T2, hs1, eot, esm, ebm⟩ := ct_br C f2 (Or.inl hk)
  obtain ⟨-, w2, -, -, -, w6, w7, -, -, w10, -, -⟩ := C.2.2.2.1 s f2
  obtain ⟨g1, g2, g3⟩ := w10 hk
  have w2' := (C.2.2.2.1 (s + 1) hs1).2.1
  have w2m := (C.2.2.2.1 m hm).2.1
  have hA := ((C.2.2.2.2.1 s f2).2.2.1 (Or.inl hk) m T1).1
  obtain ⟨la, ra, hla, hra, oa, ob, ela, era, va, vb⟩ := ct_opr C f2
  have need : rr_need a_frees a_afters cu n f = a_frees s := by unfold rr_need; rw [if_pos hn.symm, es]
  have h12 := w2.2.2.1
  have n0 : a_codes s ≠ 0 := by rw [hk]; decide
  have n3 : a_codes s ≠ 3 := by rw [hk]; decide
  obtain ⟨v1, v2, v3⟩ := va (w6 n0 n3)
  have vr := V f la (by omega) hla (by rw [need, v3]; rfl)
  have headX : ∀ Xp : SX → Prop, wpX_stepMatch (fun u => match u with | (f_codeNum, f_codeOp, f_codeCon, f_codeCall, f_codeMatch, f_codeIfZero, f_codeRet, f_cellBase, f_unseen, f_capacity, f_depth, f_complete, f_open, f_stored, f_scope, f_borrowedNow, f_pending, f_liveCells, f_frames, f_spareTotal, f_state, f_borrowing, f_reusing, f_keeping, f_result, f_steps, f_fresh, f_reused, f_peak, a_arities, a_masks, a_starts, a_codes, a_extras, a_lefts, a_rights, a_scopes, a_uses, a_borrowed, a_lends, a_others, a_frees, a_afters, a_builds, a_pendingAt, a_tags, a_firsts, a_seconds, a_digests, a_counts, a_places, a_work, a_marks, a_variables, a_currents, a_held, a_spareCounts) => wX_step_105 Xp 1 f_codeNum f_codeOp f_codeCon f_codeCall f_codeMatch f_codeIfZero f_codeRet f_cellBase f_unseen f_capacity f_depth f_complete f_open f_stored f_scope f_borrowedNow f_pending f_liveCells f_frames f_spareTotal f_state f_borrowing f_reusing f_keeping f_result f_steps f_fresh f_reused f_peak a_arities a_masks a_starts a_codes a_extras a_lefts a_rights a_scopes a_uses a_borrowed a_lends a_others a_frees a_afters a_builds a_pendingAt a_tags a_firsts a_seconds a_digests a_counts a_places a_work a_marks a_variables a_currents a_held a_spareCounts) (f_codeNum, f_codeOp, f_codeCon, f_codeCall, f_codeMatch, f_codeIfZero, f_codeRet, f_cellBase, f_unseen, f_capacity, f_depth, f_complete, f_open, f_stored, f_scope, f_borrowedNow, f_pending, f_liveCells, f_frames, f_spareTotal, f_state, f_borrowing, f_reusing, f_keeping, f_result, f_steps, f_fresh, f_reused, f_peak, a_arities, a_masks, a_starts, a_codes, a_extras, a_lefts, a_rights, a_scopes, a_uses, a_borrowed, a_lends, a_others, a_frees, a_afters, a_builds, a_pendingAt, a_tags, a_firsts, a_seconds, a_digests, a_counts, a_places, a_work, a_marks, a_variables, a_currents, a_held, a_spareCounts) (nI f) (nI s) → wpX_step Xp (f_codeNum, f_codeOp, f_codeCon, f_codeCall, f_codeMatch, f_codeIfZero, f_codeRet, f_cellBase, f_unseen, f_capacity, f_depth, f_complete, f_open, f_stored, f_scope, f_borrowedNow, f_pending, f_liveCells, f_frames, f_spareTotal, f_state, f_borrowing, f_reusing, f_keeping, f_result, f_steps, f_fresh, f_reused, f_peak, a_arities, a_masks, a_starts, a_codes, a_extras, a_lefts, a_rights, a_scopes, a_uses, a_borrowed, a_lends, a_others, a_frees, a_afters, a_builds, a_pendingAt, a_tags, a_firsts, a_seconds, a_digests, a_counts, a_places, a_work, a_marks, a_variables, a_currents, a_held, a_spareCounts) := fun Xp h => by
    rw [r6]
    refine nm_r (e' := nI f) (by rw [hn]; exact nI_pred f) ⟨vp_in_nI (by omega) (by omega), ?_⟩
    rw [nI_clamp (show f < 2 ^ 31 by omega)]
    refine nm_r f1 ⟨vp_in_nI (by omega) (by omega), ?_⟩
    rw [nI_clamp (show s < 2 ^ 31 by omega)]
    rw [r6] at h
    exact nm_r hk (br_f (by decide) (br_f (by decide) (br_t rfl h)))
  have headY : ∀ (Yp : SY → Prop) (mk0 spY0 : Nat → Int32), wY_step_145 Yp (nI f) (nI s) 4 (a_extras s) (nI (f * 12)) (nI (f * 12 + sc s)) (nI (f * 12 + la)) (b_varCell (f * 12 + la)) (b_varNum (f * 12 + la)) (b_varCell (f * 12 + ra)) (b_varNum (f * 12 + ra)) f_capacity f_depth f_complete f_open f_stored f_scope f_state g_bits f_frames f_steps f_fresh f_reused f_peak g_resultCell g_resultNum g_seen a_starts a_arities a_masks a_codes a_extras a_scopes b_aOf b_bOf a_currents spY0 b_varCell b_varNum b_borrowed b_tagOf b_fieldCell b_fieldNum mk0 b_digestOf → wpY_step Yp (f_capacity, f_depth, f_complete, f_open, f_stored, f_scope, f_state, g_bits, f_frames, f_steps, f_fresh, f_reused, f_peak, g_resultCell, g_resultNum, g_seen, a_starts, a_arities, a_masks, a_codes, a_extras, a_scopes, b_aOf, b_bOf, a_currents, spY0, b_varCell, b_varNum, b_borrowed, b_tagOf, b_fieldCell, b_fieldNum, mk0, b_digestOf) := fun Yp mk0 spY0 h => by
    rw [r6] at h ⊢
    exact ys_head (k := 4) (d := sc s) (la := la) (ra := ra) hn hn20 (by omega) f1 hk w2.1 (by omega) hla hra oa ob (fun _ => h) (fun z => absurd z (by decide))
  have hfrm : ∀ v, v < sc s → bt (a_frees m) v = true → bt (a_frees s) v = true := fun v hv h => by
    refine ct_af C f2 (by omega) ?_
    rw [hA v (by omega), h, Bool.or_true]
  have hbom : ∀ v, v < sc s → bt (a_borrowed m) v = bt (a_borrowed s) v := fun v hv => by rw [w2m.2.1, w2.2.1, ebm]
  rcases vr with ⟨u1, u2⟩ | ⟨u1, c, hc, hL, u2, u3⟩
  · refine st_mend (c := 0) (x6 := 0) (x9 := 0) (x10 := b_varNum (f * 12 + la)) (t := m) (vs' := a_variables) (vc' := b_varCell) (vn' := b_varNum) (yb' := b_borrowed) C R0 hb hst hS h1 hn es hm (by omega) (by omega) hfrm hbom (fun x hx => ⟨rfl, rfl, rfl, rfl⟩) (fun v q1 q2 => by omega) (fun v q1 q2 => by omega) (fun _ v c q1 q2 => by omega) Y (by omega) (Or.inl ⟨rfl, rfl⟩) (fun Xp h => headX Xp ?_) (fun Yp mk0 spY0 h => headY Yp mk0 spY0 ?_) hp
    · exact xs_matN (by omega) (by omega) hla ela eot (by rw [u2]; exact rc_nv_lt _) h
    · rw [hS] at h ⊢
      rw [u1]
      exact ys_m2 (by omega) T1 (by omega) hst (fun z => absurd rfl z) h
  · have i1 := I.1 c hc hL
    by_cases tg : a_tags c = a_extras s
    · have hbs : ∀ v, v = sc s ∨ v = sc s + 1 → bt (a_borrowed (s + 1)) v = bt (a_borrowed s) la := fun v hv => by
        rw [w2'.2.1, g3 v (by omega), ela, nI_clamp (by omega), w2.2.1]
        have : bt (bw s) v = false := by
          cases q : bt (bw s) v
          · rfl
          · have := w2.2.2.2 v (by omega) q; omega
        rw [this, Bool.false_or]
        rcases hv with z | z
        · rw [decide_eq_true z]; rfl
        · rw [decide_eq_true z, Bool.or_true]; rfl
      have hyb := B f la (by omega) (by rw [es]; exact v1)
      rw [es] at hyb
      have x0 : ∀ x, x < f * 12 + sc s → x ≠ f * 12 + sc s ∧ x ≠ f * 12 + sc s + 1 := fun x hx => ⟨by omega, by omega⟩
      have F0 := (Y.2.1 (2 * sg c) (by have := i1.1; omega))
      have F1 := (Y.2.1 (2 * sg c + 1) (by have := i1.1; omega))
      have YB := (Y.1 (f * 12 + la) (by omega)).2.2
      refine st_mend (c := c) (x6 := 1) (x9 := 1) (x10 := nI (sg c)) (t := s + 1) (vs' := vp_updL (vp_updL a_variables (f * 12 + sc s) (a_firsts c)) (f * 12 + sc s + 1) (a_seconds c))
        (vc' := upd (upd b_varCell (f * 12 + sc s) (b_fieldCell (2 * sg c))) (f * 12 + sc s + 1) (b_fieldCell (2 * sg c + 1))) (vn' := upd (upd b_varNum (f * 12 + sc s) (b_fieldNum (2 * sg c))) (f * 12 + sc s + 1) (b_fieldNum (2 * sg c + 1)))
        (yb' := upd (upd b_borrowed (f * 12 + sc s) (b_borrowed (f * 12 + la))) (f * 12 + sc s + 1) (b_borrowed (f * 12 + la)))
        C R0 hb hst hS h1 hn es hs1 (by omega) g2 (fun v hv h => ?_) (fun v hv => ?_) (fun x hx => ?_) (fun v q1 q2 => ?_) (fun v q1 q2 => ?_) (fun hbor v q q1 q2 hq q3 q4 q5 => ?_) ?_ hc (Or.inr ⟨rfl, rfl, hL, rfl⟩) (fun Xp h => headX Xp ?_) (fun Yp mk0 spY0 h => headY Yp mk0 spY0 ?_) hp
      · refine ct_af C f2 (by omega) ?_
        rw [hA v (by omega), h, decide_eq_false (show ¬ v = sc s by omega), decide_eq_false (show ¬ v = sc s + 1 by omega)]
        simp
      · rw [w2'.2.1, g3 v (by omega), w2.2.1, decide_eq_false (show ¬ v = sc s by omega), decide_eq_false (show ¬ v = sc s + 1 by omega)]
        simp
      · obtain ⟨y1, y2⟩ := x0 x hx
        rw [pk_uLn y2, pk_uLn y1, pk_un y2, pk_un y1, pk_un y2, pk_un y1, pk_un y2, pk_un y1]
        exact ⟨rfl, rfl, rfl, rfl⟩
      · by_cases z : v = sc s
        · rw [z, pk_uLn (by omega), pk_uLs, pk_un (by omega), pk_us, pk_un (by omega), pk_us]; exact i1.2.2.1
        · have z2 : f * 12 + v = f * 12 + sc s + 1 := by omega
          rw [z2, pk_uLs, pk_us, pk_us]; exact i1.2.2.2.1
      · by_cases z : v = sc s
        · rw [hbs v (Or.inl z), z, pk_un (by omega), pk_us, hyb]
        · have z2 : f * 12 + v = f * 12 + sc s + 1 := by omega
          rw [hbs v (Or.inr (by omega)), z2, pk_us, hyb]
      · rw [hbs v (by omega)] at q4
        have hr := Q hbor f la c (by omega) hla hc (by rw [need]; exact v3) (by rw [es]; exact q4) u2
        by_cases z : v = sc s
        · rw [z, pk_uLn (by omega), pk_uLs] at q5
          exact fun P h1 h2 => h2 c hc (hr P h1 h2) q hq (Or.inl q5)
        · have z2 : f * 12 + v = f * 12 + sc s + 1 := by omega
          rw [z2, pk_uLs] at q5
          exact fun P h1 h2 => h2 c hc (hr P h1 h2) q hq (Or.inr q5)
      · exact rr_Yu (rr_Yu Y F0.1 F0.2 YB) F1.1 F1.2 YB
      · exact xs_mat1 (by omega) (by omega) hla ela w2.1 (by omega) hc u2 tg h
      · have u1' : ¬ b_varCell (f * 12 + la) = 0 := by rw [u1]; decide
        rw [← u3, ← u1] at h
        exact ys_m1 (c := sg c) (d := f * 12 + sc s) (y := f * 12 + la) (by omega) i1.1 (by omega) (by omega) (by omega) u1' u3 (by rw [i1.2.1]; exact tg) F0.1 F1.1 YB h
    · refine st_mend (c := c) (x6 := 1) (x9 := 1) (x10 := nI (sg c)) (t := m) (vs' := a_variables) (vc' := b_varCell) (vn' := b_varNum) (yb' := b_borrowed) C R0 hb hst hS h1 hn es hm (by omega) (by omega) hfrm hbom (fun x hx => ⟨rfl, rfl, rfl, rfl⟩) (fun v q1 q2 => by omega) (fun v q1 q2 => by omega) (fun _ v c q1 q2 => by omega) Y hc (Or.inr ⟨rfl, rfl, hL, rfl⟩) (fun Xp h => headX Xp ?_) (fun Yp mk0 spY0 h => headY Yp mk0 spY0 ?_) hp
      · exact xs_mat2 (by omega) (by omega) hla ela eot hc u2 tg h
      · rw [← u3, ← u1] at h
        rw [hS] at h ⊢
        exact ys_m2 (by omega) T1 (by omega) hst (fun z => ⟨sg c, i1.1, u3, by rw [i1.2.1]; exact tg⟩) h
end
end
section
/-- a digest isn't changed by a cell that the value doesn't name -/
theorem xg_d_o {dg : Nat → Int32} {c : Nat} {z : Int32} {v : Int64} (hv : rc_gv v) (hn : ¬ v = rc_cv c) : xg_d (upd dg c z) v = xg_d dg v := by
  unfold xg_d
  rcases hv with hv | ⟨q, hq, rfl⟩
  · rw [if_pos hv, if_pos hv]
  · rw [if_neg (rc_cv_ge (by omega)), if_neg (rc_cv_ge (by omega)), rc_cv_of (by omega), nI_clamp (by omega)]
    exact pk_un (fun e => hn (by rw [e]))
section
variable {L : Nat → Bool} {sg rk : Nat → Nat} {fx sy : Nat → Int64} {tg dg tY fc fn : Nat → Int32} {x y : Int64} {xc xn yc yn tag : Int32} {c c' : Nat}
/-- the heaps after a cell was built -/
theorem rr_Ib (I : rr_I L sg rk fx sy tg dg tY fc fn) (hg : ∀ d, d < 160 → L d = true → rc_gv (fx d) ∧ rc_gv (sy d)) (hcl : ∀ d q, d < 160 → q < 160 → L d = true → (fx d = rc_cv q ∨ sy d = rc_cv q) → L q = true)
    (hc : c < 160) (hLc : L c = false) (hc' : c' < 160) (hG : ym_G L sg c' = false) (hx : rc_vr L sg x xc xn) (hy : rc_vr L sg y yc yn) :
    rr_I (hp_ad L c) (fun q => if q = c then c' else sg q) (fun q => if q = c then rc_sm rk 160 + 1 else rk q) (vp_updL fx c x) (vp_updL sy c y) (upd tg c tag) (upd dg c ((((31 * xg_d dg x) + (1009 * xg_d dg y)) + tag) + 2)) (upd tY c' tag) (upd (upd fc (2 * c') xc) (2 * c' + 1) yc) (upd (upd fn (2 * c') xn) (2 * c' + 1) yn) := by
  have up : ∀ q, q < 160 → L q = true → hp_ad L c q = true ∧ (fun q => if q = c then c' else sg q) q = sg q := fun q hq hL => by
    have : q ≠ c := fun e => by rw [e, hLc] at hL; exact absurd hL (by decide)
    exact ⟨by unfold hp_ad; rw [if_neg this]; exact hL, if_neg this⟩
  have hne : ∀ q, q < 160 → L q = true → sg q ≠ c' := fun q hq hL e => by
    have := ym_Gs (sg := sg) hq hL
    rw [e, hG] at this; exact absurd this (by decide)
  have nc : ∀ v cl nm, rc_vr L sg v cl nm → ¬ v = rc_cv c := fun v cl nm h e => by
    have := (rc_vr_g h).2 c hc e
    rw [hLc] at this; exact absurd this (by decide)
  refine ⟨fun d hd hL => ?_, fun d1 d2 hd1 hd2 h1 h2 he => ?_⟩
  · by_cases e : d = c
    · subst e
      rw [pk_uLs, pk_uLs, pk_us, pk_us]
      (try dsimp only)
      rw [if_pos rfl, if_pos rfl, pk_us, pk_un (by omega), pk_us, pk_un (by omega), pk_us, pk_us, pk_us]
      refine ⟨hc', rfl, rc_vr_up hx up, rc_vr_up hy up, ?_, fun q hq h => ?_⟩
      · rw [xg_d_o (rc_vr_g hx).1 (nc _ _ _ hx), xg_d_o (rc_vr_g hy).1 (nc _ _ _ hy)]
      · have hLq : L q = true := by
          rcases h with h | h
          · exact (rc_vr_g hx).2 q hq h
          · exact (rc_vr_g hy).2 q hq h
        have : q ≠ d := fun e => by rw [e, hLc] at hLq; exact absurd hLq (by decide)
        rw [if_neg this]
        have := rc_sm_ge (f := rk) 160 hq
        omega
    · rw [show hp_ad L c d = L d from if_neg e] at hL
      obtain ⟨i1, i2, i3, i4, i5, i6⟩ := I.1 d hd hL
      have hn := hne d hd hL
      (try dsimp only)
      rw [if_neg e, if_neg e, pk_uLn e, pk_uLn e, pk_un hn, pk_un e, pk_un e, pk_un (show 2 * sg d ≠ 2 * c' + 1 by omega), pk_un (show 2 * sg d ≠ 2 * c' by omega), pk_un (show 2 * sg d ≠ 2 * c' + 1 by omega), pk_un (show 2 * sg d ≠ 2 * c' by omega),
        pk_un (show 2 * sg d + 1 ≠ 2 * c' + 1 by omega), pk_un (show 2 * sg d + 1 ≠ 2 * c' by omega), pk_un (show 2 * sg d + 1 ≠ 2 * c' + 1 by omega), pk_un (show 2 * sg d + 1 ≠ 2 * c' by omega)]
      refine ⟨i1, i2, rc_vr_up i3 up, rc_vr_up i4 up, ?_, fun q hq h => ?_⟩
      · rw [xg_d_o (hg d hd hL).1 (nc _ _ _ i3), xg_d_o (hg d hd hL).2 (nc _ _ _ i4)]; exact i5
      · have hLq := hcl d q hd hq hL h
        have : q ≠ c := fun e => by rw [e, hLc] at hLq; exact absurd hLq (by decide)
        rw [if_neg this]; exact i6 q hq h
  · (try dsimp only at he)
    by_cases e1 : d1 = c
    · by_cases e2 : d2 = c
      · rw [e1, e2]
      · rw [if_pos e1, if_neg e2] at he
        rw [show hp_ad L c d2 = L d2 from if_neg e2] at h2
        exact absurd he.symm (hne d2 hd2 h2)
    · rw [show hp_ad L c d1 = L d1 from if_neg e1] at h1
      by_cases e2 : d2 = c
      · rw [if_neg e1, if_pos e2] at he
        exact absurd he (hne d1 hd1 h1)
      · rw [show hp_ad L c d2 = L d2 from if_neg e2] at h2
        rw [if_neg e1, if_neg e2] at he
        exact I.2 d1 d2 hd1 hd2 h1 h2 he
end
section
variable {f_codeNum f_codeOp f_codeCon f_codeCall f_codeMatch f_codeIfZero f_codeRet : Int32} {f_cellBase f_unseen : Int64} {f_capacity f_depth f_complete f_open f_stored f_scope f_borrowedNow f_pending f_liveCells f_frames f_spareTotal f_state f_borrowing f_reusing f_keeping : Int32} {f_result : Int64} {f_steps f_fresh f_reused f_peak : Int32} {a_arities a_masks a_starts a_codes a_extras a_lefts a_rights a_scopes a_uses a_borrowed a_lends a_others a_frees a_afters a_builds a_pendingAt a_tags : Nat → Int32} {a_firsts a_seconds : Nat → Int64} {a_digests a_counts a_places a_work a_marks : Nat → Int32} {a_variables : Nat → Int64} {a_currents a_held a_spareCounts : Nat → Int32} {g_bits g_resultCell g_resultNum g_seen : Int32} {b_aOf b_bOf b_spare b_varCell b_varNum b_borrowed b_tagOf b_fieldCell b_fieldNum b_marked b_digestOf : Nat → Int32}
variable {sc cu sg rk sp : Nat → Nat} {bw : Nat → Int32} {L : Nat → Bool} {cm b n lv st cp dp : Nat}
theorem st_cend {PX : SX → Prop} {f c' : Nat} {sT0 fre' reu' : Int32} {sX0 : Nat → Int32} {sp0 : Nat → Nat} (C : ct_C a_arities a_masks a_starts a_codes a_extras a_lefts a_rights a_scopes a_uses a_borrowed a_lends a_others a_frees a_afters a_builds b_aOf b_bOf sc bw cm b) (R : rr_R f_capacity f_depth f_liveCells f_frames f_spareTotal a_spareCounts b_spare f_state f_borrowing f_reusing f_keeping f_result f_fresh a_codes a_borrowed a_lends a_frees a_afters a_tags a_firsts a_seconds a_digests a_counts a_places a_work a_variables a_currents a_held g_bits g_resultCell g_resultNum b_varCell b_varNum b_borrowed b_tagOf b_fieldCell b_fieldNum sc cu sg rk sp L b n lv cp dp) (hb : b ≤ st) (hst : st ≤ 96) (hS : f_stored = nI st) (h1 : f_state = 1) (hn : n = f + 1)
    (hk : a_codes (cu f) = 2) (hl : lv < 160) (hc' : c' < 160) (hG : ym_G L sg c' = false) (hkc : ¬ f_keeping = 0 → c' = lv ∧ fre' = nI (lv + 1)) (P0 : rr_P f_keeping f_capacity sT0 sX0 sX0 sp0 n (lv + 1) cp)
    (hcl : ∀ Q : Int32 → SX → Prop, Q 1 (f_codeNum, f_codeOp, f_codeCon, f_codeCall, f_codeMatch, f_codeIfZero, f_codeRet, f_cellBase, f_unseen, f_capacity, f_depth, f_complete, f_open, f_stored, f_scope, f_borrowedNow, f_pending, f_liveCells, f_frames, sT0, f_state, f_borrowing, f_reusing, f_keeping, f_result, f_steps, fre', reu', f_peak, a_arities, a_masks, a_starts, a_codes, a_extras, a_lefts, a_rights, a_scopes, a_uses, a_borrowed, a_lends, a_others, a_frees, a_afters, a_builds, a_pendingAt, a_tags, a_firsts, a_seconds, a_digests, a_counts, a_places, a_work, a_marks, a_variables, a_currents, a_held, sX0) → wpX_claim Q (f_codeNum, f_codeOp, f_codeCon, f_codeCall, f_codeMatch, f_codeIfZero, f_codeRet, f_cellBase, f_unseen, f_capacity, f_depth, f_complete, f_open, f_stored, f_scope, f_borrowedNow, f_pending, f_liveCells, f_frames, f_spareTotal, f_state, f_borrowing, f_reusing, f_keeping, f_result, f_steps, f_fresh, f_reused, f_peak, a_arities, a_masks, a_starts, a_codes, a_extras, a_lefts, a_rights, a_scopes, a_uses, a_borrowed, a_lends, a_others, a_frees, a_afters, a_builds, a_pendingAt, a_tags, a_firsts, a_seconds, a_digests, a_counts, a_places, a_work, a_marks, a_variables, a_currents, a_held, a_spareCounts) (nI f))
    (hpl : ∀ spY0 mk0 : Nat → Int32, (∀ g, g < n → spY0 g = nI (sp g)) → ∃ sY0 : Nat → Int32, (∀ g, g < n → sY0 g = nI (sp0 g)) ∧ ∀ Q : Int32 → SY → Prop, (∀ mk, Q (nI c') (f_capacity, f_depth, f_complete, f_open, f_stored, f_scope, f_state, g_bits, f_frames, f_steps, fre', reu', f_peak, g_resultCell, g_resultNum, g_seen, a_starts, a_arities, a_masks, a_codes, a_extras, a_scopes, b_aOf, b_bOf, a_currents, sY0, b_varCell, b_varNum, b_borrowed, b_tagOf, b_fieldCell, b_fieldNum, mk, b_digestOf)) → wpY_place Q (f_capacity, f_depth, f_complete, f_open, f_stored, f_scope, f_state, g_bits, f_frames, f_steps, f_fresh, f_reused, f_peak, g_resultCell, g_resultNum, g_seen, a_starts, a_arities, a_masks, a_codes, a_extras, a_scopes, b_aOf, b_bOf, a_currents, spY0, b_varCell, b_varNum, b_borrowed, b_tagOf, b_fieldCell, b_fieldNum, mk0, b_digestOf) (nI f))
    (hp : ∀ (n_lc n_fr n_st n_ss : Int32) (n_rs : Int64) (n_sp n_fe n_re n_pk : Int32) (n_tg : Nat → Int32) (n_fx n_sy : Nat → Int64) (n_dg n_cn n_pl n_wk : Nat → Int32) (n_vs : Nat → Int64) (n_cr n_hd n_sc : Nat → Int32) (m_rc m_rn : Int32) (m_vc m_vn m_yb m_tY m_fc m_fn : Nat → Int32) (cu' sg' rk' sp' : Nat → Nat) (L' : Nat → Bool) (n' lv' : Nat), rr_R f_capacity f_depth n_lc n_fr n_st n_sc (fun g => nI (sp' g)) n_ss f_borrowing f_reusing f_keeping n_rs n_fe a_codes a_borrowed a_lends a_frees a_afters n_tg n_fx n_sy n_dg n_cn n_pl n_wk n_vs n_cr n_hd g_bits m_rc m_rn m_vc m_vn m_yb m_tY m_fc m_fn sc cu' sg' rk' sp' L' b n' lv' cp dp → (∀ Yp : SY → Prop, (∀ mk spY, (∀ g, g < n' → spY g = nI (sp' g)) → Yp (f_capacity, f_depth, f_complete, f_open, f_stored, f_scope, n_ss, g_bits, n_fr, n_sp, n_fe, n_re, n_pk, m_rc, m_rn, g_seen, a_starts, a_arities, a_masks, a_codes, a_extras, a_scopes, b_aOf, b_bOf, n_cr, spY, m_vc, m_vn, m_yb, m_tY, m_fc, m_fn, mk, b_digestOf)) → ∀ mk0 spY0, (∀ g, g < n → spY0 g = nI (sp g)) → wpY_step Yp (f_capacity, f_depth, f_complete, f_open, f_stored, f_scope, f_state, g_bits, f_frames, f_steps, f_fresh, f_reused, f_peak, g_resultCell, g_resultNum, g_seen, a_starts, a_arities, a_masks, a_codes, a_extras, a_scopes, b_aOf, b_bOf, a_currents, spY0, b_varCell, b_varNum, b_borrowed, b_tagOf, b_fieldCell, b_fieldNum, mk0, b_digestOf)) → PX (f_codeNum, f_codeOp, f_codeCon, f_codeCall, f_codeMatch, f_codeIfZero, f_codeRet, f_cellBase, f_unseen, f_capacity, f_depth, f_complete, f_open, f_stored, f_scope, f_borrowedNow, f_pending, n_lc, n_fr, n_st, n_ss, f_borrowing, f_reusing, f_keeping, n_rs, n_sp, n_fe, n_re, n_pk, a_arities, a_masks, a_starts, a_codes, a_extras, a_lefts, a_rights, a_scopes, a_uses, a_borrowed, a_lends, a_others, a_frees, a_afters, a_builds, a_pendingAt, n_tg, n_fx, n_sy, n_dg, n_cn, n_pl, n_wk, a_marks, n_vs, n_cr, n_hd, n_sc)) : wpX_step PX (f_codeNum, f_codeOp, f_codeCon, f_codeCall, f_codeMatch, f_codeIfZero, f_codeRet, f_cellBase, f_unseen, f_capacity, f_depth, f_complete, f_open, f_stored, f_scope, f_borrowedNow, f_pending, f_liveCells, f_frames, f_spareTotal, f_state, f_borrowing, f_reusing, f_keeping, f_result, f_steps, f_fresh, f_reused, f_peak, a_arities, a_masks, a_starts, a_codes, a_extras, a_lefts, a_rights, a_scopes, a_uses, a_borrowed, a_lends, a_others, a_frees, a_afters, a_builds, a_pendingAt, a_tags, a_firsts, a_seconds, a_digests, a_counts, a_places, a_work, a_marks, a_variables, a_currents, a_held, a_spareCounts) := by
  obtain ⟨⟨r1, r2, r3, r4⟩, r5, r6, P, K⟩ := R
  have K0 := K
  obtain ⟨F, V, B, Q, I, Y, M, Lv, S, SS⟩ := K
  obtain ⟨f1, f2, f3, f4⟩ := F.2 f (by omega)
  obtain ⟨s, es⟩ : ∃ s, cu f = s := ⟨_, rfl⟩
  rw [es] at f1 f2 hk
  have hS1 := S (by rw [h1]; decide)
  subst r5 r6 hS h1 r1
  have hb96 := C.1
  have hn20 := F.1
  have hk4 : a_codes s = 0 ∨ a_codes s = 1 ∨ a_codes s = 2 ∨ a_codes s = 3 := Or.inr (Or.inr (Or.inl hk))
  obtain ⟨e, he, T, T1, hs1⟩ := ct_nx C f2 hk4
  obtain ⟨-, w2, -, -, -, w6, w7, -, w9, -⟩ := C.2.2.2.1 s f2
  obtain ⟨g1, g2, g3⟩ := w9 hk4
  have w2' := (C.2.2.2.1 (s + 1) hs1).2.1
  have hA := ((C.2.2.2.2.1 s f2).2.2.2 hk4).1
  obtain ⟨la, ra, hla, hra, oa, ob, ela, era, va, vb⟩ := ct_opr C f2
  have need : rr_need a_frees a_afters cu n f = a_frees s := by unfold rr_need; rw [if_pos hn.symm, es]
  have h12 := w2.2.2.1
  have hfr : ∀ v, v < sc s → bt (a_frees (s + 1)) v = true → bt (a_frees s) v = true := fun v hv h => by
    refine ct_af C f2 (by omega) ?_
    rw [hA v (by omega), h, decide_eq_false (show ¬ v = sc s by omega)]; rfl
  have hbo : ∀ v, v < sc s → bt (a_borrowed (s + 1)) v = bt (a_borrowed s) v := fun v hv => by rw [w2'.2.1, w2.2.1, g3]
  have hlt : ∀ v, v < 32 → bt (a_frees (s + 1)) v = true → v < sc (s + 1) := fun v hv h => ((ct_F C he T1 hv).mp h).1
  have hE : ∀ c, c < 160 → xr_E 1 f_result c ≤ 10 := fun c _ => by unfold xr_E; rw [if_neg (by decide)]; omega
  have hbs : bt (a_borrowed s) (sc s) = false := by
    cases q : bt (a_borrowed s) (sc s)
    · rfl
    · rw [w2.2.1] at q
      have := w2.2.2.2 (sc s) (by omega) q; omega
  have hheld : a_held f = xg_m f_borrowing (a_frees s) (a_borrowed s) := by rw [f4]; unfold rr_hold; rw [if_pos hn.symm, es]
  have hHd : bt (a_held f) (sc s) = false := by
    rw [hheld]
    have : bt (a_frees s) (sc s) = false := by
      cases q : bt (a_frees s) (sc s)
      · rfl
      · have := ((ct_F C he T (by omega)).mp q).1; omega
    unfold xg_m
    split
    · exact this
    · rw [b_and, this]; rfl
  have n0 : a_codes s ≠ 0 := by rw [hk]; decide
  have n3 : a_codes s ≠ 3 := by rw [hk]; decide
  obtain ⟨va1, va2, va3⟩ := va (w6 n0 n3)
  obtain ⟨vb1, vb2, vb3⟩ := vb (w7 (Or.inr hk))
  have vx := V f la (by omega) hla (by rw [need, va3]; rfl)
  have vy := V f ra (by omega) hra (by rw [need, vb3]; rfl)
  have hspb := rr_spb P0
  refine nm_r (e' := nI f) (by rw [hn]; exact nI_pred f) ⟨vp_in_nI (by omega) (by omega), ?_⟩
  rw [nI_clamp (show f < 2 ^ 31 by omega)]
  refine nm_r f1 ⟨vp_in_nI (by omega) (by omega), ?_⟩
  rw [nI_clamp (show s < 2 ^ 31 by omega)]
  refine nm_r hk (br_t rfl ?_)
  refine xs_con (d := sc s) (la := la) (ra := ra) (H := xr_H n a_held) (E := xr_E 1 f_result) (L := L) (by omega) (by omega) w2.1 (by omega) hla hra ela era hcl hl hE (fun i hi => xr_Hx (by omega) hi) hHd (rc_vr_g vx).1 (rc_vr_g vy).1 (rc_vr_g vx).2 (rc_vr_g vy).2 (fun i hi hne q1 => ?_) hS1 (fun c L' cnt' pl' lv' wk' hc hLc hck hs hk' S' => ?_)
  · cases q2 : bt (a_held f) i
    · rw [hheld] at q2
      have := rr_gain (sc := sc) (by omega) (hlt i (by omega)) hfr hbo q1 q2
      omega
    · rfl
  · have S2 := hx_vs (H' := xr_H n (upd a_held f (xg_m f_borrowing (a_frees (s + 1)) (a_borrowed (s + 1))))) (fun x _ => (xh_row (by omega) x).symm) (fun _ _ _ => rfl) S'
    have Lv' := rr_LS S2
    have hr : ¬ f_borrowing = 0 → (∀ x q, x < f * 12 → q < 160 → bt (a_held (x / 12)) (x % 12) = true → a_variables x = rc_cv q → L q = true) ∧ ∀ d q, d < 160 → q < 160 → L d = true → (a_firsts d = rc_cv q ∨ a_seconds d = rc_cv q) → L q = true := fun hb => by
      refine ⟨fun x q hx hq hh e => ?_, fun d q hd hq hL hch => Lv.2.2.1 d q hd hq hL hch⟩
      have hkp : f_keeping = 0 := by
        by_cases z : f_keeping = 0
        · exact z
        · exact absurd (M.2.2.2.2.2.2 z).1 hb
      refine Lv.1 hkp x q (by omega) hq ?_ e
      unfold xr_H
      rw [decide_eq_true (show x < n * 12 by omega), hh]; rfl
    have up : ∀ q, q < 160 → L q = true → hp_ad L c q = true ∧ (fun q => if q = c then c' else sg q) q = sg q := fun q hq hL => by
      have : q ≠ c := fun e => by rw [e, hLc] at hL; exact absurd hL (by decide)
      exact ⟨by unfold hp_ad; rw [if_neg this]; exact hL, if_neg this⟩
    obtain ⟨F', V1, B', Q'⟩ := rr_stay (t := s + 1) (L1 := hp_ad L c) (sg' := fun q => if q = c then c' else sg q) (fx' := vp_updL a_firsts c (a_variables (f * 12 + la))) (sy' := vp_updL a_seconds c (a_variables (f * 12 + ra)))
      (vs' := vp_updL a_variables (f * 12 + sc s) (rc_cv c)) (vc' := upd b_varCell (f * 12 + sc s) 1) (vn' := upd b_varNum (f * 12 + sc s) (nI c')) (yb' := upd b_borrowed (f * 12 + sc s) 0) C hn F V B Q hr es hs1 (by omega) g2 hfr hbo
      (fun x hx => ⟨pk_uLn (by omega), pk_un (by omega), pk_un (by omega), pk_un (by omega)⟩) up
      (fun d hd hL => by
        have : d ≠ c := fun e => by rw [e, hLc] at hL; exact absurd hL (by decide)
        exact ⟨pk_uLn this, pk_uLn this⟩)
      (fun v q1 q2 q3 => by
        have ev : v = sc s := by omega
        rw [ev, pk_uLs, pk_us, pk_us]
        exact Or.inr ⟨rfl, c, hc, if_pos rfl, rfl, by (try dsimp only); rw [if_pos rfl]⟩)
      (fun v q1 q2 => by
        have ev : v = sc s := by omega
        rw [ev, pk_us, w2'.2.1, g3, ← w2.2.1, hbs, Bool.and_false]; rfl)
      (fun _ v q q1 q2 q3 q4 q5 q6 => by
        have ev : v = sc s := by omega
        rw [ev, w2'.2.1, g3, ← w2.2.1, hbs] at q5
        exact absurd q5 (by decide))
    have I1 := rr_Ib (tag := a_extras s) I (fun d hd hL => Lv.2.2.2.2.2.2 d hd hL) (fun d q hd hq hL h => Lv.2.2.1 d q hd hq hL h) hc hLc hc' hG vx vy
    have FX := Y.1 (f * 12 + la) (by omega)
    have FY := Y.1 (f * 12 + ra) (by omega)
    have Y1 : rr_Y (upd b_varCell (f * 12 + sc s) 1) (upd b_varNum (f * 12 + sc s) (nI c')) (upd b_borrowed (f * 12 + sc s) 0) (upd (upd b_fieldCell (2 * c') (b_varCell (f * 12 + la))) (2 * c' + 1) (b_varCell (f * 12 + ra))) (upd (upd b_fieldNum (2 * c') (b_varNum (f * 12 + la))) (2 * c' + 1) (b_varNum (f * 12 + ra))) g_resultCell g_resultNum := by
      have Ya := rr_Yu (x := f * 12 + sc s) (p1 := 1) (p2 := nI c') (p3 := 0) Y (Or.inr rfl) (fun _ => ⟨c', hc', rfl⟩) (Or.inl rfl)
      refine ⟨Ya.1, fun x hx => ?_, Y.2.2⟩
      by_cases z1 : x = 2 * c' + 1
      · rw [z1, pk_us, pk_us]; exact ⟨FY.1, FY.2.1⟩
      · by_cases z2 : x = 2 * c'
        · rw [z2, pk_un (by omega), pk_us, pk_un (by omega), pk_us]; exact ⟨FX.1, FX.2.1⟩
        · rw [pk_un z1, pk_un z2, pk_un z1, pk_un z2]; exact Y.2.1 x hx
    have hl1 : lv' ≤ lv + 1 := by
      have e1 := Lv'.2.2.2.2.2.1
      have e0 := Lv.2.2.2.2.2.1
      have hm : rc_sm (fun q => if L' q = true then 1 else 0) 160 ≤ rc_sm (fun q => if hp_ad L c q = true then 1 else 0) 160 := rc_sm_mono 160 (fun q _ => by
        (try dsimp only)
        by_cases w : L' q = true
        · rw [if_pos w, if_pos (hs q w)]; exact Nat.le_refl _
        · rw [if_neg w]; exact Nat.zero_le _)
      have hu := rc_sm_upd (f := fun q => if L q = true then 1 else 0) (g := fun q => if hp_ad L c q = true then 1 else 0) (x := c) (fun j hj => by (try dsimp only); unfold hp_ad; rw [if_neg hj]) 160 hc
      (try dsimp only at hu)
      rw [hLc, show hp_ad L c c = true from if_pos rfl, if_pos rfl, if_neg (by decide)] at hu
      omega
    have K' : rr_K 1 f_borrowing f_reusing f_keeping f_result fre' a_codes a_borrowed a_lends a_frees a_afters (upd a_tags c (a_extras s)) (vp_updL a_firsts c (a_variables (f * 12 + la))) (vp_updL a_seconds c (a_variables (f * 12 + ra))) (upd a_digests c ((((31 * xg_d a_digests (a_variables (f * 12 + la))) + (1009 * xg_d a_digests (a_variables (f * 12 + ra)))) + a_extras s) + 2)) cnt' pl' wk' (vp_updL a_variables (f * 12 + sc s) (rc_cv c)) (upd a_currents f (nI (s + 1))) (upd a_held f (xg_m f_borrowing (a_frees (s + 1)) (a_borrowed (s + 1)))) g_bits g_resultCell g_resultNum (upd b_varCell (f * 12 + sc s) 1) (upd b_varNum (f * 12 + sc s) (nI c')) (upd b_borrowed (f * 12 + sc s) 0) (upd b_tagOf c' (a_extras s)) (upd (upd b_fieldCell (2 * c') (b_varCell (f * 12 + la))) (2 * c' + 1) (b_varCell (f * 12 + ra))) (upd (upd b_fieldNum (2 * c') (b_varNum (f * 12 + la))) (2 * c' + 1) (b_varNum (f * 12 + ra))) sc (fun g => if g = f then s + 1 else cu g) (fun q => if q = c then c' else sg q) (fun q => if q = c then rc_sm rk 160 + 1 else rk q) L' b n lv' := by
      refine ⟨F', ?_, B', Q', rr_Im I1 hs Lv', Y1, M, Lv', fun _ => S2, SS.1, SS.2.1, SS.2.2.1, fun z => absurd z (by decide), fun z => ?_⟩
      · exact rr_live F' Q' Lv' (fun z q _ hq => by rw [(hk' z).1]; exact hq) V1
      · rw [(hk' z).2]
        refine ⟨(hkc z).2, fun q hq => ?_⟩
        (try dsimp only)
        by_cases e1 : q = c
        · rw [if_pos e1, (hkc z).1, e1, hck z]
        · rw [if_neg e1]
          have := hck z
          exact (SS.2.2.2.2 z).2 q (by omega)
    obtain ⟨Bd, e2, hBd, ebd, he2, TB, hTB⟩ := yk_bd C K' (by omega)
    have hcu' : (if n - 1 = f then s + 1 else cu (n - 1)) = s + 1 := if_pos (by omega)
    rw [hcu'] at ebd TB hTB
    have P00 := P0
    obtain ⟨p1, p2, p3, p4, p5, p6, p7⟩ := P0
    unfold wX_step_105
    refine br_f (by decide) ?_
    rw [p2]
    refine xs_finish (n := n) (s := s + 1) (B := Bd) (sp := sp0) hn20 (fun _ => ⟨by rw [show n - 1 = f by omega, pk_us], by omega, ebd⟩) (by omega) (fun g hg => (p1 g hg).1) (fun g hg => by have := hspb.1 g hg; omega) rfl (fun sX hX => ?_)
    refine hp _ _ _ _ _ _ _ _ _ _ _ _ _ _ _ _ _ _ _ _ _ _ _ _ _ _ _ _ _ _ _ (ys_cut sp0 n Bd) _ _ _ ⟨⟨rfl, r2, r3, r4⟩, rfl, rfl, rr_Pcut P00 hl1 hX (fun g _ => rfl), K'⟩ (fun Yp hYp mk0 spY0 hs0 => ?_)
    obtain ⟨sY0, hsY0, hpl2⟩ := hpl spY0 mk0 hs0
    refine ys_head (k := 2) (d := sc s) (la := la) (ra := ra) hn hn20 (by omega) f1 hk w2.1 (by omega) hla hra oa ob (fun _ => ?_) (fun z => absurd z (by decide))
    refine ys_con (c := c') (by omega) (by omega) hc' FX.1 FY.1 hpl2 (fun mk1 => ?_)
    exact yk_559 (B := Bd) (e := e2) (sp := sp0) C K' hb hst (by decide) hBd (fun _ => by (try dsimp only); rw [hcu']; exact ⟨ebd, he2, TB, hTB⟩) (fun g hg => by have := hspb.1 g hg; omega) hsY0 hYp
end
end
section
section
variable {f_codeNum f_codeOp f_codeCon f_codeCall f_codeMatch f_codeIfZero f_codeRet : Int32} {f_cellBase f_unseen : Int64} {f_capacity f_depth f_complete f_open f_stored f_scope f_borrowedNow f_pending f_liveCells f_frames f_spareTotal f_state f_borrowing f_reusing f_keeping : Int32} {f_result : Int64} {f_steps f_fresh f_reused f_peak : Int32} {a_arities a_masks a_starts a_codes a_extras a_lefts a_rights a_scopes a_uses a_borrowed a_lends a_others a_frees a_afters a_builds a_pendingAt a_tags : Nat → Int32} {a_firsts a_seconds : Nat → Int64} {a_digests a_counts a_places a_work a_marks : Nat → Int32} {a_variables : Nat → Int64} {a_currents a_held a_spareCounts : Nat → Int32} {g_bits g_resultCell g_resultNum g_seen : Int32} {b_aOf b_bOf b_spare b_varCell b_varNum b_borrowed b_tagOf b_fieldCell b_fieldNum b_marked b_digestOf : Nat → Int32}
variable {sc cu sg rk sp : Nat → Nat} {bw : Nat → Int32} {L : Nat → Bool} {cm b n lv st cp dp : Nat}
/-- a run that stops as full or too deep -/
theorem rk_stop {w : Int32} (hw : w = 3 ∨ w = 4) (h0 : 0 < n) (K : rr_K 1 f_borrowing f_reusing f_keeping f_result f_fresh a_codes a_borrowed a_lends a_frees a_afters a_tags a_firsts a_seconds a_digests a_counts a_places a_work a_variables a_currents a_held g_bits g_resultCell g_resultNum b_varCell b_varNum b_borrowed b_tagOf b_fieldCell b_fieldNum sc cu sg rk L b n lv) : rr_K w f_borrowing f_reusing f_keeping f_result f_fresh a_codes a_borrowed a_lends a_frees a_afters a_tags a_firsts a_seconds a_digests a_counts a_places a_work a_variables a_currents a_held g_bits g_resultCell g_resultNum b_varCell b_varNum b_borrowed b_tagOf b_fieldCell b_fieldNum sc cu sg rk L b n lv := by
  obtain ⟨F, V, B, Q, I, Y, M, Lv, S, SS⟩ := K
  have w2 : ¬ w = 2 := by rcases hw with z | z <;> (rw [z]; decide)
  have w0 : ¬ w = 0 := by rcases hw with z | z <;> (rw [z]; decide)
  have eE : xr_E w f_result = xr_E 1 f_result := by
    funext c
    unfold xr_E
    rw [if_neg w2, if_neg (by decide)]
  refine ⟨F, V, B, Q, I, Y, M, by rw [eE]; exact Lv, fun _ => by rw [eE]; exact S (by decide), ?_, fun z => ?_, fun _ => h0, fun z => absurd z w2, SS.2.2.2.2⟩
  · rcases hw with z | z
    · exact Or.inr (Or.inr (Or.inr (Or.inl z)))
    · exact Or.inr (Or.inr (Or.inr (Or.inr z)))
  · rcases z with z | z
    · exact absurd z w0
    · exact absurd z w2
theorem st_con {PX : SX → Prop} {f : Nat} (C : ct_C a_arities a_masks a_starts a_codes a_extras a_lefts a_rights a_scopes a_uses a_borrowed a_lends a_others a_frees a_afters a_builds b_aOf b_bOf sc bw cm b) (R : rr_R f_capacity f_depth f_liveCells f_frames f_spareTotal a_spareCounts b_spare f_state f_borrowing f_reusing f_keeping f_result f_fresh a_codes a_borrowed a_lends a_frees a_afters a_tags a_firsts a_seconds a_digests a_counts a_places a_work a_variables a_currents a_held g_bits g_resultCell g_resultNum b_varCell b_varNum b_borrowed b_tagOf b_fieldCell b_fieldNum sc cu sg rk sp L b n lv cp dp) (hb : b ≤ st) (hst : st ≤ 96) (hS : f_stored = nI st) (h1 : f_state = 1) (hn : n = f + 1)
    (hk : a_codes (cu f) = 2) (hp : ∀ (n_lc n_fr n_st n_ss : Int32) (n_rs : Int64) (n_sp n_fe n_re n_pk : Int32) (n_tg : Nat → Int32) (n_fx n_sy : Nat → Int64) (n_dg n_cn n_pl n_wk : Nat → Int32) (n_vs : Nat → Int64) (n_cr n_hd n_sc : Nat → Int32) (m_rc m_rn : Int32) (m_vc m_vn m_yb m_tY m_fc m_fn : Nat → Int32) (cu' sg' rk' sp' : Nat → Nat) (L' : Nat → Bool) (n' lv' : Nat), rr_R f_capacity f_depth n_lc n_fr n_st n_sc (fun g => nI (sp' g)) n_ss f_borrowing f_reusing f_keeping n_rs n_fe a_codes a_borrowed a_lends a_frees a_afters n_tg n_fx n_sy n_dg n_cn n_pl n_wk n_vs n_cr n_hd g_bits m_rc m_rn m_vc m_vn m_yb m_tY m_fc m_fn sc cu' sg' rk' sp' L' b n' lv' cp dp → (∀ Yp : SY → Prop, (∀ mk spY, (∀ g, g < n' → spY g = nI (sp' g)) → Yp (f_capacity, f_depth, f_complete, f_open, f_stored, f_scope, n_ss, g_bits, n_fr, n_sp, n_fe, n_re, n_pk, m_rc, m_rn, g_seen, a_starts, a_arities, a_masks, a_codes, a_extras, a_scopes, b_aOf, b_bOf, n_cr, spY, m_vc, m_vn, m_yb, m_tY, m_fc, m_fn, mk, b_digestOf)) → ∀ mk0 spY0, (∀ g, g < n → spY0 g = nI (sp g)) → wpY_step Yp (f_capacity, f_depth, f_complete, f_open, f_stored, f_scope, f_state, g_bits, f_frames, f_steps, f_fresh, f_reused, f_peak, g_resultCell, g_resultNum, g_seen, a_starts, a_arities, a_masks, a_codes, a_extras, a_scopes, b_aOf, b_bOf, a_currents, spY0, b_varCell, b_varNum, b_borrowed, b_tagOf, b_fieldCell, b_fieldNum, mk0, b_digestOf)) → PX (f_codeNum, f_codeOp, f_codeCon, f_codeCall, f_codeMatch, f_codeIfZero, f_codeRet, f_cellBase, f_unseen, f_capacity, f_depth, f_complete, f_open, f_stored, f_scope, f_borrowedNow, f_pending, n_lc, n_fr, n_st, n_ss, f_borrowing, f_reusing, f_keeping, n_rs, n_sp, n_fe, n_re, n_pk, a_arities, a_masks, a_starts, a_codes, a_extras, a_lefts, a_rights, a_scopes, a_uses, a_borrowed, a_lends, a_others, a_frees, a_afters, a_builds, a_pendingAt, n_tg, n_fx, n_sy, n_dg, n_cn, n_pl, n_wk, a_marks, n_vs, n_cr, n_hd, n_sc)) : wpX_step PX (f_codeNum, f_codeOp, f_codeCon, f_codeCall, f_codeMatch, f_codeIfZero, f_codeRet, f_cellBase, f_unseen, f_capacity, f_depth, f_complete, f_open, f_stored, f_scope, f_borrowedNow, f_pending, f_liveCells, f_frames, f_spareTotal, f_state, f_borrowing, f_reusing, f_keeping, f_result, f_steps, f_fresh, f_reused, f_peak, a_arities, a_masks, a_starts, a_codes, a_extras, a_lefts, a_rights, a_scopes, a_uses, a_borrowed, a_lends, a_others, a_frees, a_afters, a_builds, a_pendingAt, a_tags, a_firsts, a_seconds, a_digests, a_counts, a_places, a_work, a_marks, a_variables, a_currents, a_held, a_spareCounts) := by
  have R0 := R
  obtain ⟨⟨r1, r2, r3, r4⟩, r5, r6, P, K⟩ := R
  have K0 := K
  have hspb := rr_spb P
  obtain ⟨F, V, B, Q, I, Y, M, Lv, S, SS⟩ := K
  obtain ⟨p1, p2, p3, p4, p5, p6, p7⟩ := P
  have hn20 := F.1
  have hlv := Lv.2.2.2.2.2.1
  have hcnt := ym_Gn (fun c hc hL => (I.1 c hc hL).1) I.2
  rw [← hlv] at hcnt
  have hMk : ∀ (spY : Nat → Int32) (Q : Int32 → SY → Prop) (mk0 : Nat → Int32), (∀ mk, (∀ c, c < 160 → mk c = rc_b (ym_G L sg c)) → Q (nI lv) (nI cp, f_depth, f_complete, f_open, nI st, f_scope, f_state, g_bits, nI n, f_steps, f_fresh, f_reused, f_peak, g_resultCell, g_resultNum, g_seen, a_starts, a_arities, a_masks, a_codes, a_extras, a_scopes, b_aOf, b_bOf, a_currents, spY, b_varCell, b_varNum, b_borrowed, b_tagOf, b_fieldCell, b_fieldNum, mk, b_digestOf)) → wpY_mark Q (nI cp, f_depth, f_complete, f_open, nI st, f_scope, f_state, g_bits, nI n, f_steps, f_fresh, f_reused, f_peak, g_resultCell, g_resultNum, g_seen, a_starts, a_arities, a_masks, a_codes, a_extras, a_scopes, b_aOf, b_bOf, a_currents, spY, b_varCell, b_varNum, b_borrowed, b_tagOf, b_fieldCell, b_fieldNum, mk0, b_digestOf) 1 := fun spY Q' mk0 hQ =>
    yk_mark (f_capacity := nI cp) (b_spare := spY) (b_marked := mk0) C K0 hb hst hQ
  have hlv160 : lv ≤ 160 := by rw [← hcnt]; have := rc_sm_le (f := fun c => if ym_G L sg c = true then 1 else 0) (m := 1) 160 (fun j _ => by (try dsimp only); split <;> omega); omega
  have hsum0 : ¬ f_keeping = 0 → rc_sm sp n = 0 := fun z => rc_sm_0 n (fun g hg => p4 z g hg)
  by_cases hfull : sp f = 0 ∧ lv + rc_sm sp n = (if f_keeping = 0 then cp else 160)
  · -- full
    obtain ⟨q1, q2⟩ := hfull
    obtain ⟨f1, f2, f3, f4⟩ := F.2 f (by omega)
    obtain ⟨s, es⟩ : ∃ s, cu f = s := ⟨_, rfl⟩
    rw [es] at f1 f2 hk
    have hb96 := C.1
    obtain ⟨-, w2, -⟩ := C.2.2.2.1 s f2
    obtain ⟨la, ra, hla, hra, oa, ob, ela, era, va, vb⟩ := ct_opr C f2
    subst r5 r6 hS h1 r1 p2 p5
    have hsf := (p1 f (by omega)).1
    rw [q1] at hsf
    have fin : PX (f_codeNum, f_codeOp, f_codeCon, f_codeCall, f_codeMatch, f_codeIfZero, f_codeRet, f_cellBase, f_unseen, nI cp, nI dp, f_complete, f_open, nI st, f_scope, f_borrowedNow, f_pending, nI lv, nI n, nI (rc_sm sp n), 3, f_borrowing, f_reusing, f_keeping, f_result, f_steps, f_fresh, f_reused, f_peak, a_arities, a_masks, a_starts, a_codes, a_extras, a_lefts, a_rights, a_scopes, a_uses, a_borrowed, a_lends, a_others, a_frees, a_afters, a_builds, a_pendingAt, a_tags, a_firsts, a_seconds, a_digests, a_counts, a_places, a_work, a_marks, a_variables, a_currents, a_held, a_spareCounts) := by
      refine hp _ _ _ _ _ _ _ _ _ _ _ _ _ _ _ _ _ _ _ _ _ _ _ _ _ _ _ _ _ _ _ sp _ _ _ ⟨⟨rfl, r2, r3, r4⟩, rfl, rfl, ⟨fun g hg => ⟨(p1 g hg).1, rfl⟩, rfl, p3, p4, rfl, p6, p7⟩, rk_stop (Or.inl rfl) (by omega) K0⟩ (fun Yp hYp mk0 spY0 hs0 => ?_)
      refine ys_head (k := 2) (d := sc s) (la := la) (ra := ra) hn hn20 (by omega) f1 hk w2.1 w2.2.2.1 hla hra oa ob (fun _ => ?_) (fun z => absurd z (by decide))
      refine ys_conF (fun Q' hQ => ?_) (fun mk => hYp mk spY0 hs0)
      exact ys_place (G := ym_G L sg) (lv := lv) (kp := f_keeping) (sp := sp) (lim := if f_keeping = 0 then cp else 160) hn20 (by omega) hs0 (fun g hg => by have := hspb.1 g hg; omega) (hMk spY0) M.2.2.2.2.2.1 rfl p7 (by omega) (fun _ _ mk _ => hQ mk) (fun z => absurd q2 (z q1))
    refine nm_r (e' := nI f) (by rw [hn]; exact nI_pred f) ⟨vp_in_nI (by omega) (by omega), ?_⟩
    rw [nI_clamp (show f < 2 ^ 31 by omega)]
    refine nm_r f1 ⟨vp_in_nI (by omega) (by omega), ?_⟩
    rw [nI_clamp (show s < 2 ^ 31 by omega)]
    refine nm_r hk (br_t rfl ?_)
    unfold wpX_stepCon
    by_cases hkp : f_keeping = 0
    · rw [if_pos hkp] at q2
      refine xs_clN hkp (by omega) hsf (by omega) (by omega) (br_t rfl ?_)
      unfold wX_step_105
      exact br_t rfl fin
    · rw [if_neg hkp, hsum0 hkp] at q2
      refine xs_clKN hkp (by omega) (by omega) (br_t rfl ?_)
      unfold wX_step_105
      exact br_t rfl fin
  · have hl : lv < 160 := by
      by_cases hkp : f_keeping = 0
      · have := p3 hkp; omega
      · rw [if_neg hkp, hsum0 hkp] at hfull
        have := p4 hkp f (by omega)
        omega
    obtain ⟨c', c1, c2, c3⟩ := rc_free (G := ym_G L sg) (by omega)
    have hkc' : ¬ f_keeping = 0 → c' = lv := fun z => by
      obtain ⟨k1, k2⟩ := SS.2.2.2.2 z
      have hL := Lv.2.2.2.2.1 z
      have g : ∀ i, i < 160 → (ym_G L sg i = true ↔ i < lv) := fun i hi => by
        rw [ym_Gi]
        constructor
        · rintro ⟨d, d1, d2, d3⟩
          have := (hL d d1).mp d2
          rw [k2 d this] at d3; omega
        · intro h
          exact ⟨i, hi, (hL i hi).mpr h, k2 i h⟩
      rcases Nat.lt_trichotomy c' lv with w | w | w
      · rw [(g c' c1).mpr w] at c2; exact absurd c2 (by decide)
      · exact w
      · have := (g lv hl).mp (c3 lv w); omega
    by_cases h0 : sp f = 0
    · have hnf : ¬ lv + rc_sm sp n = (if f_keeping = 0 then cp else 160) := fun z => hfull ⟨h0, z⟩
      refine st_cend (c' := c') (sT0 := f_spareTotal) (fre' := f_fresh + 1) (reu' := f_reused) (sX0 := a_spareCounts) (sp0 := sp) C R0 hb hst hS h1 hn hk hl c1 c2 (fun z => ⟨hkc' z, by rw [(SS.2.2.2.2 z).1, nI_1]⟩) ⟨fun g hg => ⟨(p1 g hg).1, (p1 g hg).1⟩, p2, fun z => ?_, p4, p5, p6, p7⟩ (fun Q' hQ => ?_) (fun spY0 mk0 hs0 => ⟨spY0, hs0, fun Q' hQ => ?_⟩) hp
      · have := p3 z
        rw [if_pos z] at hnf; omega
      · have hsf := (p1 f (by omega)).1
        rw [h0] at hsf
        rw [r5] at hQ ⊢
        by_cases hkp : f_keeping = 0
        · rw [if_pos hkp] at hnf
          have := p3 hkp
          rw [p2, p5] at hQ ⊢
          exact xs_clF hkp (by omega) hsf (by omega) p7 hQ
        · exact xs_clK hkp hl hQ
      · rw [hS, r6, p5] at hQ ⊢
        exact ys_place (G := ym_G L sg) (lv := lv) (kp := f_keeping) (sp := sp) (lim := if f_keeping = 0 then cp else 160) hn20 (by omega) hs0 (fun g hg => by have := hspb.1 g hg; omega) (hMk spY0) M.2.2.2.2.2.1 rfl p7 (by omega) (fun _ z => absurd z hnf) (fun _ => ⟨c', c1, c2, c3, fun _ mk _ => hQ mk, fun k ek => by omega⟩)
    · obtain ⟨k, ek⟩ : ∃ k, sp f = k + 1 := ⟨sp f - 1, by omega⟩
      have hkp : f_keeping = 0 := by
        by_cases z : f_keeping = 0
        · exact z
        · exact absurd (p4 z f (by omega)) h0
      have hsm := rc_sm_upd (f := sp) (g := fun g => if g = f then k else sp g) (x := f) (fun j hj => if_neg hj) n (by omega)
      (try dsimp only at hsm)
      rw [if_pos rfl, ek] at hsm
      have hsX : ∀ (A : Nat → Int32), (∀ g, g < n → A g = nI (sp g)) → ∀ g, g < n → upd A f (nI k) g = nI (if g = f then k else sp g) := fun A hA g hg => by
        by_cases z : g = f
        · rw [z, pk_us, if_pos rfl]
        · rw [pk_un z, if_neg z]; exact hA g hg
      refine st_cend (c' := c') (sT0 := nI (rc_sm (fun g => if g = f then k else sp g) n)) (fre' := f_fresh) (reu' := f_reused + 1) (sX0 := upd a_spareCounts f (nI k)) (sp0 := fun g => if g = f then k else sp g) C R0 hb hst hS h1 hn hk hl c1 c2 (fun z => absurd hkp z) ⟨fun g hg => ⟨hsX _ (fun g hg => (p1 g hg).1) g hg, hsX _ (fun g hg => (p1 g hg).1) g hg⟩, rfl, fun z => ?_, fun z => absurd hkp z, p5, p6, p7⟩ (fun Q' hQ => ?_) (fun spY0 mk0 hs0 => ⟨upd spY0 f (nI k), hsX _ hs0, fun Q' hQ => ?_⟩) hp
      · have := p3 z
        omega
      · have hsf := (p1 f (by omega)).1
        rw [ek] at hsf
        rw [p2, show rc_sm sp n = rc_sm (fun g => if g = f then k else sp g) n + 1 by omega]
        exact xs_clS hkp (by omega) hsf (by have := hspb.1 f (by omega); omega) hQ
      · rw [hS, r6, p5] at hQ ⊢
        exact ys_place (G := ym_G L sg) (lv := lv) (kp := f_keeping) (sp := sp) (lim := if f_keeping = 0 then cp else 160) hn20 (by omega) hs0 (fun g hg => by have := hspb.1 g hg; omega) (hMk spY0) M.2.2.2.2.2.1 rfl p7 (by omega) (fun z => absurd z h0) (fun _ => ⟨c', c1, c2, c3, fun z => absurd z h0, fun k' ek' mk _ => by
          have : k' = k := by omega
          rw [this]; exact hQ mk⟩)
end
end
section
theorem hp_hc {H H' : Nat → Bool} {b x : Nat} {mk : Int32} (h : H' x = H x) : hp_h H' b mk x = hp_h H b mk x := by
  unfold hp_h; rw [h]
section
variable {f_codeNum f_codeOp f_codeCon f_codeCall f_codeMatch f_codeIfZero f_codeRet : Int32} {f_cellBase f_unseen : Int64} {f_capacity f_depth f_complete f_open f_stored f_scope f_borrowedNow f_pending f_liveCells f_frames f_spareTotal f_state f_borrowing f_reusing f_keeping : Int32} {f_result : Int64} {f_steps f_fresh f_reused f_peak : Int32} {a_arities a_masks a_starts a_codes a_extras a_lefts a_rights a_scopes a_uses a_borrowed a_lends a_others a_frees a_afters a_builds a_pendingAt a_tags : Nat → Int32} {a_firsts a_seconds : Nat → Int64} {a_digests a_counts a_places a_work a_marks : Nat → Int32} {a_variables : Nat → Int64} {a_currents a_held a_spareCounts : Nat → Int32} {g_bits g_resultCell g_resultNum g_seen : Int32} {b_aOf b_bOf b_spare b_varCell b_varNum b_borrowed b_tagOf b_fieldCell b_fieldNum b_marked b_digestOf : Nat → Int32}
variable {sc cu sg rk sp : Nat → Nat} {bw : Nat → Int32} {L : Nat → Bool} {cm b n lv st cp dp : Nat}
theorem st_call {PX : SX → Prop} {f : Nat} (C : ct_C a_arities a_masks a_starts a_codes a_extras a_lefts a_rights a_scopes a_uses a_borrowed a_lends a_others a_frees a_afters a_builds b_aOf b_bOf sc bw cm b) (R : rr_R f_capacity f_depth f_liveCells f_frames f_spareTotal a_spareCounts b_spare f_state f_borrowing f_reusing f_keeping f_result f_fresh a_codes a_borrowed a_lends a_frees a_afters a_tags a_firsts a_seconds a_digests a_counts a_places a_work a_variables a_currents a_held g_bits g_resultCell g_resultNum b_varCell b_varNum b_borrowed b_tagOf b_fieldCell b_fieldNum sc cu sg rk sp L b n lv cp dp) (hb : b ≤ st) (hst : st ≤ 96) (hS : f_stored = nI st) (h1 : f_state = 1) (hn : n = f + 1)
    (hk : a_codes (cu f) = 3) (hp : ∀ (n_lc n_fr n_st n_ss : Int32) (n_rs : Int64) (n_sp n_fe n_re n_pk : Int32) (n_tg : Nat → Int32) (n_fx n_sy : Nat → Int64) (n_dg n_cn n_pl n_wk : Nat → Int32) (n_vs : Nat → Int64) (n_cr n_hd n_sc : Nat → Int32) (m_rc m_rn : Int32) (m_vc m_vn m_yb m_tY m_fc m_fn : Nat → Int32) (cu' sg' rk' sp' : Nat → Nat) (L' : Nat → Bool) (n' lv' : Nat), rr_R f_capacity f_depth n_lc n_fr n_st n_sc (fun g => nI (sp' g)) n_ss f_borrowing f_reusing f_keeping n_rs n_fe a_codes a_borrowed a_lends a_frees a_afters n_tg n_fx n_sy n_dg n_cn n_pl n_wk n_vs n_cr n_hd g_bits m_rc m_rn m_vc m_vn m_yb m_tY m_fc m_fn sc cu' sg' rk' sp' L' b n' lv' cp dp → (∀ Yp : SY → Prop, (∀ mk spY, (∀ g, g < n' → spY g = nI (sp' g)) → Yp (f_capacity, f_depth, f_complete, f_open, f_stored, f_scope, n_ss, g_bits, n_fr, n_sp, n_fe, n_re, n_pk, m_rc, m_rn, g_seen, a_starts, a_arities, a_masks, a_codes, a_extras, a_scopes, b_aOf, b_bOf, n_cr, spY, m_vc, m_vn, m_yb, m_tY, m_fc, m_fn, mk, b_digestOf)) → ∀ mk0 spY0, (∀ g, g < n → spY0 g = nI (sp g)) → wpY_step Yp (f_capacity, f_depth, f_complete, f_open, f_stored, f_scope, f_state, g_bits, f_frames, f_steps, f_fresh, f_reused, f_peak, g_resultCell, g_resultNum, g_seen, a_starts, a_arities, a_masks, a_codes, a_extras, a_scopes, b_aOf, b_bOf, a_currents, spY0, b_varCell, b_varNum, b_borrowed, b_tagOf, b_fieldCell, b_fieldNum, mk0, b_digestOf)) → PX (f_codeNum, f_codeOp, f_codeCon, f_codeCall, f_codeMatch, f_codeIfZero, f_codeRet, f_cellBase, f_unseen, f_capacity, f_depth, f_complete, f_open, f_stored, f_scope, f_borrowedNow, f_pending, n_lc, n_fr, n_st, n_ss, f_borrowing, f_reusing, f_keeping, n_rs, n_sp, n_fe, n_re, n_pk, a_arities, a_masks, a_starts, a_codes, a_extras, a_lefts, a_rights, a_scopes, a_uses, a_borrowed, a_lends, a_others, a_frees, a_afters, a_builds, a_pendingAt, n_tg, n_fx, n_sy, n_dg, n_cn, n_pl, n_wk, a_marks, n_vs, n_cr, n_hd, n_sc)) : wpX_step PX (f_codeNum, f_codeOp, f_codeCon, f_codeCall, f_codeMatch, f_codeIfZero, f_codeRet, f_cellBase, f_unseen, f_capacity, f_depth, f_complete, f_open, f_stored, f_scope, f_borrowedNow, f_pending, f_liveCells, f_frames, f_spareTotal, f_state, f_borrowing, f_reusing, f_keeping, f_result, f_steps, f_fresh, f_reused, f_peak, a_arities, a_masks, a_starts, a_codes, a_extras, a_lefts, a_rights, a_scopes, a_uses, a_borrowed, a_lends, a_others, a_frees, a_afters, a_builds, a_pendingAt, a_tags, a_firsts, a_seconds, a_digests, a_counts, a_places, a_work, a_marks, a_variables, a_currents, a_held, a_spareCounts) := by
  obtain ⟨⟨r1, r2, r3, r4⟩, r5, r6, P, K⟩ := R
  have K0 := K
  have hspb := rr_spb P
  obtain ⟨F, V, B, Q, I, Y, M, Lv, S, SS⟩ := K
  obtain ⟨p1, p2, p3, p4, p5, p6, p7⟩ := P
  obtain ⟨f1, f2, f3, f4⟩ := F.2 f (by omega)
  obtain ⟨s, es⟩ : ∃ s, cu f = s := ⟨_, rfl⟩
  rw [es] at f1 f2 hk
  have hS1 := S (by rw [h1]; decide)
  have hb96 := C.1
  have hn20 := F.1
  obtain ⟨-, w2, w3, w4, -, -, -, w8, -⟩ := C.2.2.2.1 s f2
  obtain ⟨g, g6, gcm, eg, gar, gln⟩ := w8 hk
  obtain ⟨t, ht, est, ear, har, emk⟩ := C.2.2.2.2.2 g gcm
  have w2t := (C.2.2.2.1 t ht).2.1
  obtain ⟨la, ra, hla, hra, oa, ob, ela, era, va, vb⟩ := ct_opr C f2
  have need : rr_need a_frees a_afters cu n f = a_frees s := by unfold rr_need; rw [if_pos hn.symm, es]
  have h12 := w2.2.2.1
  subst r5 r6 hS h1 r1 p2 p5
  have headX : ∀ Xp : SX → Prop, wpX_stepCall (fun r u => match u with | (f_codeNum, f_codeOp, f_codeCon, f_codeCall, f_codeMatch, f_codeIfZero, f_codeRet, f_cellBase, f_unseen, f_capacity, f_depth, f_complete, f_open, f_stored, f_scope, f_borrowedNow, f_pending, f_liveCells, f_frames, f_spareTotal, f_state, f_borrowing, f_reusing, f_keeping, f_result, f_steps, f_fresh, f_reused, f_peak, a_arities, a_masks, a_starts, a_codes, a_extras, a_lefts, a_rights, a_scopes, a_uses, a_borrowed, a_lends, a_others, a_frees, a_afters, a_builds, a_pendingAt, a_tags, a_firsts, a_seconds, a_digests, a_counts, a_places, a_work, a_marks, a_variables, a_currents, a_held, a_spareCounts) => wX_step_105 Xp r f_codeNum f_codeOp f_codeCon f_codeCall f_codeMatch f_codeIfZero f_codeRet f_cellBase f_unseen f_capacity f_depth f_complete f_open f_stored f_scope f_borrowedNow f_pending f_liveCells f_frames f_spareTotal f_state f_borrowing f_reusing f_keeping f_result f_steps f_fresh f_reused f_peak a_arities a_masks a_starts a_codes a_extras a_lefts a_rights a_scopes a_uses a_borrowed a_lends a_others a_frees a_afters a_builds a_pendingAt a_tags a_firsts a_seconds a_digests a_counts a_places a_work a_marks a_variables a_currents a_held a_spareCounts) (f_codeNum, f_codeOp, f_codeCon, f_codeCall, f_codeMatch, f_codeIfZero, f_codeRet, f_cellBase, f_unseen, nI cp, nI dp, f_complete, f_open, nI st, f_scope, f_borrowedNow, f_pending, nI lv, nI n, nI (rc_sm sp n), 1, f_borrowing, f_reusing, f_keeping, f_result, f_steps, f_fresh, f_reused, f_peak, a_arities, a_masks, a_starts, a_codes, a_extras, a_lefts, a_rights, a_scopes, a_uses, a_borrowed, a_lends, a_others, a_frees, a_afters, a_builds, a_pendingAt, a_tags, a_firsts, a_seconds, a_digests, a_counts, a_places, a_work, a_marks, a_variables, a_currents, a_held, a_spareCounts) (nI f) (nI s) → wpX_step Xp (f_codeNum, f_codeOp, f_codeCon, f_codeCall, f_codeMatch, f_codeIfZero, f_codeRet, f_cellBase, f_unseen, nI cp, nI dp, f_complete, f_open, nI st, f_scope, f_borrowedNow, f_pending, nI lv, nI n, nI (rc_sm sp n), 1, f_borrowing, f_reusing, f_keeping, f_result, f_steps, f_fresh, f_reused, f_peak, a_arities, a_masks, a_starts, a_codes, a_extras, a_lefts, a_rights, a_scopes, a_uses, a_borrowed, a_lends, a_others, a_frees, a_afters, a_builds, a_pendingAt, a_tags, a_firsts, a_seconds, a_digests, a_counts, a_places, a_work, a_marks, a_variables, a_currents, a_held, a_spareCounts) := fun Xp h => by
    refine nm_r (e' := nI f) (by rw [hn]; exact nI_pred f) ⟨vp_in_nI (by omega) (by omega), ?_⟩
    rw [nI_clamp (show f < 2 ^ 31 by omega)]
    refine nm_r f1 ⟨vp_in_nI (by omega) (by omega), ?_⟩
    rw [nI_clamp (show s < 2 ^ 31 by omega)]
    exact nm_r hk (br_f (by decide) (br_t rfl h))
  have headY : ∀ (Yp : SY → Prop) (mk0 spY0 : Nat → Int32), wY_step_145 Yp (nI f) (nI s) 3 (nI g) (nI (f * 12)) (nI (f * 12 + sc s)) (nI (f * 12 + la)) (b_varCell (f * 12 + la)) (b_varNum (f * 12 + la)) (b_varCell (f * 12 + ra)) (b_varNum (f * 12 + ra)) (nI cp) (nI dp) f_complete f_open (nI st) f_scope 1 g_bits (nI n) f_steps f_fresh f_reused f_peak g_resultCell g_resultNum g_seen a_starts a_arities a_masks a_codes a_extras a_scopes b_aOf b_bOf a_currents spY0 b_varCell b_varNum b_borrowed b_tagOf b_fieldCell b_fieldNum mk0 b_digestOf → wpY_step Yp (nI cp, nI dp, f_complete, f_open, nI st, f_scope, 1, g_bits, nI n, f_steps, f_fresh, f_reused, f_peak, g_resultCell, g_resultNum, g_seen, a_starts, a_arities, a_masks, a_codes, a_extras, a_scopes, b_aOf, b_bOf, a_currents, spY0, b_varCell, b_varNum, b_borrowed, b_tagOf, b_fieldCell, b_fieldNum, mk0, b_digestOf) := fun Yp mk0 spY0 h => by
    rw [← eg] at h
    exact ys_head (k := 3) (d := sc s) (la := la) (ra := ra) hn hn20 (by omega) f1 hk w2.1 (by omega) hla hra oa ob (fun _ => h) (fun z => absurd z (by decide))
  refine headX _ ?_
  by_cases hdp : n = dp
  · subst hdp
    unfold wpX_stepCall
    (try dsimp only)
    refine br_f (nI_nlt (Nat.le_refl _) (by omega)) ?_
    unfold wX_step_105
    refine br_t rfl ?_
    refine hp _ _ _ _ _ _ _ _ _ _ _ _ _ _ _ _ _ _ _ _ _ _ _ _ _ _ _ _ _ _ _ sp _ _ _ ⟨⟨rfl, r2, r3, r4⟩, rfl, rfl, ⟨fun g hg => ⟨(p1 g hg).1, rfl⟩, rfl, p3, p4, rfl, p6, p7⟩, rk_stop (Or.inr rfl) (by omega) K0⟩ (fun Yp hYp mk0 spY0 hs0 => headY _ _ _ (ys_callD (hYp mk0 spY0 hs0)))
  · have hE : ∀ c, c < 160 → xr_E 1 f_result c ≤ 20 := fun c _ => by unfold xr_E; rw [if_neg (by decide)]; omega
    have hheld : a_held f = xg_m f_borrowing (a_frees s) (a_borrowed s) := by rw [f4]; unfold rr_hold; rw [if_pos hn.symm, es]
    have ha1 : 1 ≤ sc t → b_aOf s ≠ -1 := fun z => by
      rcases gar with ⟨q, -, -⟩ | ⟨-, q, -⟩ | ⟨-, q, -⟩
      · rw [ear] at q
        exact absurd q (nI_ne0 z (by omega))
      · exact q
      · exact q
    have ha2 : sc t = 2 → b_bOf s ≠ -1 := fun z => by
      rcases gar with ⟨q, -, -⟩ | ⟨q, -, -⟩ | ⟨-, -, q⟩
      · rw [ear, z] at q; exact absurd q (by decide)
      · rw [ear, z] at q; exact absurd q (by decide)
      · exact q
    obtain ⟨et2, het2, Tt⟩ := C.2.2.1 t ht
    have hltt : ∀ v, v < 32 → bt (a_frees t) v = true → v < sc t := fun v hv h => ((ct_F C het2 Tt hv).mp h).1
    generalize hvs : xs_av (sc t) a_variables (n * 12) (f * 12 + la) (f * 12 + ra) = vs'
    have hlow : ∀ x, x < n * 12 → vs' x = a_variables x := fun x hx => by
      rw [← hvs]
      unfold xs_av
      split
      · rfl
      · split
        · exact pk_uLn (by omega)
        · rw [pk_uLn (by omega), pk_uLn (by omega)]
    have hv0 : 1 ≤ sc t → vs' (n * 12 + 0) = a_variables (f * 12 + la) := fun z => by
      rw [← hvs]
      unfold xs_av
      rw [if_neg (by omega)]
      split
      · exact pk_uLs
      · rw [pk_uLn (by omega)]; exact pk_uLs
    have hv1 : sc t = 2 → vs' (n * 12 + 1) = a_variables (f * 12 + ra) := fun z => by
      rw [← hvs]
      unfold xs_av
      rw [if_neg (by omega), if_neg (by omega), pk_uLs]
      exact pk_uLn (by omega)
    have hsrc : ∀ v, v < sc t → ∃ a, a < 12 ∧ vs' (n * 12 + v) = a_variables (f * 12 + a) ∧ bt (a_frees s) a = true ∧ (¬ f_borrowing = 0 → bt (a_borrowed t) v = true → bt (a_borrowed s) a = true ∨ bt (a_lends s) a = true) := fun v hv => by
      have hl : ∀ a, a < 12 → (b_aOf s = nI a ∧ bt (a_masks g) 0 = true ∨ b_bOf s = nI a ∧ bt (a_masks g) 1 = true) → bt (a_borrowed s) a = true ∨ bt (a_lends s) a = true := fun a ha h => by
        cases q : bt (a_borrowed s) a
        · right
          rw [w2.2.1] at q
          exact (gln a (by omega)).mpr ⟨q, h⟩
        · exact Or.inl rfl
      by_cases z : v = 0
      · obtain ⟨q1, q2, q3⟩ := va (ha1 (by omega))
        refine ⟨la, hla, by rw [z]; exact hv0 (by omega), q3, fun _ hb => hl la hla (Or.inl ⟨q2, ?_⟩)⟩
        rw [w2t.2.1, ← emk, z] at hb; exact hb
      · have z1 : v = 1 := by omega
        obtain ⟨q1, q2, q3⟩ := vb (ha2 (by omega))
        refine ⟨ra, hra, by rw [z1]; exact hv1 (by omega), q3, fun _ hb => hl ra hra (Or.inr ⟨q2, ?_⟩)⟩
        rw [w2t.2.1, ← emk, z1] at hb; exact hb
    have hVR : ∀ a, a < 12 → bt (a_frees s) a = true → rc_vr L sg (a_variables (f * 12 + a)) (b_varCell (f * 12 + a)) (b_varNum (f * 12 + a)) := fun a ha h => V f a (by omega) ha (by rw [need, h]; rfl)
    refine xs_call (g := g) (ar := sc t) (t := t) (la := la) (ra := ra) (vs' := vs') (w := if f_borrowing = 0 then a_afters s else (a_afters s &&& (a_borrowed s ^^^ (-1))) ||| a_lends s) (H := xr_H n a_held) (E := xr_E 1 f_result) (L := L) hn (by omega) r3 (by omega) g6 (by omega) eg ear har est (fun _ => ⟨hla, ela⟩) (fun _ => ⟨hra, era⟩) hvs.symm rfl hE (fun i hi => xr_Hx (by omega) hi) (fun i hi => ?_) (fun i hi q1 => ?_) (fun i hi q1 => ?_) (hx_vs (fun _ _ => rfl) (fun x hx hH => hlow x (xr_Hn hH).1) hS1) (fun L' cnt' pl' lv' wk' hs hk' S' => ?_)
    · unfold xr_H
      rw [decide_eq_false (by omega), Bool.false_and]
    · have hfi : bt (a_frees t) i = true := by
        unfold xg_m at q1
        split at q1
        · exact q1
        · rw [b_and, Bool.and_eq_true] at q1; exact q1.1
      obtain ⟨a, ha, e1, e2, -⟩ := hsrc i (hltt i (by omega) hfi)
      rw [e1]
      exact rc_vr_g (hVR a ha e2)
    · rw [hheld]
      unfold xg_m
      by_cases hb0 : f_borrowing = 0
      · rw [if_pos hb0] at q1 ⊢
        exact ct_af C f2 (by omega) q1
      · rw [if_neg hb0, b_or, Bool.or_eq_true, b_and, rc_not _ (by omega), Bool.and_eq_true] at q1
        rw [if_neg hb0, b_and, rc_not _ (by omega)]
        rcases q1 with ⟨q1, q2⟩ | q1
        · rw [ct_af C f2 (by omega) q1, q2]; rfl
        · obtain ⟨z1, z2⟩ := ct_ln C f2 hk (by omega) q1
          rw [z1, z2]; rfl
    · have FX := Y.1 (f * 12 + la) (by omega)
      have FY := Y.1 (f * 12 + ra) (by omega)
      have hdt : (upd (upd b_borrowed (n * 12) (rc_b (!decide (f_borrowing = 0) && bt (a_masks g) 0))) (n * 12 + 1) (rc_b (!decide (f_borrowing = 0) && bt (a_masks g) 1))) (n * 12 + 0) = rc_b (!decide (f_borrowing = 0) && bt (a_masks g) 0) := by
        rw [pk_un (by omega)]; exact pk_us
      obtain ⟨F', V1, B', Q'⟩ := rr_call (t := t) (vs' := vs') (vc' := upd (upd b_varCell (n * 12) (b_varCell (f * 12 + la))) (n * 12 + 1) (b_varCell (f * 12 + ra))) (vn' := upd (upd b_varNum (n * 12) (b_varNum (f * 12 + la))) (n * 12 + 1) (b_varNum (f * 12 + ra)))
        (yb' := upd (upd b_borrowed (n * 12) (rc_b (!decide (f_borrowing = 0) && bt (a_masks g) 0))) (n * 12 + 1) (rc_b (!decide (f_borrowing = 0) && bt (a_masks g) 1))) C hn (by omega) F V B Q es hk ht (by omega)
        (fun x hx => ⟨hlow x hx, by rw [pk_un (by omega), pk_un (by omega)], by rw [pk_un (by omega), pk_un (by omega)], by rw [pk_un (by omega), pk_un (by omega)]⟩)
        (fun v hv _ => by
          by_cases z : v = 0
          · obtain ⟨q1, q2, q3⟩ := va (ha1 (by omega))
            rw [z, hv0 (by omega), pk_un (show n * 12 + 0 ≠ n * 12 + 1 by omega), pk_un (show n * 12 + 0 ≠ n * 12 + 1 by omega)]
            rw [show n * 12 + 0 = n * 12 from rfl, pk_us, pk_us]
            exact hVR la hla q3
          · have z1 : v = 1 := by omega
            obtain ⟨q1, q2, q3⟩ := vb (ha2 (by omega))
            rw [z1, hv1 (by omega), pk_us, pk_us]
            exact hVR ra hra q3)
        (fun v hv => by
          by_cases z : v = 0
          · rw [z, hdt, w2t.2.1, ← emk]
          · have z1 : v = 1 := by omega
            rw [z1, pk_us, w2t.2.1, ← emk]) hsrc
      have S2 := hx_vs (H' := xr_H (n + 1) (upd (upd (upd a_held n 0) n (xg_m f_borrowing (a_frees t) (a_borrowed t))) f (if f_borrowing = 0 then a_afters s else (a_afters s &&& (a_borrowed s ^^^ (-1))) ||| a_lends s))) (fun x _ => by
        rw [← xh_row (by omega) x]
        refine hp_hc ?_
        rw [← xh_row (by omega) x]
        exact hp_hc (xh_push x)) (fun _ _ _ => rfl) S'
      have Lv' := rr_LS S2
      have r01 : ∀ b : Bool, rc_b b = 0 ∨ rc_b b = 1 := fun b => by cases b; exact Or.inl rfl; exact Or.inr rfl
      have Y1 := rr_Yu (x := n * 12 + 1) (rr_Yu (x := n * 12) Y FX.1 FX.2.1 (r01 (!decide (f_borrowing = 0) && bt (a_masks g) 0))) FY.1 FY.2.1 (r01 (!decide (f_borrowing = 0) && bt (a_masks g) 1))
      have K' : rr_K 1 f_borrowing f_reusing f_keeping f_result f_fresh a_codes a_borrowed a_lends a_frees a_afters a_tags a_firsts a_seconds a_digests cnt' pl' wk' vs' (upd a_currents n (nI t)) (upd (upd (upd a_held n 0) n (xg_m f_borrowing (a_frees t) (a_borrowed t))) f (if f_borrowing = 0 then a_afters s else (a_afters s &&& (a_borrowed s ^^^ (-1))) ||| a_lends s)) g_bits g_resultCell g_resultNum (upd (upd b_varCell (n * 12) (b_varCell (f * 12 + la))) (n * 12 + 1) (b_varCell (f * 12 + ra))) (upd (upd b_varNum (n * 12) (b_varNum (f * 12 + la))) (n * 12 + 1) (b_varNum (f * 12 + ra))) (upd (upd b_borrowed (n * 12) (rc_b (!decide (f_borrowing = 0) && bt (a_masks g) 0))) (n * 12 + 1) (rc_b (!decide (f_borrowing = 0) && bt (a_masks g) 1))) b_tagOf b_fieldCell b_fieldNum sc (fun g => if g = n then t else cu g) sg rk L' b (n + 1) lv' := by
        refine ⟨F', ?_, B', Q', rr_Im I hs Lv', Y1, M, Lv', fun _ => S2, SS.1, fun z => ?_, fun _ => by omega, fun z => absurd z (by decide), fun z => ?_⟩
        · exact rr_live F' Q' Lv' (fun z q _ hq => by rw [(hk' z).1]; exact hq) V1
        · rcases z with z | z
          · exact absurd z (by decide)
          · exact absurd z (by decide)
        · rw [(hk' z).2]; exact SS.2.2.2.2 z
      have hl := rr_lvle Lv Lv' hs
      obtain ⟨Bd, e2, hBd, ebd, he2, TB, hTB⟩ := yk_bd C K' (by omega)
      have hcu' : (if n + 1 - 1 = n then t else cu (n + 1 - 1)) = t := if_pos (by omega)
      rw [hcu'] at ebd TB hTB
      have hsum : rc_sm (fun g => if g = n then 0 else sp g) (n + 1) = rc_sm sp n := by
        show rc_sm (fun g => if g = n then 0 else sp g) n + (if n = n then 0 else sp n) = rc_sm sp n
        rw [if_pos rfl, rc_sm_eq (f := fun g => if g = n then 0 else sp g) (g := sp) n (fun j hj => if_neg (by omega))]; rfl
      have hspn : ∀ (A : Nat → Int32), (∀ g, g < n → A g = nI (sp g)) → ∀ g, g < n + 1 → upd A n 0 g = nI (if g = n then 0 else sp g) := fun A hA g hg => by
        by_cases z : g = n
        · rw [z, pk_us, if_pos rfl]; rfl
        · rw [pk_un z, if_neg z]; exact hA g (by omega)
      have P1 : rr_P f_keeping (nI cp) (nI (rc_sm sp n)) (upd a_spareCounts n 0) (upd b_spare n 0) (fun g => if g = n then 0 else sp g) (n + 1) lv cp := by
        refine ⟨fun g hg => ⟨hspn _ (fun g hg => (p1 g hg).1) g hg, hspn _ (fun g hg => (p1 g hg).2) g hg⟩, by rw [hsum], fun z => by rw [hsum]; exact p3 z, fun z g hg => ?_, rfl, p6, p7⟩
        (try dsimp only)
        by_cases w : g = n
        · rw [if_pos w]
        · rw [if_neg w]; exact p4 z g (by omega)
      have hspb1 := rr_spb P1
      unfold wX_step_105
      refine br_f (by decide) ?_
      rw [← hsum]
      refine xs_finish (n := n + 1) (s := t) (B := Bd) (sp := fun g => if g = n then 0 else sp g) (by omega) (fun _ => ⟨by rw [show n + 1 - 1 = n by omega, pk_us], by omega, ebd⟩) (by omega) (fun g hg => (P1.1 g hg).1) (fun g hg => by have := hspb1.1 g hg; (try dsimp only at this); (try dsimp only); omega) rfl (fun sX hX => ?_)
      refine hp _ _ _ _ _ _ _ _ _ _ _ _ _ _ _ _ _ _ _ _ _ _ _ _ _ _ _ _ _ _ _ (ys_cut (fun g => if g = n then 0 else sp g) (n + 1) Bd) _ _ _ ⟨⟨rfl, r2, r3, by omega⟩, rfl, rfl, rr_Pcut P1 hl hX (fun g _ => rfl), K'⟩ (fun Yp hYp mk0 spY0 hs0 => headY _ _ _ (ys_call (bor := f_borrowing) (t := nI t) (by omega) r3 g6 M.2.2.2.1 est FX.1 FY.1 ?_))
      exact yk_559 (B := Bd) (e := e2) (sp := fun g => if g = n then 0 else sp g) C K' hb hst (by decide) hBd (fun _ => by (try dsimp only); rw [hcu']; exact ⟨ebd, he2, TB, hTB⟩) (fun g hg => by have := hspb1.1 g hg; (try dsimp only at this); (try dsimp only); omega) (hspn _ hs0) hYp
end
end
section
section
variable {f_codeNum f_codeOp f_codeCon f_codeCall f_codeMatch f_codeIfZero f_codeRet : Int32} {f_cellBase f_unseen : Int64} {f_capacity f_depth f_complete f_open f_stored f_scope f_borrowedNow f_pending f_liveCells f_frames f_spareTotal f_state f_borrowing f_reusing f_keeping : Int32} {f_result : Int64} {f_steps f_fresh f_reused f_peak : Int32} {a_arities a_masks a_starts a_codes a_extras a_lefts a_rights a_scopes a_uses a_borrowed a_lends a_others a_frees a_afters a_builds a_pendingAt a_tags : Nat → Int32} {a_firsts a_seconds : Nat → Int64} {a_digests a_counts a_places a_work a_marks : Nat → Int32} {a_variables : Nat → Int64} {a_currents a_held a_spareCounts : Nat → Int32} {g_bits g_resultCell g_resultNum g_seen : Int32} {b_aOf b_bOf b_spare b_varCell b_varNum b_borrowed b_tagOf b_fieldCell b_fieldNum b_marked b_digestOf : Nat → Int32}
variable {sc cu sg rk sp : Nat → Nat} {bw : Nat → Int32} {L : Nat → Bool} {cm b n lv st cp dp : Nat}
theorem st_ret {PX : SX → Prop} {f : Nat} (C : ct_C a_arities a_masks a_starts a_codes a_extras a_lefts a_rights a_scopes a_uses a_borrowed a_lends a_others a_frees a_afters a_builds b_aOf b_bOf sc bw cm b) (R : rr_R f_capacity f_depth f_liveCells f_frames f_spareTotal a_spareCounts b_spare f_state f_borrowing f_reusing f_keeping f_result f_fresh a_codes a_borrowed a_lends a_frees a_afters a_tags a_firsts a_seconds a_digests a_counts a_places a_work a_variables a_currents a_held g_bits g_resultCell g_resultNum b_varCell b_varNum b_borrowed b_tagOf b_fieldCell b_fieldNum sc cu sg rk sp L b n lv cp dp) (hb : b ≤ st) (hst : st ≤ 96) (hS : f_stored = nI st) (h1 : f_state = 1) (hn : n = f + 1)
    (hk : a_codes (cu f) = 6) (hp : ∀ (n_lc n_fr n_st n_ss : Int32) (n_rs : Int64) (n_sp n_fe n_re n_pk : Int32) (n_tg : Nat → Int32) (n_fx n_sy : Nat → Int64) (n_dg n_cn n_pl n_wk : Nat → Int32) (n_vs : Nat → Int64) (n_cr n_hd n_sc : Nat → Int32) (m_rc m_rn : Int32) (m_vc m_vn m_yb m_tY m_fc m_fn : Nat → Int32) (cu' sg' rk' sp' : Nat → Nat) (L' : Nat → Bool) (n' lv' : Nat), rr_R f_capacity f_depth n_lc n_fr n_st n_sc (fun g => nI (sp' g)) n_ss f_borrowing f_reusing f_keeping n_rs n_fe a_codes a_borrowed a_lends a_frees a_afters n_tg n_fx n_sy n_dg n_cn n_pl n_wk n_vs n_cr n_hd g_bits m_rc m_rn m_vc m_vn m_yb m_tY m_fc m_fn sc cu' sg' rk' sp' L' b n' lv' cp dp → (∀ Yp : SY → Prop, (∀ mk spY, (∀ g, g < n' → spY g = nI (sp' g)) → Yp (f_capacity, f_depth, f_complete, f_open, f_stored, f_scope, n_ss, g_bits, n_fr, n_sp, n_fe, n_re, n_pk, m_rc, m_rn, g_seen, a_starts, a_arities, a_masks, a_codes, a_extras, a_scopes, b_aOf, b_bOf, n_cr, spY, m_vc, m_vn, m_yb, m_tY, m_fc, m_fn, mk, b_digestOf)) → ∀ mk0 spY0, (∀ g, g < n → spY0 g = nI (sp g)) → wpY_step Yp (f_capacity, f_depth, f_complete, f_open, f_stored, f_scope, f_state, g_bits, f_frames, f_steps, f_fresh, f_reused, f_peak, g_resultCell, g_resultNum, g_seen, a_starts, a_arities, a_masks, a_codes, a_extras, a_scopes, b_aOf, b_bOf, a_currents, spY0, b_varCell, b_varNum, b_borrowed, b_tagOf, b_fieldCell, b_fieldNum, mk0, b_digestOf)) → PX (f_codeNum, f_codeOp, f_codeCon, f_codeCall, f_codeMatch, f_codeIfZero, f_codeRet, f_cellBase, f_unseen, f_capacity, f_depth, f_complete, f_open, f_stored, f_scope, f_borrowedNow, f_pending, n_lc, n_fr, n_st, n_ss, f_borrowing, f_reusing, f_keeping, n_rs, n_sp, n_fe, n_re, n_pk, a_arities, a_masks, a_starts, a_codes, a_extras, a_lefts, a_rights, a_scopes, a_uses, a_borrowed, a_lends, a_others, a_frees, a_afters, a_builds, a_pendingAt, n_tg, n_fx, n_sy, n_dg, n_cn, n_pl, n_wk, a_marks, n_vs, n_cr, n_hd, n_sc)) : wpX_step PX (f_codeNum, f_codeOp, f_codeCon, f_codeCall, f_codeMatch, f_codeIfZero, f_codeRet, f_cellBase, f_unseen, f_capacity, f_depth, f_complete, f_open, f_stored, f_scope, f_borrowedNow, f_pending, f_liveCells, f_frames, f_spareTotal, f_state, f_borrowing, f_reusing, f_keeping, f_result, f_steps, f_fresh, f_reused, f_peak, a_arities, a_masks, a_starts, a_codes, a_extras, a_lefts, a_rights, a_scopes, a_uses, a_borrowed, a_lends, a_others, a_frees, a_afters, a_builds, a_pendingAt, a_tags, a_firsts, a_seconds, a_digests, a_counts, a_places, a_work, a_marks, a_variables, a_currents, a_held, a_spareCounts) := by
  obtain ⟨⟨r1, r2, r3, r4⟩, r5, r6, P, K⟩ := R
  have K0 := K
  have hspb := rr_spb P
  have P00 := P
  obtain ⟨F, V, B, Q, I, Y, M, Lv, S, SS⟩ := K
  obtain ⟨p1, p2, p3, p4, p5, p6, p7⟩ := P
  obtain ⟨f1, f2, f3, f4⟩ := F.2 f (by omega)
  obtain ⟨s, es⟩ : ∃ s, cu f = s := ⟨_, rfl⟩
  rw [es] at f1 f2 hk
  have hS1 := S (by rw [h1]; decide)
  have hb96 := C.1
  have hn20 := F.1
  obtain ⟨-, w2, -, -, -, w6, -⟩ := C.2.2.2.1 s f2
  obtain ⟨la, ra, hla, hra, oa, ob, ela, era, va, vb⟩ := ct_opr C f2
  have need : rr_need a_frees a_afters cu n f = a_frees s := by unfold rr_need; rw [if_pos hn.symm, es]
  have h12 := w2.2.2.1
  have n0 : a_codes s ≠ 0 := by rw [hk]; decide
  have n3 : a_codes s ≠ 3 := by rw [hk]; decide
  obtain ⟨v1, v2, v3⟩ := va (w6 n0 n3)
  have vr := V f la (by omega) hla (by rw [need, v3]; rfl)
  have FX := Y.1 (f * 12 + la) (by omega)
  have hE : ∀ c, c < 160 → xr_E 1 f_result c ≤ 10 := fun c _ => by unfold xr_E; rw [if_neg (by decide)]; omega
  have e10 : ∀ c, xr_E 1 f_result c = 0 := fun c => by unfold xr_E; rw [if_neg (by decide)]
  subst r5 r6 hS h1 r1 p2 p5 hn
  have hsum : rc_sm sp (f + 1) = rc_sm sp f + sp f := rfl
  have hsf := (p1 f (by omega)).1
  have headX : ∀ Xp : SX → Prop, wpX_stepRet (fun u => match u with | (f_codeNum, f_codeOp, f_codeCon, f_codeCall, f_codeMatch, f_codeIfZero, f_codeRet, f_cellBase, f_unseen, f_capacity, f_depth, f_complete, f_open, f_stored, f_scope, f_borrowedNow, f_pending, f_liveCells, f_frames, f_spareTotal, f_state, f_borrowing, f_reusing, f_keeping, f_result, f_steps, f_fresh, f_reused, f_peak, a_arities, a_masks, a_starts, a_codes, a_extras, a_lefts, a_rights, a_scopes, a_uses, a_borrowed, a_lends, a_others, a_frees, a_afters, a_builds, a_pendingAt, a_tags, a_firsts, a_seconds, a_digests, a_counts, a_places, a_work, a_marks, a_variables, a_currents, a_held, a_spareCounts) => wX_step_105 Xp 1 f_codeNum f_codeOp f_codeCon f_codeCall f_codeMatch f_codeIfZero f_codeRet f_cellBase f_unseen f_capacity f_depth f_complete f_open f_stored f_scope f_borrowedNow f_pending f_liveCells f_frames f_spareTotal f_state f_borrowing f_reusing f_keeping f_result f_steps f_fresh f_reused f_peak a_arities a_masks a_starts a_codes a_extras a_lefts a_rights a_scopes a_uses a_borrowed a_lends a_others a_frees a_afters a_builds a_pendingAt a_tags a_firsts a_seconds a_digests a_counts a_places a_work a_marks a_variables a_currents a_held a_spareCounts) (f_codeNum, f_codeOp, f_codeCon, f_codeCall, f_codeMatch, f_codeIfZero, f_codeRet, f_cellBase, f_unseen, nI cp, nI dp, f_complete, f_open, nI st, f_scope, f_borrowedNow, f_pending, nI lv, nI (f + 1), nI (rc_sm sp (f + 1)), 1, f_borrowing, f_reusing, f_keeping, f_result, f_steps, f_fresh, f_reused, f_peak, a_arities, a_masks, a_starts, a_codes, a_extras, a_lefts, a_rights, a_scopes, a_uses, a_borrowed, a_lends, a_others, a_frees, a_afters, a_builds, a_pendingAt, a_tags, a_firsts, a_seconds, a_digests, a_counts, a_places, a_work, a_marks, a_variables, a_currents, a_held, a_spareCounts) (nI f) (nI s) → wpX_step Xp (f_codeNum, f_codeOp, f_codeCon, f_codeCall, f_codeMatch, f_codeIfZero, f_codeRet, f_cellBase, f_unseen, nI cp, nI dp, f_complete, f_open, nI st, f_scope, f_borrowedNow, f_pending, nI lv, nI (f + 1), nI (rc_sm sp (f + 1)), 1, f_borrowing, f_reusing, f_keeping, f_result, f_steps, f_fresh, f_reused, f_peak, a_arities, a_masks, a_starts, a_codes, a_extras, a_lefts, a_rights, a_scopes, a_uses, a_borrowed, a_lends, a_others, a_frees, a_afters, a_builds, a_pendingAt, a_tags, a_firsts, a_seconds, a_digests, a_counts, a_places, a_work, a_marks, a_variables, a_currents, a_held, a_spareCounts) := fun Xp h => by
    refine nm_r (e' := nI f) (nI_pred f) ⟨vp_in_nI (by omega) (by omega), ?_⟩
    rw [nI_clamp (show f < 2 ^ 31 by omega)]
    refine nm_r f1 ⟨vp_in_nI (by omega) (by omega), ?_⟩
    rw [nI_clamp (show s < 2 ^ 31 by omega)]
    exact nm_r hk (br_f (by decide) (br_f (by decide) (br_f (by decide) (br_f (by decide) (br_t rfl h)))))
  have headY : ∀ (Yp : SY → Prop) (mk0 spY0 : Nat → Int32), wY_step_145 Yp (nI f) (nI s) 6 (a_extras s) (nI (f * 12)) (nI (f * 12 + sc s)) (nI (f * 12 + la)) (b_varCell (f * 12 + la)) (b_varNum (f * 12 + la)) (b_varCell (f * 12 + ra)) (b_varNum (f * 12 + ra)) (nI cp) (nI dp) f_complete f_open (nI st) f_scope 1 g_bits (nI (f + 1)) f_steps f_fresh f_reused f_peak g_resultCell g_resultNum g_seen a_starts a_arities a_masks a_codes a_extras a_scopes b_aOf b_bOf a_currents spY0 b_varCell b_varNum b_borrowed b_tagOf b_fieldCell b_fieldNum mk0 b_digestOf → wpY_step Yp (nI cp, nI dp, f_complete, f_open, nI st, f_scope, 1, g_bits, nI (f + 1), f_steps, f_fresh, f_reused, f_peak, g_resultCell, g_resultNum, g_seen, a_starts, a_arities, a_masks, a_codes, a_extras, a_scopes, b_aOf, b_bOf, a_currents, spY0, b_varCell, b_varNum, b_borrowed, b_tagOf, b_fieldCell, b_fieldNum, mk0, b_digestOf) := fun Yp mk0 spY0 h =>
    ys_head (k := 6) (d := sc s) (la := la) (ra := ra) rfl hn20 (by omega) f1 hk w2.1 (by omega) hla hra oa ob (fun _ => h) (fun z => absurd z (by decide))
  refine headX _ ?_
  rw [hsum]
  obtain ⟨rv, erv⟩ : ∃ rv, rv = a_variables (f * 12 + la) := ⟨_, rfl⟩
  rw [← erv] at vr
  refine xs_ret (la := la) (sT := rc_sm sp f) (sp := sp f) (v := rv) (H := xr_H (f + 1) a_held) (E := xr_E 1 f_result) (L := L) (by omega) (by omega) hla ela erv (rc_vr_g vr).1 (rc_vr_g vr).2 hsf hE (fun i hi => xr_Hx (by omega) hi) hS1 (fun hf0 L' cnt' pl' lv' wk' hs hk' S' => ?_) (fun w hw => ?_)
  · subst hf0
    have S2 : hx_S f_keeping L' a_firsts a_seconds a_variables (xr_H 0 (upd a_held 0 0)) (xr_E 2 rv) cnt' pl' lv' wk' := hx_E (fun c _ => by rw [e10]; unfold xr_E; rw [if_pos rfl]; omega) (hx_vs (fun x _ => xh_pop x) (fun _ _ _ => rfl) S')
    have Lv' := rr_LS S2
    have Y1 : rr_Y b_varCell b_varNum b_borrowed b_fieldCell b_fieldNum (b_varCell (0 * 12 + la)) (b_varNum (0 * 12 + la)) := ⟨Y.1, Y.2.1, FX.1, FX.2.1⟩
    have K' : rr_K 2 f_borrowing f_reusing f_keeping rv f_fresh a_codes a_borrowed a_lends a_frees a_afters a_tags a_firsts a_seconds a_digests cnt' pl' wk' a_variables a_currents (upd a_held 0 0) g_bits (b_varCell (0 * 12 + la)) (b_varNum (0 * 12 + la)) b_varCell b_varNum b_borrowed b_tagOf b_fieldCell b_fieldNum sc cu sg rk L' b 0 lv' := by
      refine ⟨⟨by omega, fun g hg => by omega⟩, fun g v hg => by omega, fun g v hg => by omega, fun _ g v c hg => by omega, rr_Im I hs Lv', Y1, M, Lv', fun _ => S2, Or.inr (Or.inr (Or.inl rfl)), fun _ => rfl, fun z => ?_, fun _ => ?_, fun z => ?_⟩
      · rcases z with z | z | z
        · exact absurd z (by decide)
        · exact absurd z (by decide)
        · exact absurd z (by decide)
      · refine rc_vr_m vr (fun c hc e hL => ?_)
        by_cases hkp : f_keeping = 0
        · refine Lv'.2.1 hkp c hc ?_
          unfold xr_E
          rw [if_pos rfl, e, rc_d_s]; omega
        · rw [(hk' hkp).1]; exact hL
      · rw [(hk' z).2]; exact SS.2.2.2.2 z
    have hl := rr_lvle Lv Lv' hs
    have P1 : rr_P f_keeping (nI cp) (nI (rc_sm sp 0)) (upd a_spareCounts 0 0) b_spare sp 0 lv cp := ⟨fun g hg => by omega, rfl, fun z => by have := p3 z; rw [hsum] at this; show lv + 0 ≤ cp; omega, fun _ g hg => by omega, rfl, p6, p7⟩
    unfold wX_step_105
    refine br_f (by decide) ?_
    refine xs_finish (n := 0) (s := 0) (B := 0) (sp := sp) (by omega) (fun z => by omega) (by omega) (fun g hg => by omega) (fun g hg => by omega) rfl (fun sX hX => ?_)
    refine hp _ _ _ _ _ _ _ _ _ _ _ _ _ _ _ _ _ _ _ _ _ _ _ _ _ _ _ _ _ _ _ (ys_cut sp 0 0) _ _ _ ⟨⟨rfl, r2, r3, by omega⟩, rfl, rfl, rr_Pcut P1 hl hX (fun g _ => rfl), K'⟩ (fun Yp hYp mk0 spY0 hs0 => headY _ _ _ (ys_ret0 FX.1 ?_))
    exact yk_559 (f := 0) (B := 0) (e := 0) (sp := sp) (n := 0) C K' hb hst (by decide) (by omega) (fun z => by omega) (fun g hg => by omega) (fun g hg => by omega) hYp
  · subst hw
    obtain ⟨k1, k2, k3, k4⟩ := F.2 w (by omega)
    obtain ⟨t, et⟩ : ∃ t, cu w = t := ⟨_, rfl⟩
    rw [et] at k1 k2
    have k3' : a_codes t = 3 := by rw [← et]; exact k3 (by omega)
    have hk4 : a_codes t = 0 ∨ a_codes t = 1 ∨ a_codes t = 2 ∨ a_codes t = 3 := Or.inr (Or.inr (Or.inr k3'))
    obtain ⟨e, he, T, T1, hs1⟩ := ct_nx C k2 hk4
    obtain ⟨-, wt2, -, -, -, -, -, -, wt9, -⟩ := C.2.2.2.1 t k2
    obtain ⟨g1, g2, g3⟩ := wt9 hk4
    have wt2' := (C.2.2.2.1 (t + 1) hs1).2.1
    have hA := ((C.2.2.2.2.1 t k2).2.2.2 hk4).1
    have hheld : ∀ i, i < 32 → bt (a_held w) i = (((bt (a_afters t) i && !(!decide (f_borrowing = 0) && bt (a_borrowed t) i))) || bt (rr_lent f_borrowing a_lends cu (w + 1 + 1) w) i) := fun i hi => by
      rw [k4, rr_hb hi, et]
      unfold rr_need
      rw [if_neg (by omega), et]
    have ltW := fun v (hv : v < 32) => yr_lt C F (f := w) (v := v) (by omega) hv
    have hnd : rr_need a_frees a_afters cu (w + 1 + 1) w = a_afters t := by unfold rr_need; rw [if_neg (by omega), et]
    refine ⟨t, sc t, by omega, k1, wt2.1, by omega, ?_, fun i hi => xr_Hx (by omega) hi, fun i hi hne q1 => ?_, fun L' cnt' pl' lv' wk' hs hk' S' => ?_⟩
    · cases q : bt (a_held w) (sc t)
      · rfl
      · rw [k4, rr_hb (by omega), Bool.or_eq_true, Bool.and_eq_true] at q
        rcases q with ⟨q, -⟩ | q
        · have := (ltW (sc t) (by omega)).1 q
          rw [et] at this; omega
        · have := ((ltW (sc t) (by omega)).2 q).1
          rw [et] at this; omega
    · rw [hheld i (by omega)]
      unfold xg_m at q1
      have haf : ∀ h : bt (a_frees (t + 1)) i = true, bt (a_afters t) i = true := fun h => by
        rw [hA i (by omega), h, decide_eq_false hne]; rfl
      by_cases hb0 : f_borrowing = 0
      · rw [if_pos hb0] at q1
        rw [haf q1, decide_eq_true hb0]; rfl
      · rw [if_neg hb0, b_and, rc_not _ (by omega), Bool.and_eq_true] at q1
        have hbo : a_borrowed (t + 1) = a_borrowed t := by rw [wt2'.2.1, wt2.2.1, g3]
        rw [hbo] at q1
        rw [haf q1.1, decide_eq_false hb0]
        have q2 := q1.2
        cases q3 : bt (a_borrowed t) i
        · rfl
        · rw [q3] at q2; exact absurd q2 (by decide)
    · obtain ⟨F', V1, B', Q'⟩ := rr_retn (w := w) (t := t) (rv := rv) (vs' := vp_updL a_variables (w * 12 + sc t) rv) (vc' := upd b_varCell (w * 12 + sc t) (b_varCell ((w + 1) * 12 + la))) (vn' := upd b_varNum (w * 12 + sc t) (b_varNum ((w + 1) * 12 + la))) (yb' := upd b_borrowed (w * 12 + sc t) 0)
        C rfl F V B Q et pk_uLs (fun x hx hne => ⟨pk_uLn hne, pk_un hne, pk_un hne, pk_un hne⟩) (by rw [pk_us, pk_us]; exact vr) pk_us
      have S2 := hx_vs (H' := xr_H (w + 1) (upd (upd a_held (w + 1) 0) w (xg_m f_borrowing (a_frees (t + 1)) (a_borrowed (t + 1))))) (fun x _ => by
        rw [← xh_row (by omega) x]
        exact hp_hc (xh_pop x)) (fun _ _ _ => rfl) S'
      have Lv' := rr_LS S2
      have Y1 := rr_Yu (x := w * 12 + sc t) (p3 := 0) Y FX.1 FX.2.1 (Or.inl rfl)
      have K' : rr_K 1 f_borrowing f_reusing f_keeping f_result f_fresh a_codes a_borrowed a_lends a_frees a_afters a_tags a_firsts a_seconds a_digests cnt' pl' wk' (vp_updL a_variables (w * 12 + sc t) rv) (upd a_currents w (nI (t + 1))) (upd (upd a_held (w + 1) 0) w (xg_m f_borrowing (a_frees (t + 1)) (a_borrowed (t + 1)))) g_bits g_resultCell g_resultNum (upd b_varCell (w * 12 + sc t) (b_varCell ((w + 1) * 12 + la))) (upd b_varNum (w * 12 + sc t) (b_varNum ((w + 1) * 12 + la))) (upd b_borrowed (w * 12 + sc t) 0) b_tagOf b_fieldCell b_fieldNum sc (fun g => if g = w then t + 1 else cu g) sg rk L' b (w + 1) lv' := by
        refine ⟨F', ?_, B', Q', rr_Im I hs Lv', Y1, M, Lv', fun _ => S2, SS.1, fun z => ?_, fun _ => by omega, fun z => absurd z (by decide), fun z => ?_⟩
        · exact rr_live F' Q' Lv' (fun z q _ hq => by rw [(hk' z).1]; exact hq) V1
        · rcases z with z | z
          · exact absurd z (by decide)
          · exact absurd z (by decide)
        · rw [(hk' z).2]; exact SS.2.2.2.2 z
      have hl := rr_lvle Lv Lv' hs
      obtain ⟨Bd, e2, hBd, ebd, he2, TB, hTB⟩ := yk_bd C K' (by omega)
      have hcu' : (if w + 1 - 1 = w then t + 1 else cu (w + 1 - 1)) = t + 1 := if_pos (by omega)
      rw [hcu'] at ebd TB hTB
      have P1 : rr_P f_keeping (nI cp) (nI (rc_sm sp (w + 1))) (upd a_spareCounts (w + 1) 0) b_spare sp (w + 1) lv cp := by
        refine ⟨fun g hg => ⟨by rw [pk_un (by omega)]; exact (p1 g (by omega)).1, (p1 g (by omega)).2⟩, rfl, fun z => ?_, fun z g hg => p4 z g (by omega), rfl, p6, p7⟩
        have := p3 z
        rw [hsum] at this; omega
      have hspb1 := rr_spb P1
      unfold wX_step_105
      refine br_f (by decide) ?_
      refine xs_finish (n := w + 1) (s := t + 1) (B := Bd) (sp := sp) (by omega) (fun _ => ⟨by rw [show w + 1 - 1 = w by omega, pk_us], by omega, ebd⟩) (by omega) (fun g hg => (P1.1 g hg).1) (fun g hg => by have := hspb1.1 g hg; omega) rfl (fun sX hX => ?_)
      refine hp _ _ _ _ _ _ _ _ _ _ _ _ _ _ _ _ _ _ _ _ _ _ _ _ _ _ _ _ _ _ _ (ys_cut sp (w + 1) Bd) _ _ _ ⟨⟨rfl, r2, r3, by omega⟩, rfl, rfl, rr_Pcut P1 hl hX (fun g _ => rfl), K'⟩ (fun Yp hYp mk0 spY0 hs0 => headY _ _ _ (ys_ret1 (w := w) (t := t) (d := sc t) (by omega) (by omega) k1 wt2.1 (by omega) FX.1 ?_))
      exact yk_559 (B := Bd) (e := e2) (sp := sp) C K' hb hst (by decide) hBd (fun _ => by (try dsimp only); rw [hcu']; exact ⟨ebd, he2, TB, hTB⟩) (fun g hg => by have := hspb1.1 g hg; omega) (fun g hg => hs0 g (by omega)) hYp
end
end
section
section
variable {f_codeNum f_codeOp f_codeCon f_codeCall f_codeMatch f_codeIfZero f_codeRet : Int32} {f_cellBase f_unseen : Int64} {f_capacity f_depth f_complete f_open f_stored f_scope f_borrowedNow f_pending f_liveCells f_frames f_spareTotal f_state f_borrowing f_reusing f_keeping : Int32} {f_result : Int64} {f_steps f_fresh f_reused f_peak : Int32} {a_arities a_masks a_starts a_codes a_extras a_lefts a_rights a_scopes a_uses a_borrowed a_lends a_others a_frees a_afters a_builds a_pendingAt a_tags : Nat → Int32} {a_firsts a_seconds : Nat → Int64} {a_digests a_counts a_places a_work a_marks : Nat → Int32} {a_variables : Nat → Int64} {a_currents a_held a_spareCounts : Nat → Int32} {g_bits g_resultCell g_resultNum g_seen : Int32} {b_aOf b_bOf b_spare b_varCell b_varNum b_borrowed b_tagOf b_fieldCell b_fieldNum b_marked b_digestOf : Nat → Int32}
variable {sc cu sg rk sp : Nat → Nat} {bw : Nat → Int32} {L : Nat → Bool} {cm b n lv st cp dp : Nat}
theorem st_step {PX : SX → Prop} (C : ct_C a_arities a_masks a_starts a_codes a_extras a_lefts a_rights a_scopes a_uses a_borrowed a_lends a_others a_frees a_afters a_builds b_aOf b_bOf sc bw cm b) (R : rr_R f_capacity f_depth f_liveCells f_frames f_spareTotal a_spareCounts b_spare f_state f_borrowing f_reusing f_keeping f_result f_fresh a_codes a_borrowed a_lends a_frees a_afters a_tags a_firsts a_seconds a_digests a_counts a_places a_work a_variables a_currents a_held g_bits g_resultCell g_resultNum b_varCell b_varNum b_borrowed b_tagOf b_fieldCell b_fieldNum sc cu sg rk sp L b n lv cp dp) (hb : b ≤ st) (hst : st ≤ 96) (hS : f_stored = nI st) (h1 : f_state = 1) (hp : ∀ (n_lc n_fr n_st n_ss : Int32) (n_rs : Int64) (n_sp n_fe n_re n_pk : Int32) (n_tg : Nat → Int32) (n_fx n_sy : Nat → Int64) (n_dg n_cn n_pl n_wk : Nat → Int32) (n_vs : Nat → Int64) (n_cr n_hd n_sc : Nat → Int32) (m_rc m_rn : Int32) (m_vc m_vn m_yb m_tY m_fc m_fn : Nat → Int32) (cu' sg' rk' sp' : Nat → Nat) (L' : Nat → Bool) (n' lv' : Nat), rr_R f_capacity f_depth n_lc n_fr n_st n_sc (fun g => nI (sp' g)) n_ss f_borrowing f_reusing f_keeping n_rs n_fe a_codes a_borrowed a_lends a_frees a_afters n_tg n_fx n_sy n_dg n_cn n_pl n_wk n_vs n_cr n_hd g_bits m_rc m_rn m_vc m_vn m_yb m_tY m_fc m_fn sc cu' sg' rk' sp' L' b n' lv' cp dp → (∀ Yp : SY → Prop, (∀ mk spY, (∀ g, g < n' → spY g = nI (sp' g)) → Yp (f_capacity, f_depth, f_complete, f_open, f_stored, f_scope, n_ss, g_bits, n_fr, n_sp, n_fe, n_re, n_pk, m_rc, m_rn, g_seen, a_starts, a_arities, a_masks, a_codes, a_extras, a_scopes, b_aOf, b_bOf, n_cr, spY, m_vc, m_vn, m_yb, m_tY, m_fc, m_fn, mk, b_digestOf)) → ∀ mk0 spY0, (∀ g, g < n → spY0 g = nI (sp g)) → wpY_step Yp (f_capacity, f_depth, f_complete, f_open, f_stored, f_scope, f_state, g_bits, f_frames, f_steps, f_fresh, f_reused, f_peak, g_resultCell, g_resultNum, g_seen, a_starts, a_arities, a_masks, a_codes, a_extras, a_scopes, b_aOf, b_bOf, a_currents, spY0, b_varCell, b_varNum, b_borrowed, b_tagOf, b_fieldCell, b_fieldNum, mk0, b_digestOf)) → PX (f_codeNum, f_codeOp, f_codeCon, f_codeCall, f_codeMatch, f_codeIfZero, f_codeRet, f_cellBase, f_unseen, f_capacity, f_depth, f_complete, f_open, f_stored, f_scope, f_borrowedNow, f_pending, n_lc, n_fr, n_st, n_ss, f_borrowing, f_reusing, f_keeping, n_rs, n_sp, n_fe, n_re, n_pk, a_arities, a_masks, a_starts, a_codes, a_extras, a_lefts, a_rights, a_scopes, a_uses, a_borrowed, a_lends, a_others, a_frees, a_afters, a_builds, a_pendingAt, n_tg, n_fx, n_sy, n_dg, n_cn, n_pl, n_wk, a_marks, n_vs, n_cr, n_hd, n_sc)) : wpX_step PX (f_codeNum, f_codeOp, f_codeCon, f_codeCall, f_codeMatch, f_codeIfZero, f_codeRet, f_cellBase, f_unseen, f_capacity, f_depth, f_complete, f_open, f_stored, f_scope, f_borrowedNow, f_pending, f_liveCells, f_frames, f_spareTotal, f_state, f_borrowing, f_reusing, f_keeping, f_result, f_steps, f_fresh, f_reused, f_peak, a_arities, a_masks, a_starts, a_codes, a_extras, a_lefts, a_rights, a_scopes, a_uses, a_borrowed, a_lends, a_others, a_frees, a_afters, a_builds, a_pendingAt, a_tags, a_firsts, a_seconds, a_digests, a_counts, a_places, a_work, a_marks, a_variables, a_currents, a_held, a_spareCounts) := by
  have h0 : 0 < n := by
    obtain ⟨-, -, -, -, -, -, -, -, -, -, -, -, -, SS⟩ := R
    exact SS.2.2.1 (Or.inl h1)
  obtain ⟨f, hn⟩ : ∃ f, n = f + 1 := ⟨n - 1, by omega⟩
  have f2 := (R.2.2.2.2.1.2 f (by omega)).2.1
  rcases (C.2.2.2.1 (cu f) f2).1 with z | z | z | z | z | z | z
  · exact st_num C R hb hst hS h1 hn (Or.inl z) hp
  · exact st_num C R hb hst hS h1 hn (Or.inr z) hp
  · exact st_con C R hb hst hS h1 hn z hp
  · exact st_call C R hb hst hS h1 hn z hp
  · exact st_match C R hb hst hS h1 hn z hp
  · exact st_ifz C R hb hst hS h1 hn z hp
  · exact st_ret C R hb hst hS h1 hn z hp
/-- run: both sides turn by turn; W is what Y owes at its start -/
theorem st_loop {post : Int32 → SX → Prop} {W : (Int32 → SY → Prop) → Prop} {q : Nat} {p0 : Int32} (hq : q ≤ 100) (hq1 : ∀ i, i < q → ¬ p0 ≤ nI i) (hq2 : p0 ≤ nI q ∨ q = 100) (C : ct_C a_arities a_masks a_starts a_codes a_extras a_lefts a_rights a_scopes a_uses a_borrowed a_lends a_others a_frees a_afters a_builds b_aOf b_bOf sc bw cm b) (hb : b ≤ st) (hst : st ≤ 96) (hS : f_stored = nI st)
    (hpost : ∀ (f_liveCells f_frames f_spareTotal f_state : Int32) (f_result : Int64) (f_steps f_fresh f_reused f_peak : Int32) (a_tags : Nat → Int32) (a_firsts a_seconds : Nat → Int64) (a_digests a_counts a_places a_work : Nat → Int32) (a_variables : Nat → Int64) (a_currents a_held a_spareCounts : Nat → Int32) (g_resultCell g_resultNum : Int32) (b_varCell b_varNum b_borrowed b_tagOf b_fieldCell b_fieldNum : Nat → Int32) (cu sg rk sp : Nat → Nat) (L : Nat → Bool) (n lv : Nat),
      rr_R f_capacity f_depth f_liveCells f_frames f_spareTotal a_spareCounts (fun g => nI (sp g)) f_state f_borrowing f_reusing f_keeping f_result f_fresh a_codes a_borrowed a_lends a_frees a_afters a_tags a_firsts a_seconds a_digests a_counts a_places a_work a_variables a_currents a_held g_bits g_resultCell g_resultNum b_varCell b_varNum b_borrowed b_tagOf b_fieldCell b_fieldNum sc cu sg rk sp L b n lv cp dp → (∀ Yp : Int32 → SY → Prop, (∀ mk spY, (∀ g, g < n → spY g = nI (sp g)) → Yp f_state (f_capacity, f_depth, f_complete, f_open, f_stored, f_scope, f_state, g_bits, f_frames, f_steps, f_fresh, f_reused, f_peak, g_resultCell, g_resultNum, g_seen, a_starts, a_arities, a_masks, a_codes, a_extras, a_scopes, b_aOf, b_bOf, a_currents, spY, b_varCell, b_varNum, b_borrowed, b_tagOf, b_fieldCell, b_fieldNum, mk, b_digestOf)) → W Yp) → post f_state (f_codeNum, f_codeOp, f_codeCon, f_codeCall, f_codeMatch, f_codeIfZero, f_codeRet, f_cellBase, f_unseen, f_capacity, f_depth, f_complete, f_open, f_stored, f_scope, f_borrowedNow, f_pending, f_liveCells, f_frames, f_spareTotal, f_state, f_borrowing, f_reusing, f_keeping, f_result, f_steps, f_fresh, f_reused, f_peak, a_arities, a_masks, a_starts, a_codes, a_extras, a_lefts, a_rights, a_scopes, a_uses, a_borrowed, a_lends, a_others, a_frees, a_afters, a_builds, a_pendingAt, a_tags, a_firsts, a_seconds, a_digests, a_counts, a_places, a_work, a_marks, a_variables, a_currents, a_held, a_spareCounts)) :
    ∀ (k : Nat) (i : Nat) (f_liveCells f_frames f_spareTotal f_state : Int32) (f_result : Int64) (f_steps f_fresh f_reused f_peak : Int32) (a_tags : Nat → Int32) (a_firsts a_seconds : Nat → Int64) (a_digests a_counts a_places a_work : Nat → Int32) (a_variables : Nat → Int64) (a_currents a_held a_spareCounts : Nat → Int32) (g_resultCell g_resultNum : Int32) (b_varCell b_varNum b_borrowed b_tagOf b_fieldCell b_fieldNum : Nat → Int32) (cu sg rk sp : Nat → Nat) (L : Nat → Bool) (n lv : Nat),
      i + k = q → rr_R f_capacity f_depth f_liveCells f_frames f_spareTotal a_spareCounts (fun g => nI (sp g)) f_state f_borrowing f_reusing f_keeping f_result f_fresh a_codes a_borrowed a_lends a_frees a_afters a_tags a_firsts a_seconds a_digests a_counts a_places a_work a_variables a_currents a_held g_bits g_resultCell g_resultNum b_varCell b_varNum b_borrowed b_tagOf b_fieldCell b_fieldNum sc cu sg rk sp L b n lv cp dp →
      (∀ Yp : Int32 → SY → Prop, (∀ mk spY, (∀ g, g < n → spY g = nI (sp g)) → wY_run_2 Yp p0 (k + 1) (nI i) f_capacity f_depth f_complete f_open f_stored f_scope f_state g_bits f_frames f_steps f_fresh f_reused f_peak g_resultCell g_resultNum g_seen a_starts a_arities a_masks a_codes a_extras a_scopes b_aOf b_bOf a_currents spY b_varCell b_varNum b_borrowed b_tagOf b_fieldCell b_fieldNum mk b_digestOf) → W Yp) → wX_run_11 post (nI q) (k + 1) (nI i) f_codeNum f_codeOp f_codeCon f_codeCall f_codeMatch f_codeIfZero f_codeRet f_cellBase f_unseen f_capacity f_depth f_complete f_open f_stored f_scope f_borrowedNow f_pending f_liveCells f_frames f_spareTotal f_state f_borrowing f_reusing f_keeping f_result f_steps f_fresh f_reused f_peak a_arities a_masks a_starts a_codes a_extras a_lefts a_rights a_scopes a_uses a_borrowed a_lends a_others a_frees a_afters a_builds a_pendingAt a_tags a_firsts a_seconds a_digests a_counts a_places a_work a_marks a_variables a_currents a_held a_spareCounts := by
  intro k
  induction k with
  | zero =>
    intro i f_liveCells f_frames f_spareTotal f_state f_result f_steps f_fresh f_reused f_peak a_tags a_firsts a_seconds a_digests a_counts a_places a_work a_variables a_currents a_held a_spareCounts g_resultCell g_resultNum b_varCell b_varNum b_borrowed b_tagOf b_fieldCell b_fieldNum cu sg rk sp L n lv hi R hL
    have e : i = q := by omega
    subst e
    refine br_t (Int32.le_refl _) (hpost _ _ _ _ _ _ _ _ _ _ _ _ _ _ _ _ _ _ _ _ _ _ _ _ _ _ _ _ _ _ _ _ _ _ _ R (fun Yp hY => hL Yp (fun mk spY hs => ?_)))
    refine br_c (fun _ => hY mk spY hs) (fun z => br_t ?_ (hY mk spY hs))
    rcases hq2 with w | w
    · exact absurd w z
    · rw [w]; exact Int32.le_refl _
  | succ k ih =>
    intro i f_liveCells f_frames f_spareTotal f_state f_result f_steps f_fresh f_reused f_peak a_tags a_firsts a_seconds a_digests a_counts a_places a_work a_variables a_currents a_held a_spareCounts g_resultCell g_resultNum b_varCell b_varNum b_borrowed b_tagOf b_fieldCell b_fieldNum cu sg rk sp L n lv hi R hL
    refine br_f (nI_ge (by omega) (by omega)) (br_c (fun h1 => ?_) (fun h1 => ?_))
    · refine st_step (g_seen := g_seen) (b_digestOf := b_digestOf) C R hb hst hS h1 ?_
      intro n_lc n_fr n_st n_ss n_rs n_sp n_fe n_re n_pk n_tg n_fx n_sy n_dg n_cn n_pl n_wk n_vs n_cr n_hd n_sc m_rc m_rn m_vc m_vn m_yb m_tY m_fc m_fn cu' sg' rk' sp' L' n' lv' R' hY'
      refine nm_r (nI_1 i) (ih (i + 1) _ _ _ _ _ _ _ _ _ _ _ _ _ _ _ _ _ _ _ _ _ _ _ _ _ _ _ _ _ _ _ _ _ _ _ (by omega) R' (fun Yp hY => hL Yp (fun mk0 spY0 hs0 => ?_)))
      refine br_f (hq1 i (by omega)) (br_f (nI_ge (b := 100) (by omega) (by omega)) (br_t h1 ?_))
      exact hY' _ (fun mk spY hs => nm_r (nI_1 i) (hY mk spY hs)) mk0 spY0 hs0
    · refine hpost _ _ _ _ _ _ _ _ _ _ _ _ _ _ _ _ _ _ _ _ _ _ _ _ _ _ _ _ _ _ _ _ _ _ _ R (fun Yp hY => hL Yp (fun mk spY hs => ?_))
      exact br_f (hq1 i (by omega)) (br_f (nI_ge (b := 100) (by omega) (by omega)) (br_f h1 (hY mk spY hs)))
end
end
section
/-! ===== the relation ===== -/
def tr_O (f_complete : Int32) (f_open : Int32) (f_stored : Int32) (f_scope : Int32) (f_borrowedNow : Int32) (f_pending : Int32) (a_arities : Nat → Int32) (a_masks : Nat → Int32) (a_starts : Nat → Int32) (a_codes : Nat → Int32) (a_extras : Nat → Int32) (a_lefts : Nat → Int32) (a_rights : Nat → Int32) (a_scopes : Nat → Int32) (a_uses : Nat → Int32) (a_borrowed : Nat → Int32) (a_lends : Nat → Int32) (a_others : Nat → Int32) (a_frees : Nat → Int32) (a_afters : Nat → Int32) (a_builds : Nat → Int32) (b_aOf : Nat → Int32) (b_bOf : Nat → Int32) (a_pendingAt : Nat → Int32) (sc : Nat → Nat) (bw : Nat → Int32) (cm b st p : Nat) : Prop :=
  cm < 6 ∧ a_starts cm = nI b ∧ f_scope = nI (sc st) ∧ sc st ≤ 12 ∧ f_borrowedNow = bw st ∧ (∀ v, v < 32 → bt (bw st) v = true → v < sc st) ∧ f_pending = nI p ∧ p ≤ 8 ∧
  (a_arities cm = nI (sc b) ∧ sc b ≤ 2 ∧ a_masks cm = bw b) ∧
  (∀ i, b ≤ i → i < st → tx_W a_arities a_masks a_codes a_extras a_lefts a_rights a_scopes a_uses a_borrowed a_lends a_others b_aOf b_bOf sc bw (cm + 1) st i) ∧
  (∀ i, b ≤ i → i ≤ st → tx_s a_codes b ≤ tx_s a_codes i) ∧ (p : Int) = tx_s a_codes st - tx_s a_codes b ∧
  (∀ j, j < p → ∃ q, a_pendingAt j = nI q ∧ b ≤ q ∧ q < st ∧ (a_codes q = 4 ∨ a_codes q = 5) ∧ tx_s a_codes q = tx_s a_codes b + j ∧ ∀ i, q < i → i ≤ st → tx_s a_codes q + 1 ≤ tx_s a_codes i)
def tr_T (f_complete : Int32) (f_open : Int32) (f_stored : Int32) (f_scope : Int32) (f_borrowedNow : Int32) (f_pending : Int32) (a_arities : Nat → Int32) (a_masks : Nat → Int32) (a_starts : Nat → Int32) (a_codes : Nat → Int32) (a_extras : Nat → Int32) (a_lefts : Nat → Int32) (a_rights : Nat → Int32) (a_scopes : Nat → Int32) (a_uses : Nat → Int32) (a_borrowed : Nat → Int32) (a_lends : Nat → Int32) (a_others : Nat → Int32) (a_frees : Nat → Int32) (a_afters : Nat → Int32) (a_builds : Nat → Int32) (b_aOf : Nat → Int32) (b_bOf : Nat → Int32) (a_pendingAt : Nat → Int32) (sc : Nat → Nat) (bw : Nat → Int32) (cm b st p : Nat) : Prop :=
  f_complete = nI cm ∧ f_stored = nI st ∧ b ≤ st ∧ st ≤ 96 ∧ ct_C a_arities a_masks a_starts a_codes a_extras a_lefts a_rights a_scopes a_uses a_borrowed a_lends a_others a_frees a_afters a_builds b_aOf b_bOf sc bw cm b ∧
  ((f_open = 0 ∧ b = st) ∨ (f_open = 1 ∧ tr_O f_complete f_open f_stored f_scope f_borrowedNow f_pending a_arities a_masks a_starts a_codes a_extras a_lefts a_rights a_scopes a_uses a_borrowed a_lends a_others a_frees a_afters a_builds b_aOf b_bOf a_pendingAt sc bw cm b st p))
def zz_F (f_complete : Int32) (f_open : Int32) (f_stored : Int32) (f_scope : Int32) (f_borrowedNow : Int32) (f_pending : Int32) (a_arities : Nat → Int32) (a_masks : Nat → Int32) (a_starts : Nat → Int32) (a_codes : Nat → Int32) (a_extras : Nat → Int32) (a_lefts : Nat → Int32) (a_rights : Nat → Int32) (a_scopes : Nat → Int32) (a_uses : Nat → Int32) (a_borrowed : Nat → Int32) (a_lends : Nat → Int32) (a_others : Nat → Int32) (a_frees : Nat → Int32) (a_afters : Nat → Int32) (a_builds : Nat → Int32) (b_aOf : Nat → Int32) (b_bOf : Nat → Int32) (a_pendingAt : Nat → Int32) (f_capacity : Int32) (f_depth : Int32) (f_liveCells : Int32) (f_frames : Int32) (f_spareTotal : Int32) (a_spareCounts : Nat → Int32) (b_spare : Nat → Int32) (f_state : Int32) (f_borrowing : Int32) (f_reusing : Int32) (f_keeping : Int32) (f_result : Int64) (f_fresh : Int32) (a_tags : Nat → Int32) (a_firsts : Nat → Int64) (a_seconds : Nat → Int64) (a_digests : Nat → Int32) (a_counts : Nat → Int32) (a_places : Nat → Int32) (a_work : Nat → Int32) (a_variables : Nat → Int64) (a_currents : Nat → Int32) (a_held : Nat → Int32) (g_bits : Int32) (g_resultCell : Int32) (g_resultNum : Int32) (b_varCell : Nat → Int32) (b_varNum : Nat → Int32) (b_borrowed : Nat → Int32) (b_tagOf : Nat → Int32) (b_fieldCell : Nat → Int32) (b_fieldNum : Nat → Int32) : Prop :=
  ∃ (sc : Nat → Nat) (bw : Nat → Int32) (cm b st p : Nat) (cu sg rk sp : Nat → Nat) (L : Nat → Bool) (n lv cp dp : Nat), tr_T f_complete f_open f_stored f_scope f_borrowedNow f_pending a_arities a_masks a_starts a_codes a_extras a_lefts a_rights a_scopes a_uses a_borrowed a_lends a_others a_frees a_afters a_builds b_aOf b_bOf a_pendingAt sc bw cm b st p ∧ rr_R f_capacity f_depth f_liveCells f_frames f_spareTotal a_spareCounts b_spare f_state f_borrowing f_reusing f_keeping f_result f_fresh a_codes a_borrowed a_lends a_frees a_afters a_tags a_firsts a_seconds a_digests a_counts a_places a_work a_variables a_currents a_held g_bits g_resultCell g_resultNum b_varCell b_varNum b_borrowed b_tagOf b_fieldCell b_fieldNum sc cu sg rk sp L b n lv cp dp
def i_Rel (_ : Nat) (u : SX) (v : SY) : Prop := match u with
  | (f_codeNum, f_codeOp, f_codeCon, f_codeCall, f_codeMatch, f_codeIfZero, f_codeRet, f_cellBase, f_unseen, f_capacity, f_depth, f_complete, f_open, f_stored, f_scope, f_borrowedNow, f_pending, f_liveCells, f_frames, f_spareTotal, f_state, f_borrowing, f_reusing, f_keeping, f_result, f_steps, f_fresh, f_reused, f_peak, a_arities, a_masks, a_starts, a_codes, a_extras, a_lefts, a_rights, a_scopes, a_uses, a_borrowed, a_lends, a_others, a_frees, a_afters, a_builds, a_pendingAt, a_tags, a_firsts, a_seconds, a_digests, a_counts, a_places, a_work, a_marks, a_variables, a_currents, a_held, a_spareCounts) => match v with
    | (g_cap, g_most, g_functions, g_open, g_stored, g_scope, g_state, g_bits, g_frames, g_steps, g_fresh, g_reused, g_peak, g_resultCell, g_resultNum, g_seen, b_firstOf, b_arityOf, b_maskOf, b_kindOf, b_numOf, b_scopeOf, b_aOf, b_bOf, b_cur, b_spare, b_varCell, b_varNum, b_borrowed, b_tagOf, b_fieldCell, b_fieldNum, b_marked, b_digestOf) => (g_functions = f_complete ∧ g_open = f_open ∧ g_stored = f_stored ∧ g_scope = f_scope ∧ g_state = f_state ∧ g_frames = f_frames ∧ g_steps = f_steps ∧ g_fresh = f_fresh ∧ g_reused = f_reused ∧ g_peak = f_peak ∧ g_cap = f_capacity ∧ g_most = f_depth ∧ b_firstOf = a_starts ∧ b_arityOf = a_arities ∧ b_maskOf = a_masks ∧ b_kindOf = a_codes ∧ b_numOf = a_extras ∧ b_scopeOf = a_scopes ∧ b_cur = a_currents) ∧ zz_F f_complete f_open f_stored f_scope f_borrowedNow f_pending a_arities a_masks a_starts a_codes a_extras a_lefts a_rights a_scopes a_uses a_borrowed a_lends a_others a_frees a_afters a_builds b_aOf b_bOf a_pendingAt f_capacity f_depth f_liveCells f_frames f_spareTotal a_spareCounts b_spare f_state f_borrowing f_reusing f_keeping f_result f_fresh a_tags a_firsts a_seconds a_digests a_counts a_places a_work a_variables a_currents a_held g_bits g_resultCell g_resultNum b_varCell b_varNum b_borrowed b_tagOf b_fieldCell b_fieldNum
theorem zz_in {k : Nat} {f_codeNum f_codeOp f_codeCon f_codeCall f_codeMatch f_codeIfZero f_codeRet : Int32} {f_cellBase f_unseen : Int64} {f_capacity f_depth f_complete f_open f_stored f_scope f_borrowedNow f_pending f_liveCells f_frames f_spareTotal f_state f_borrowing f_reusing f_keeping : Int32} {f_result : Int64} {f_steps f_fresh f_reused f_peak : Int32} {a_arities a_masks a_starts a_codes a_extras a_lefts a_rights a_scopes a_uses a_borrowed a_lends a_others a_frees a_afters a_builds a_pendingAt a_tags : Nat → Int32} {a_firsts a_seconds : Nat → Int64} {a_digests a_counts a_places a_work a_marks : Nat → Int32} {a_variables : Nat → Int64} {a_currents a_held a_spareCounts : Nat → Int32} {g_bits g_resultCell g_resultNum g_seen : Int32} {b_aOf b_bOf b_spare b_varCell b_varNum b_borrowed b_tagOf b_fieldCell b_fieldNum b_marked b_digestOf : Nat → Int32} (h : zz_F f_complete f_open f_stored f_scope f_borrowedNow f_pending a_arities a_masks a_starts a_codes a_extras a_lefts a_rights a_scopes a_uses a_borrowed a_lends a_others a_frees a_afters a_builds b_aOf b_bOf a_pendingAt f_capacity f_depth f_liveCells f_frames f_spareTotal a_spareCounts b_spare f_state f_borrowing f_reusing f_keeping f_result f_fresh a_tags a_firsts a_seconds a_digests a_counts a_places a_work a_variables a_currents a_held g_bits g_resultCell g_resultNum b_varCell b_varNum b_borrowed b_tagOf b_fieldCell b_fieldNum) : i_Rel k (f_codeNum, f_codeOp, f_codeCon, f_codeCall, f_codeMatch, f_codeIfZero, f_codeRet, f_cellBase, f_unseen, f_capacity, f_depth, f_complete, f_open, f_stored, f_scope, f_borrowedNow, f_pending, f_liveCells, f_frames, f_spareTotal, f_state, f_borrowing, f_reusing, f_keeping, f_result, f_steps, f_fresh, f_reused, f_peak, a_arities, a_masks, a_starts, a_codes, a_extras, a_lefts, a_rights, a_scopes, a_uses, a_borrowed, a_lends, a_others, a_frees, a_afters, a_builds, a_pendingAt, a_tags, a_firsts, a_seconds, a_digests, a_counts, a_places, a_work, a_marks, a_variables, a_currents, a_held, a_spareCounts) (f_capacity, f_depth, f_complete, f_open, f_stored, f_scope, f_state, g_bits, f_frames, f_steps, f_fresh, f_reused, f_peak, g_resultCell, g_resultNum, g_seen, a_starts, a_arities, a_masks, a_codes, a_extras, a_scopes, b_aOf, b_bOf, a_currents, b_spare, b_varCell, b_varNum, b_borrowed, b_tagOf, b_fieldCell, b_fieldNum, b_marked, b_digestOf) := ⟨⟨rfl, rfl, rfl, rfl, rfl, rfl, rfl, rfl, rfl, rfl, rfl, rfl, rfl, rfl, rfl, rfl, rfl, rfl, rfl⟩, h⟩
theorem zz_el {k : Nat} {P : SX → SY → Prop} (h : ∀ (f_codeNum f_codeOp f_codeCon f_codeCall f_codeMatch f_codeIfZero f_codeRet : Int32) (f_cellBase f_unseen : Int64) (f_capacity f_depth f_complete f_open f_stored f_scope f_borrowedNow f_pending f_liveCells f_frames f_spareTotal f_state f_borrowing f_reusing f_keeping : Int32) (f_result : Int64) (f_steps f_fresh f_reused f_peak : Int32) (a_arities a_masks a_starts a_codes a_extras a_lefts a_rights a_scopes a_uses a_borrowed a_lends a_others a_frees a_afters a_builds a_pendingAt a_tags : Nat → Int32) (a_firsts a_seconds : Nat → Int64) (a_digests a_counts a_places a_work a_marks : Nat → Int32) (a_variables : Nat → Int64) (a_currents a_held a_spareCounts : Nat → Int32) (g_bits g_resultCell g_resultNum g_seen : Int32) (b_aOf b_bOf b_spare b_varCell b_varNum b_borrowed b_tagOf b_fieldCell b_fieldNum b_marked b_digestOf : Nat → Int32), zz_F f_complete f_open f_stored f_scope f_borrowedNow f_pending a_arities a_masks a_starts a_codes a_extras a_lefts a_rights a_scopes a_uses a_borrowed a_lends a_others a_frees a_afters a_builds b_aOf b_bOf a_pendingAt f_capacity f_depth f_liveCells f_frames f_spareTotal a_spareCounts b_spare f_state f_borrowing f_reusing f_keeping f_result f_fresh a_tags a_firsts a_seconds a_digests a_counts a_places a_work a_variables a_currents a_held g_bits g_resultCell g_resultNum b_varCell b_varNum b_borrowed b_tagOf b_fieldCell b_fieldNum → P (f_codeNum, f_codeOp, f_codeCon, f_codeCall, f_codeMatch, f_codeIfZero, f_codeRet, f_cellBase, f_unseen, f_capacity, f_depth, f_complete, f_open, f_stored, f_scope, f_borrowedNow, f_pending, f_liveCells, f_frames, f_spareTotal, f_state, f_borrowing, f_reusing, f_keeping, f_result, f_steps, f_fresh, f_reused, f_peak, a_arities, a_masks, a_starts, a_codes, a_extras, a_lefts, a_rights, a_scopes, a_uses, a_borrowed, a_lends, a_others, a_frees, a_afters, a_builds, a_pendingAt, a_tags, a_firsts, a_seconds, a_digests, a_counts, a_places, a_work, a_marks, a_variables, a_currents, a_held, a_spareCounts) (f_capacity, f_depth, f_complete, f_open, f_stored, f_scope, f_state, g_bits, f_frames, f_steps, f_fresh, f_reused, f_peak, g_resultCell, g_resultNum, g_seen, a_starts, a_arities, a_masks, a_codes, a_extras, a_scopes, b_aOf, b_bOf, a_currents, b_spare, b_varCell, b_varNum, b_borrowed, b_tagOf, b_fieldCell, b_fieldNum, b_marked, b_digestOf)) : ∀ (u : SX) (v : SY), i_Rel k u v → P u v
  | (f_codeNum, f_codeOp, f_codeCon, f_codeCall, f_codeMatch, f_codeIfZero, f_codeRet, f_cellBase, f_unseen, f_capacity, f_depth, f_complete, f_open, f_stored, f_scope, f_borrowedNow, f_pending, f_liveCells, f_frames, f_spareTotal, f_state, f_borrowing, f_reusing, f_keeping, f_result, f_steps, f_fresh, f_reused, f_peak, a_arities, a_masks, a_starts, a_codes, a_extras, a_lefts, a_rights, a_scopes, a_uses, a_borrowed, a_lends, a_others, a_frees, a_afters, a_builds, a_pendingAt, a_tags, a_firsts, a_seconds, a_digests, a_counts, a_places, a_work, a_marks, a_variables, a_currents, a_held, a_spareCounts), (g_cap, g_most, g_functions, g_open, g_stored, g_scope, g_state, g_bits, g_frames, g_steps, g_fresh, g_reused, g_peak, g_resultCell, g_resultNum, g_seen, b_firstOf, b_arityOf, b_maskOf, b_kindOf, b_numOf, b_scopeOf, b_aOf, b_bOf, b_cur, b_spare, b_varCell, b_varNum, b_borrowed, b_tagOf, b_fieldCell, b_fieldNum, b_marked, b_digestOf), I => by
    obtain ⟨⟨e1, e2, e3, e4, e5, e6, e7, e8, e9, e10, e11, e12, e13, e14, e15, e16, e17, e18, e19⟩, F⟩ := I
    subst e1 e2 e3 e4 e5 e6 e7 e8 e9 e10 e11 e12 e13 e14 e15 e16 e17 e18 e19
    exact h _ _ _ _ _ _ _ _ _ _ _ _ _ _ _ _ _ _ _ _ _ _ _ _ _ _ _ _ _ _ _ _ _ _ _ _ _ _ _ _ _ _ _ _ _ _ _ _ _ _ _ _ _ _ _ _ _ _ _ _ _ _ _ _ _ _ _ _ _ _ _ _ F
theorem i_up {k : Nat} {u : SX} {v : SY} (h : i_Rel k u v) : i_Rel (k + 5) u v := h
theorem i_vc_status {k : Nat} {u : SX} {v : SY} (I : i_Rel k u v) (hk : k + 5 ≤ 2562) : wpX_status (fun r => wpY_status (fun r' => r' = r ∧ i_Rel (k + 5) u v) v) u := by
  refine zz_el (P := fun u v => wpX_status (fun r => wpY_status (fun r' => r' = r ∧ i_Rel (k + 5) u v) v) u) ?_ u v I
  intro f_codeNum f_codeOp f_codeCon f_codeCall f_codeMatch f_codeIfZero f_codeRet f_cellBase f_unseen f_capacity f_depth f_complete f_open f_stored f_scope f_borrowedNow f_pending f_liveCells f_frames f_spareTotal f_state f_borrowing f_reusing f_keeping f_result f_steps f_fresh f_reused f_peak a_arities a_masks a_starts a_codes a_extras a_lefts a_rights a_scopes a_uses a_borrowed a_lends a_others a_frees a_afters a_builds a_pendingAt a_tags a_firsts a_seconds a_digests a_counts a_places a_work a_marks a_variables a_currents a_held a_spareCounts g_bits g_resultCell g_resultNum g_seen b_aOf b_bOf b_spare b_varCell b_varNum b_borrowed b_tagOf b_fieldCell b_fieldNum b_marked b_digestOf F
  exact ⟨rfl, zz_in F⟩
theorem i_vc_total {k : Nat} {u : SX} {v : SY} (I : i_Rel k u v) (hk : k + 5 ≤ 2562) (v1 : Int32) : wpX_total (fun r => wpY_total (fun r' => r' = r ∧ i_Rel (k + 5) u v) v v1) u v1 := by
  refine zz_el (P := fun u v => wpX_total (fun r => wpY_total (fun r' => r' = r ∧ i_Rel (k + 5) u v) v v1) u v1) ?_ u v I
  intro f_codeNum f_codeOp f_codeCon f_codeCall f_codeMatch f_codeIfZero f_codeRet f_cellBase f_unseen f_capacity f_depth f_complete f_open f_stored f_scope f_borrowedNow f_pending f_liveCells f_frames f_spareTotal f_state f_borrowing f_reusing f_keeping f_result f_steps f_fresh f_reused f_peak a_arities a_masks a_starts a_codes a_extras a_lefts a_rights a_scopes a_uses a_borrowed a_lends a_others a_frees a_afters a_builds a_pendingAt a_tags a_firsts a_seconds a_digests a_counts a_places a_work a_marks a_variables a_currents a_held a_spareCounts g_bits g_resultCell g_resultNum g_seen b_aOf b_bOf b_spare b_varCell b_varNum b_borrowed b_tagOf b_fieldCell b_fieldNum b_marked b_digestOf F
  have J : i_Rel (k + 5) (f_codeNum, f_codeOp, f_codeCon, f_codeCall, f_codeMatch, f_codeIfZero, f_codeRet, f_cellBase, f_unseen, f_capacity, f_depth, f_complete, f_open, f_stored, f_scope, f_borrowedNow, f_pending, f_liveCells, f_frames, f_spareTotal, f_state, f_borrowing, f_reusing, f_keeping, f_result, f_steps, f_fresh, f_reused, f_peak, a_arities, a_masks, a_starts, a_codes, a_extras, a_lefts, a_rights, a_scopes, a_uses, a_borrowed, a_lends, a_others, a_frees, a_afters, a_builds, a_pendingAt, a_tags, a_firsts, a_seconds, a_digests, a_counts, a_places, a_work, a_marks, a_variables, a_currents, a_held, a_spareCounts) (f_capacity, f_depth, f_complete, f_open, f_stored, f_scope, f_state, g_bits, f_frames, f_steps, f_fresh, f_reused, f_peak, g_resultCell, g_resultNum, g_seen, a_starts, a_arities, a_masks, a_codes, a_extras, a_scopes, b_aOf, b_bOf, a_currents, b_spare, b_varCell, b_varNum, b_borrowed, b_tagOf, b_fieldCell, b_fieldNum, b_marked, b_digestOf) := zz_in F
  exact br_c (fun h0 => br_t h0 ⟨rfl, J⟩) (fun h0 => br_c (fun h1 => br_f h0 (br_t h1 ⟨rfl, J⟩)) (fun h1 => br_c (fun h2 => br_f h0 (br_f h1 (br_t h2 ⟨rfl, J⟩))) (fun h2 => br_c (fun h3 => br_f h0 (br_f h1 (br_f h2 (br_t h3 ⟨rfl, J⟩)))) (fun h3 => br_c (fun h4 => br_f h0 (br_f h1 (br_f h2 (br_f h3 (br_t h4 ⟨rfl, J⟩))))) (fun h4 => br_f h0 (br_f h1 (br_f h2 (br_f h3 (br_f h4 ⟨rfl, J⟩)))))))))
theorem i_vc_spares {k : Nat} {u : SX} {v : SY} (I : i_Rel k u v) (hk : k + 5 ≤ 2562) (v1 : Int32) : wpX_spares (fun r => wpY_spares (fun r' => r' = r ∧ i_Rel (k + 5) u v) v v1) u v1 := by
  refine zz_el (P := fun u v => wpX_spares (fun r => wpY_spares (fun r' => r' = r ∧ i_Rel (k + 5) u v) v v1) u v1) ?_ u v I
  intro f_codeNum f_codeOp f_codeCon f_codeCall f_codeMatch f_codeIfZero f_codeRet f_cellBase f_unseen f_capacity f_depth f_complete f_open f_stored f_scope f_borrowedNow f_pending f_liveCells f_frames f_spareTotal f_state f_borrowing f_reusing f_keeping f_result f_steps f_fresh f_reused f_peak a_arities a_masks a_starts a_codes a_extras a_lefts a_rights a_scopes a_uses a_borrowed a_lends a_others a_frees a_afters a_builds a_pendingAt a_tags a_firsts a_seconds a_digests a_counts a_places a_work a_marks a_variables a_currents a_held a_spareCounts g_bits g_resultCell g_resultNum g_seen b_aOf b_bOf b_spare b_varCell b_varNum b_borrowed b_tagOf b_fieldCell b_fieldNum b_marked b_digestOf F
  have J : i_Rel (k + 5) (f_codeNum, f_codeOp, f_codeCon, f_codeCall, f_codeMatch, f_codeIfZero, f_codeRet, f_cellBase, f_unseen, f_capacity, f_depth, f_complete, f_open, f_stored, f_scope, f_borrowedNow, f_pending, f_liveCells, f_frames, f_spareTotal, f_state, f_borrowing, f_reusing, f_keeping, f_result, f_steps, f_fresh, f_reused, f_peak, a_arities, a_masks, a_starts, a_codes, a_extras, a_lefts, a_rights, a_scopes, a_uses, a_borrowed, a_lends, a_others, a_frees, a_afters, a_builds, a_pendingAt, a_tags, a_firsts, a_seconds, a_digests, a_counts, a_places, a_work, a_marks, a_variables, a_currents, a_held, a_spareCounts) (f_capacity, f_depth, f_complete, f_open, f_stored, f_scope, f_state, g_bits, f_frames, f_steps, f_fresh, f_reused, f_peak, g_resultCell, g_resultNum, g_seen, a_starts, a_arities, a_masks, a_codes, a_extras, a_scopes, b_aOf, b_bOf, a_currents, b_spare, b_varCell, b_varNum, b_borrowed, b_tagOf, b_fieldCell, b_fieldNum, b_marked, b_digestOf) := zz_in F
  obtain ⟨sc, bw, cm, b, st, p, cu, sg, rk, sp, L, n, lv, cp, dp, T, R⟩ := F
  have hn := R.2.2.2.2.1.1
  refine br_c (fun h0 => br_t h0 ⟨rfl, J⟩) (fun h0 => br_c (fun h1 => ?_) (fun h1 => br_f h0 (br_f h1 ⟨rfl, J⟩)))
  obtain ⟨j, hj, rfl⟩ := nI_of h0
  have h2 := h1
  rw [R.2.2.1, nI_ltI hj (by omega)] at h2
  refine ⟨vp_in_nI (by omega) (by omega), br_f h0 (br_t h1 ⟨vp_in_nI (by omega) (by omega), ?_, J⟩)⟩
  rw [nI_clamp hj, (R.2.2.2.1.1 j h2).1, (R.2.2.2.1.1 j h2).2]
theorem i_vc_at {k : Nat} {u : SX} {v : SY} (I : i_Rel k u v) (hk : k + 5 ≤ 2562) (v1 : Int32) : wpX_at (fun r => wpY_at (fun r' => r' = r ∧ i_Rel (k + 5) u v) v v1) u v1 := by
  refine zz_el (P := fun u v => wpX_at (fun r => wpY_at (fun r' => r' = r ∧ i_Rel (k + 5) u v) v v1) u v1) ?_ u v I
  intro f_codeNum f_codeOp f_codeCon f_codeCall f_codeMatch f_codeIfZero f_codeRet f_cellBase f_unseen f_capacity f_depth f_complete f_open f_stored f_scope f_borrowedNow f_pending f_liveCells f_frames f_spareTotal f_state f_borrowing f_reusing f_keeping f_result f_steps f_fresh f_reused f_peak a_arities a_masks a_starts a_codes a_extras a_lefts a_rights a_scopes a_uses a_borrowed a_lends a_others a_frees a_afters a_builds a_pendingAt a_tags a_firsts a_seconds a_digests a_counts a_places a_work a_marks a_variables a_currents a_held a_spareCounts g_bits g_resultCell g_resultNum g_seen b_aOf b_bOf b_spare b_varCell b_varNum b_borrowed b_tagOf b_fieldCell b_fieldNum b_marked b_digestOf F
  have J : i_Rel (k + 5) (f_codeNum, f_codeOp, f_codeCon, f_codeCall, f_codeMatch, f_codeIfZero, f_codeRet, f_cellBase, f_unseen, f_capacity, f_depth, f_complete, f_open, f_stored, f_scope, f_borrowedNow, f_pending, f_liveCells, f_frames, f_spareTotal, f_state, f_borrowing, f_reusing, f_keeping, f_result, f_steps, f_fresh, f_reused, f_peak, a_arities, a_masks, a_starts, a_codes, a_extras, a_lefts, a_rights, a_scopes, a_uses, a_borrowed, a_lends, a_others, a_frees, a_afters, a_builds, a_pendingAt, a_tags, a_firsts, a_seconds, a_digests, a_counts, a_places, a_work, a_marks, a_variables, a_currents, a_held, a_spareCounts) (f_capacity, f_depth, f_complete, f_open, f_stored, f_scope, f_state, g_bits, f_frames, f_steps, f_fresh, f_reused, f_peak, g_resultCell, g_resultNum, g_seen, a_starts, a_arities, a_masks, a_codes, a_extras, a_scopes, b_aOf, b_bOf, a_currents, b_spare, b_varCell, b_varNum, b_borrowed, b_tagOf, b_fieldCell, b_fieldNum, b_marked, b_digestOf) := zz_in F
  obtain ⟨sc, bw, cm, b, st, p, cu, sg, rk, sp, L, n, lv, cp, dp, T, R⟩ := F
  have hn := R.2.2.2.2.1.1
  refine br_c (fun h0 => br_t h0 ⟨rfl, J⟩) (fun h0 => br_c (fun h1 => ?_) (fun h1 => br_f h0 (br_f h1 ⟨rfl, J⟩)))
  obtain ⟨j, hj, rfl⟩ := nI_of h0
  have h2 := h1
  rw [R.2.2.1, nI_ltI hj (by omega)] at h2
  exact ⟨vp_in_nI (by omega) (by omega), br_f h0 (br_t h1 ⟨vp_in_nI (by omega) (by omega), rfl, J⟩)⟩
theorem i_vc_live {k : Nat} {u : SX} {v : SY} (I : i_Rel k u v) (hk : k + 5 ≤ 2562) : wpX_live (fun r => wpY_live (fun r' v' => r' = r ∧ i_Rel (k + 5) u v') v) u := by
  refine zz_el (P := fun u v => wpX_live (fun r => wpY_live (fun r' v' => r' = r ∧ i_Rel (k + 5) u v') v) u) ?_ u v I
  intro f_codeNum f_codeOp f_codeCon f_codeCall f_codeMatch f_codeIfZero f_codeRet f_cellBase f_unseen f_capacity f_depth f_complete f_open f_stored f_scope f_borrowedNow f_pending f_liveCells f_frames f_spareTotal f_state f_borrowing f_reusing f_keeping f_result f_steps f_fresh f_reused f_peak a_arities a_masks a_starts a_codes a_extras a_lefts a_rights a_scopes a_uses a_borrowed a_lends a_others a_frees a_afters a_builds a_pendingAt a_tags a_firsts a_seconds a_digests a_counts a_places a_work a_marks a_variables a_currents a_held a_spareCounts g_bits g_resultCell g_resultNum g_seen b_aOf b_bOf b_spare b_varCell b_varNum b_borrowed b_tagOf b_fieldCell b_fieldNum b_marked b_digestOf F
  have F0 := F
  obtain ⟨sc, bw, cm, b, st, p, cu, sg, rk, sp, L, n, lv, cp, dp, T, R⟩ := F
  obtain ⟨t1, t2, t3, t4, C, t6⟩ := T
  obtain ⟨r1, r5, r6, P, K⟩ := R
  subst r5 r6 t2
  exact yk_mark C K t3 t4 (fun mk _ => ⟨rfl, zz_in (b_marked := mk) F0⟩)
theorem i_vc_progress {k : Nat} {u : SX} {v : SY} (I : i_Rel k u v) (hk : k + 5 ≤ 2562) (v1 : Int32) : wpX_progress (fun r => wpY_progress (fun r' => r' = r ∧ i_Rel (k + 5) u v) v v1) u v1 := by
  refine zz_el (P := fun u v => wpX_progress (fun r => wpY_progress (fun r' => r' = r ∧ i_Rel (k + 5) u v) v v1) u v1) ?_ u v I
  intro f_codeNum f_codeOp f_codeCon f_codeCall f_codeMatch f_codeIfZero f_codeRet f_cellBase f_unseen f_capacity f_depth f_complete f_open f_stored f_scope f_borrowedNow f_pending f_liveCells f_frames f_spareTotal f_state f_borrowing f_reusing f_keeping f_result f_steps f_fresh f_reused f_peak a_arities a_masks a_starts a_codes a_extras a_lefts a_rights a_scopes a_uses a_borrowed a_lends a_others a_frees a_afters a_builds a_pendingAt a_tags a_firsts a_seconds a_digests a_counts a_places a_work a_marks a_variables a_currents a_held a_spareCounts g_bits g_resultCell g_resultNum g_seen b_aOf b_bOf b_spare b_varCell b_varNum b_borrowed b_tagOf b_fieldCell b_fieldNum b_marked b_digestOf F
  have J : i_Rel (k + 5) (f_codeNum, f_codeOp, f_codeCon, f_codeCall, f_codeMatch, f_codeIfZero, f_codeRet, f_cellBase, f_unseen, f_capacity, f_depth, f_complete, f_open, f_stored, f_scope, f_borrowedNow, f_pending, f_liveCells, f_frames, f_spareTotal, f_state, f_borrowing, f_reusing, f_keeping, f_result, f_steps, f_fresh, f_reused, f_peak, a_arities, a_masks, a_starts, a_codes, a_extras, a_lefts, a_rights, a_scopes, a_uses, a_borrowed, a_lends, a_others, a_frees, a_afters, a_builds, a_pendingAt, a_tags, a_firsts, a_seconds, a_digests, a_counts, a_places, a_work, a_marks, a_variables, a_currents, a_held, a_spareCounts) (f_capacity, f_depth, f_complete, f_open, f_stored, f_scope, f_state, g_bits, f_frames, f_steps, f_fresh, f_reused, f_peak, g_resultCell, g_resultNum, g_seen, a_starts, a_arities, a_masks, a_codes, a_extras, a_scopes, b_aOf, b_bOf, a_currents, b_spare, b_varCell, b_varNum, b_borrowed, b_tagOf, b_fieldCell, b_fieldNum, b_marked, b_digestOf) := zz_in F
  obtain ⟨sc, bw, cm, b, st, p, cu, sg, rk, sp, L, n, lv, cp, dp, T, R⟩ := F
  obtain ⟨t1, t2, t3, t4, C, t6⟩ := T
  subst t1 t2
  have Yp : ∀ Q : Int32 → Prop, (∀ w, (f_open = 0 → w = 0) → (¬ f_open = 0 → w = f_pending) → yw_pg Q v1 (nI cm) (nI st) f_open f_scope w) → wpY_progress Q (f_capacity, f_depth, nI cm, f_open, nI st, f_scope, f_state, g_bits, f_frames, f_steps, f_fresh, f_reused, f_peak, g_resultCell, g_resultNum, g_seen, a_starts, a_arities, a_masks, a_codes, a_extras, a_scopes, b_aOf, b_bOf, a_currents, b_spare, b_varCell, b_varNum, b_borrowed, b_tagOf, b_fieldCell, b_fieldNum, b_marked, b_digestOf) v1 := by
    intro Q hQ
    rcases t6 with ⟨o1, o2⟩ | ⟨o1, O⟩
    · exact yw_prC o1 t4 (hQ 0 (fun _ => rfl) (fun z => absurd o1 z))
    · obtain ⟨c1, c2, c3, c4, c5, c6, c7, c8, c9, c10, c11, c12, c13⟩ := O
      have no : ¬ f_open = 0 := by rw [o1]; decide
      exact yw_prO no c1 c2 t3 t4 c11 c12 (hQ _ (fun z => absurd z no) (fun _ => c7.symm))
  refine br_c (fun h0 => Yp _ (fun w w1 w2 => br_t h0 ⟨rfl, J⟩)) (fun h0 => br_c (fun h1 => Yp _ (fun w w1 w2 => br_f h0 (br_t h1 ⟨rfl, J⟩))) (fun h1 => br_c (fun h2 => br_c (fun h3 => Yp _ (fun w w1 w2 => br_f h0 (br_f h1 (br_t h2 (br_t h3 ⟨rfl, J⟩))))) (fun h3 => Yp _ (fun w w1 w2 => br_f h0 (br_f h1 (br_t h2 (br_f h3 ⟨rfl, J⟩)))))) (fun h2 => br_c (fun h3 => br_c (fun h4 => Yp _ (fun w w1 w2 => br_f h0 (br_f h1 (br_f h2 (br_t h3 ⟨w1 h4, J⟩))))) (fun h4 => Yp _ (fun w w1 w2 => br_f h0 (br_f h1 (br_f h2 (br_t h3 ⟨w2 h4, J⟩)))))) (fun h3 => Yp _ (fun w w1 w2 => br_f h0 (br_f h1 (br_f h2 (br_f h3 ⟨rfl, J⟩))))))))
end
section
section
variable {f_codeNum f_codeOp f_codeCon f_codeCall f_codeMatch f_codeIfZero f_codeRet : Int32} {f_cellBase f_unseen : Int64} {f_capacity f_depth f_complete f_open f_stored f_scope f_borrowedNow f_pending f_liveCells f_frames f_spareTotal f_state f_borrowing f_reusing f_keeping : Int32} {f_result : Int64} {f_steps f_fresh f_reused f_peak : Int32} {a_arities a_masks a_starts a_codes a_extras a_lefts a_rights a_scopes a_uses a_borrowed a_lends a_others a_frees a_afters a_builds a_pendingAt a_tags : Nat → Int32} {a_firsts a_seconds : Nat → Int64} {a_digests a_counts a_places a_work a_marks : Nat → Int32} {a_variables : Nat → Int64} {a_currents a_held a_spareCounts : Nat → Int32} {g_bits g_resultCell g_resultNum g_seen : Int32} {b_aOf b_bOf b_spare b_varCell b_varNum b_borrowed b_tagOf b_fieldCell b_fieldNum b_marked b_digestOf : Nat → Int32}
variable {sc cu sg rk sp : Nat → Nat} {bw : Nat → Int32} {L : Nat → Bool} {cm b n lv st cp dp : Nat}
/-- Y's spares of other frames are of no account -/
theorem rr_Rs {spY : Nat → Int32} (R : rr_R f_capacity f_depth f_liveCells f_frames f_spareTotal a_spareCounts b_spare f_state f_borrowing f_reusing f_keeping f_result f_fresh a_codes a_borrowed a_lends a_frees a_afters a_tags a_firsts a_seconds a_digests a_counts a_places a_work a_variables a_currents a_held g_bits g_resultCell g_resultNum b_varCell b_varNum b_borrowed b_tagOf b_fieldCell b_fieldNum sc cu sg rk sp L b n lv cp dp) (h : ∀ g, g < n → spY g = nI (sp g)) : rr_R f_capacity f_depth f_liveCells f_frames f_spareTotal a_spareCounts spY f_state f_borrowing f_reusing f_keeping f_result f_fresh a_codes a_borrowed a_lends a_frees a_afters a_tags a_firsts a_seconds a_digests a_counts a_places a_work a_variables a_currents a_held g_bits g_resultCell g_resultNum b_varCell b_varNum b_borrowed b_tagOf b_fieldCell b_fieldNum sc cu sg rk sp L b n lv cp dp := by
  obtain ⟨r1, r5, r6, P, K⟩ := R
  exact ⟨r1, r5, r6, ⟨fun g hg => ⟨(P.1 g hg).1, h g hg⟩, P.2⟩, K⟩
end
theorem i_vc_run {k : Nat} {u : SX} {v : SY} (I : i_Rel k u v) (hk : k + 5 ≤ 2562) (v1 : Int32) : wpX_run (fun r u' => wpY_run (fun r' v' => r' = r ∧ i_Rel (k + 5) u' v') v v1) u v1 := by
  refine zz_el (P := fun u v => wpX_run (fun r u' => wpY_run (fun r' v' => r' = r ∧ i_Rel (k + 5) u' v') v v1) u v1) ?_ u v I
  intro f_codeNum f_codeOp f_codeCon f_codeCall f_codeMatch f_codeIfZero f_codeRet f_cellBase f_unseen f_capacity f_depth f_complete f_open f_stored f_scope f_borrowedNow f_pending f_liveCells f_frames f_spareTotal f_state f_borrowing f_reusing f_keeping f_result f_steps f_fresh f_reused f_peak a_arities a_masks a_starts a_codes a_extras a_lefts a_rights a_scopes a_uses a_borrowed a_lends a_others a_frees a_afters a_builds a_pendingAt a_tags a_firsts a_seconds a_digests a_counts a_places a_work a_marks a_variables a_currents a_held a_spareCounts g_bits g_resultCell g_resultNum g_seen b_aOf b_bOf b_spare b_varCell b_varNum b_borrowed b_tagOf b_fieldCell b_fieldNum b_marked b_digestOf F
  obtain ⟨sc, bw, cm, b, st, p, cu, sg, rk, sp, L, n, lv, cp, dp, T, R⟩ := F
  have T0 := T
  obtain ⟨t1, t2, t3, t4, C, t6⟩ := T
  have go : ∀ q, q ≤ 100 → (∀ i, i < q → ¬ v1 ≤ nI i) → (v1 ≤ nI q ∨ q = 100) → ∃ m, wX_run_11 (fun r u' => wpY_run (fun r' v' => r' = r ∧ i_Rel (k + 5) u' v') (f_capacity, f_depth, f_complete, f_open, f_stored, f_scope, f_state, g_bits, f_frames, f_steps, f_fresh, f_reused, f_peak, g_resultCell, g_resultNum, g_seen, a_starts, a_arities, a_masks, a_codes, a_extras, a_scopes, b_aOf, b_bOf, a_currents, b_spare, b_varCell, b_varNum, b_borrowed, b_tagOf, b_fieldCell, b_fieldNum, b_marked, b_digestOf) v1) (nI q) m 0 f_codeNum f_codeOp f_codeCon f_codeCall f_codeMatch f_codeIfZero f_codeRet f_cellBase f_unseen f_capacity f_depth f_complete f_open f_stored f_scope f_borrowedNow f_pending f_liveCells f_frames f_spareTotal f_state f_borrowing f_reusing f_keeping f_result f_steps f_fresh f_reused f_peak a_arities a_masks a_starts a_codes a_extras a_lefts a_rights a_scopes a_uses a_borrowed a_lends a_others a_frees a_afters a_builds a_pendingAt a_tags a_firsts a_seconds a_digests a_counts a_places a_work a_marks a_variables a_currents a_held a_spareCounts := by
    intro q hq h1 h2
    refine ⟨q + 1, ?_⟩
    refine st_loop (W := fun Yp => wpY_run Yp (f_capacity, f_depth, f_complete, f_open, f_stored, f_scope, f_state, g_bits, f_frames, f_steps, f_fresh, f_reused, f_peak, g_resultCell, g_resultNum, g_seen, a_starts, a_arities, a_masks, a_codes, a_extras, a_scopes, b_aOf, b_bOf, a_currents, b_spare, b_varCell, b_varNum, b_borrowed, b_tagOf, b_fieldCell, b_fieldNum, b_marked, b_digestOf) v1) (sc := sc) (bw := bw) (cm := cm) (b := b) (st := st) (cp := cp) (dp := dp) (g_seen := g_seen) (b_digestOf := b_digestOf) (g_bits := g_bits) hq h1 h2 C t3 t4 t2 ?_ q 0 f_liveCells f_frames f_spareTotal f_state f_result f_steps f_fresh f_reused f_peak a_tags a_firsts a_seconds a_digests a_counts a_places a_work a_variables a_currents a_held a_spareCounts g_resultCell g_resultNum b_varCell b_varNum b_borrowed b_tagOf b_fieldCell b_fieldNum cu sg rk sp L n lv (by omega) (rr_Rs R (fun _ _ => rfl)) (fun Yp hY => ⟨q + 1, hY b_marked b_spare (fun g hg => (R.2.2.2.1.1 g hg).2)⟩)
    intro f_liveCells f_frames f_spareTotal f_state f_result f_steps f_fresh f_reused f_peak a_tags a_firsts a_seconds a_digests a_counts a_places a_work a_variables a_currents a_held a_spareCounts g_resultCell g_resultNum b_varCell b_varNum b_borrowed b_tagOf b_fieldCell b_fieldNum cu sg rk sp L n lv R' hW
    exact hW _ (fun mk spY hs => ⟨rfl, zz_in ⟨sc, bw, cm, b, st, p, cu, sg, rk, sp, L, n, lv, cp, dp, T0, rr_Rs R' hs⟩⟩)
  unfold wpX_run wpX_clamp
  refine br_c (fun h0 => br_c (fun h1 => ?_) (fun h1 => ?_)) (fun h0 => ?_)
  · obtain ⟨j, hj, rfl⟩ := nI_of2 (M := 100) (n := 100) (by decide) (Int32.not_lt.mpr h0) h1
    exact go j hj (fun i hi => nI_ge hi (by omega)) (Or.inl (Int32.le_refl _))
  · refine go 100 (by omega) (fun i hi z => h1 (Int32.le_trans z ?_)) (Or.inr rfl)
    exact nI_le (b := 100) (by omega) (by omega)
  · refine go 0 (by omega) (fun i hi => by omega) (Or.inl ?_)
    rw [nI_0]
    exact Int32.le_of_lt (Int32.not_le.mp h0)
end
section
section
variable {f_codeNum f_codeOp f_codeCon f_codeCall f_codeMatch f_codeIfZero f_codeRet : Int32} {f_cellBase f_unseen : Int64} {f_capacity f_depth f_complete f_open f_stored f_scope f_borrowedNow f_pending f_liveCells f_frames f_spareTotal f_state f_borrowing f_reusing f_keeping : Int32} {f_result : Int64} {f_steps f_fresh f_reused f_peak : Int32} {a_arities a_masks a_starts a_codes a_extras a_lefts a_rights a_scopes a_uses a_borrowed a_lends a_others a_frees a_afters a_builds a_pendingAt a_tags : Nat → Int32} {a_firsts a_seconds : Nat → Int64} {a_digests a_counts a_places a_work a_marks : Nat → Int32} {a_variables : Nat → Int64} {a_currents a_held a_spareCounts : Nat → Int32}
theorem xt_80 {post : Int32 → SX → Prop} {g : Nat} {x2 x3 : Int32}
    (hc : ∀ pl cnt, (∀ j, j < 160 → pl j = nI j ∧ cnt j = 0) → (a_arities g < 1 → wX_start_164 post (nI g) x3 f_codeNum f_codeOp f_codeCon f_codeCall f_codeMatch f_codeIfZero f_codeRet f_cellBase f_unseen f_capacity f_depth f_complete f_open f_stored f_scope f_borrowedNow f_pending 0 f_frames 0 f_state f_borrowing f_reusing f_keeping 0 0 0 0 0 a_arities a_masks a_starts a_codes a_extras a_lefts a_rights a_scopes a_uses a_borrowed a_lends a_others a_frees a_afters a_builds a_pendingAt a_tags a_firsts a_seconds a_digests cnt pl a_work a_marks a_variables a_currents a_held a_spareCounts) ∧
      (¬ a_arities g < 1 → wX_start_164 post (nI g) x3 f_codeNum f_codeOp f_codeCon f_codeCall f_codeMatch f_codeIfZero f_codeRet f_cellBase f_unseen f_capacity f_depth f_complete f_open f_stored f_scope f_borrowedNow f_pending 0 f_frames 0 f_state f_borrowing f_reusing f_keeping 0 0 0 0 0 a_arities a_masks a_starts a_codes a_extras a_lefts a_rights a_scopes a_uses a_borrowed a_lends a_others a_frees a_afters a_builds a_pendingAt a_tags a_firsts a_seconds a_digests cnt pl a_work a_marks (vp_updL a_variables 0 x2.toInt64) a_currents a_held a_spareCounts)) (hg : g < 6) :
    ∀ (k m i : Nat) (pl cnt : Nat → Int32), i + k = 160 → k < m → (∀ j, j < i → pl j = nI j ∧ cnt j = 0) → wX_start_80 post (nI g) x2 x3 f_codeNum f_codeOp f_codeCon f_codeCall f_codeMatch f_codeIfZero f_codeRet f_cellBase f_unseen f_capacity f_depth f_complete f_open f_stored f_scope f_borrowedNow f_pending f_liveCells f_frames f_spareTotal f_state f_borrowing f_reusing f_keeping f_result f_steps f_fresh f_reused f_peak m (nI i) a_arities a_masks a_starts a_codes a_extras a_lefts a_rights a_scopes a_uses a_borrowed a_lends a_others a_frees a_afters a_builds a_pendingAt a_tags a_firsts a_seconds a_digests cnt pl a_work a_marks a_variables a_currents a_held a_spareCounts := by
  intro k
  induction k with
  | zero =>
    intro m i pl cnt hi hm h
    obtain ⟨m, rfl⟩ : ∃ q, m = q + 1 := ⟨m - 1, by omega⟩
    have : i = 160 := by omega
    subst this
    refine br_t (Int32.le_refl _) ⟨vp_in_nI hg (by omega), ?_⟩
    rw [nI_clamp (show g < 2 ^ 31 by omega)]
    exact br_c (hc pl cnt h).1 (fun z => nm_e ((hc pl cnt h).2 z))
  | succ k ih =>
    intro m i pl cnt hi hm h
    obtain ⟨m, rfl⟩ : ∃ q, m = q + 1 := ⟨m - 1, by omega⟩
    refine br_f (nI_ge (b := 160) (by omega) (by omega)) ?_
    rw [nI_clamp (show i < 2 ^ 31 by omega)]
    refine ⟨vp_in_nI (by omega) (by omega), nm_e ⟨vp_in_nI (by omega) (by omega), nm_e (nm_r (nI_1 i) (ih m (i + 1) _ _ (by omega) (by omega) (fun j hj => ?_)))⟩⟩
    by_cases e : j = i
    · rw [e, pk_us, pk_us]; exact ⟨rfl, rfl⟩
    · rw [pk_un e, pk_un e]; exact h j (by omega)
/-- the heap at a run's start -/
theorem xt_hx {kp : Int32} {fx sy vs : Nat → Int64} {H : Nat → Bool} {E : Nat → Nat} {cnt pl wk : Nat → Int32} (h : ∀ j, j < 160 → pl j = nI j ∧ cnt j = 0) (hH : ∀ x, x < 240 → H x = false) (hE : ∀ c, c < 160 → E c = 0) : hx_S kp (fun _ => false) fx sy vs H E cnt pl 0 wk := by
  have hK : ∀ c, c < 160 → hp_K (fun _ => false) fx sy vs H E c = 0 := fun c hc => by
    unfold hp_K
    have e3 : rc_sm (fun d => if (fun _ : Nat => false) d = true then rc_d (fx d) c + rc_d (sy d) c else 0) 160 = 0 := rc_sm_0 160 (fun d _ => if_neg Bool.false_ne_true)
    rw [hE c hc, rc_sm_0 240 (fun x hx => by rw [hH x hx]; rfl), e3]
  refine ⟨fun _ => ⟨fun c hc => by rw [hK c hc, (h c hc).2]; rfl, fun c hc => ?_, fun i hi => by omega, fun i j _ hj => by omega, ?_, fun i _ hi => ⟨i, hi, (h i hi).1, rfl⟩, fun i j _ hij hj => ?_, fun d hd hL => (Bool.false_ne_true hL).elim, fun x hx hh => ?_⟩, fun _ => ⟨by omega, fun c hc => ⟨fun z => (Bool.false_ne_true z).elim, fun z => by omega⟩, fun i _ hi => (h i hi).1, fun d hd hL => (Bool.false_ne_true hL).elim⟩⟩
  · rw [hK c hc]
    refine ⟨fun z => (Bool.false_ne_true z).elim, ?_⟩
    rintro (z | ⟨i, hi, _⟩) <;> omega
  · exact (rc_sm_0 160 (fun c _ => rfl)).symm
  · rw [(h i (by omega)).1, (h j hj).1]
    intro z
    rw [nI_eq (by omega) (by omega)] at z; omega
  · rw [hH x hx] at hh; exact absurd hh (by decide)
theorem xt_start {post : Int32 → SX → Prop} {g t ar : Nat} {x2 x3 : Int32} (hg : g < 6) (ht : t < 96) (ear : a_arities g = nI ar) (har : ar ≤ 2) (et : a_starts g = nI t) (hlt : ∀ i, i < 12 → bt (a_frees t) i = true → i < ar)
    (hp : ∀ cnt pl wk vs', (1 ≤ ar → vs' 0 = x2.toInt64) → (ar = 2 → vs' 1 = x3.toInt64) →
      hx_S f_keeping (fun _ => false) a_firsts a_seconds vs' (xr_H 1 (upd (upd a_held 0 0) 0 (xg_m f_borrowing (a_frees t) (a_borrowed t)))) (fun _ => 0) cnt pl 0 wk →
      post 1 (f_codeNum, f_codeOp, f_codeCon, f_codeCall, f_codeMatch, f_codeIfZero, f_codeRet, f_cellBase, f_unseen, f_capacity, f_depth, f_complete, f_open, f_stored, f_scope, f_borrowedNow, f_pending, nI 0, 1, 0, 1, f_borrowing, f_reusing, f_keeping, 0, 0, 0, 0, 0, a_arities, a_masks, a_starts, a_codes, a_extras, a_lefts, a_rights, a_scopes, a_uses, a_borrowed, a_lends, a_others, a_frees, a_afters, a_builds, a_pendingAt, a_tags, a_firsts, a_seconds, a_digests, cnt, pl, wk, a_marks, vs', upd a_currents 0 (nI t), upd (upd a_held 0 0) 0 (xg_m f_borrowing (a_frees t) (a_borrowed t)), upd a_spareCounts 0 0)) :
    ∃ m, wX_start_80 post (nI g) x2 x3 f_codeNum f_codeOp f_codeCon f_codeCall f_codeMatch f_codeIfZero f_codeRet f_cellBase f_unseen f_capacity f_depth f_complete f_open f_stored f_scope f_borrowedNow f_pending f_liveCells f_frames f_spareTotal f_state f_borrowing f_reusing f_keeping f_result f_steps f_fresh f_reused f_peak m 0 a_arities a_masks a_starts a_codes a_extras a_lefts a_rights a_scopes a_uses a_borrowed a_lends a_others a_frees a_afters a_builds a_pendingAt a_tags a_firsts a_seconds a_digests a_counts a_places a_work a_marks a_variables a_currents a_held a_spareCounts := by
  have g182 : ∀ cnt pl vs', (∀ j, j < 160 → pl j = nI j ∧ cnt j = 0) → (1 ≤ ar → vs' 0 = x2.toInt64) → (ar = 2 → vs' 1 = x3.toInt64) →
      wX_start_182 post (nI g) f_codeNum f_codeOp f_codeCon f_codeCall f_codeMatch f_codeIfZero f_codeRet f_cellBase f_unseen f_capacity f_depth f_complete f_open f_stored f_scope f_borrowedNow f_pending 0 f_frames 0 f_state f_borrowing f_reusing f_keeping 0 0 0 0 0 a_arities a_masks a_starts a_codes a_extras a_lefts a_rights a_scopes a_uses a_borrowed a_lends a_others a_frees a_afters a_builds a_pendingAt a_tags a_firsts a_seconds a_digests cnt pl a_work a_marks vs' a_currents a_held a_spareCounts := by
    intro cnt pl vs' hz h0 h1
    unfold wX_start_182
    rw [nI_clamp (show g < 2 ^ 31 by omega), et]
    refine nm_e (nm_e ⟨vp_in_nI hg (by omega), ?_⟩)
    have hv : ∀ i, i < 12 → bt (xg_m f_borrowing (a_frees t) (a_borrowed t)) i = true → vs' (0 * 12 + i) < 4294967296 := fun i hi q1 => by
      have hfi : bt (a_frees t) i = true := by
        unfold xg_m at q1
        split at q1
        · exact q1
        · rw [b_and, Bool.and_eq_true] at q1; exact q1.1
      have := hlt i hi hfi
      by_cases z : i = 0
      · rw [z, show 0 * 12 + 0 = 0 from rfl, h0 (by omega)]; exact rc_nv_lt _
      · rw [show 0 * 12 + i = 1 by omega, h1 (by omega)]; exact rc_nv_lt _
    refine xx_goOn (f := 0) (H := fun _ => false) (E := fun _ => 0) (L := fun _ => false) (lv := 0) (by omega) ht (fun c _ => Nat.zero_le _) (fun i hi => by rw [pk_us, b_0]) (fun i hi q1 _ => ⟨Or.inl (hv i hi q1), fun c hc e => absurd (hv i hi q1) (by rw [e]; exact rc_cv_ge (by omega))⟩) (xt_hx hz (fun _ _ => rfl) (fun _ _ => rfl)) (fun L' cnt' pl' lv' wk' hs hk S' => ?_)
    have eL : L' = fun _ => false := funext (fun c => by
      cases q : L' c
      · rfl
      · exact (Bool.false_ne_true (hs c q)).elim)
    have elv : lv' = 0 := by
      rw [(hx_lv S').1, eL]
      exact rc_sm_0 160 (fun c _ => rfl)
    rw [eL, elv] at S'
    have := hp cnt' pl' wk' vs' h0 h1 (hx_vs (fun x _ => by
      rw [← xh_row (by omega) x]
      refine hp_hc ?_
      rw [xh_push x]
      unfold xr_H
      rw [decide_eq_false (by omega), Bool.false_and]) (fun _ _ _ => rfl) S')
    rw [elv]
    exact this
  have g164 : ∀ cnt pl vs1, (∀ j, j < 160 → pl j = nI j ∧ cnt j = 0) → (1 ≤ ar → vs1 0 = x2.toInt64) →
      wX_start_164 post (nI g) x3 f_codeNum f_codeOp f_codeCon f_codeCall f_codeMatch f_codeIfZero f_codeRet f_cellBase f_unseen f_capacity f_depth f_complete f_open f_stored f_scope f_borrowedNow f_pending 0 f_frames 0 f_state f_borrowing f_reusing f_keeping 0 0 0 0 0 a_arities a_masks a_starts a_codes a_extras a_lefts a_rights a_scopes a_uses a_borrowed a_lends a_others a_frees a_afters a_builds a_pendingAt a_tags a_firsts a_seconds a_digests cnt pl a_work a_marks vs1 a_currents a_held a_spareCounts := by
    intro cnt pl vs1 hz h0
    unfold wX_start_164
    rw [nI_clamp (show g < 2 ^ 31 by omega), ear]
    refine ⟨vp_in_nI hg (by omega), pk_eq ar 2 (fun z => nm_e (g182 cnt pl _ hz (fun q => ?_) (fun _ => pk_uLs))) (fun z => g182 cnt pl vs1 hz h0 (fun q => absurd q z))⟩
    rw [pk_uLn (by omega)]; exact h0 q
  refine ⟨161, xt_80 (fun pl cnt hz => ⟨fun z => g164 cnt pl _ hz (fun q => ?_), fun z => g164 cnt pl _ hz (fun _ => pk_uLs)⟩) hg 160 161 0 a_places a_counts (by omega) (by omega) (fun j hj => by omega)⟩
  rw [ear] at z
  exact absurd z (nI_nlt (b := 1) q (by omega))
end
end
section
theorem i_vc_start {k : Nat} {u : SX} {v : SY} (I : i_Rel k u v) (hk : k + 5 ≤ 2562) (v1 : Int32) (v2 : Int32) (v3 : Int32) (v4 : Int32) : wpX_start (fun r u' => wpY_start (fun r' v' => r' = r ∧ i_Rel (k + 5) u' v') v v1 v2 v3 v4) u v1 v2 v3 v4 := by
  refine zz_el (P := fun u v => wpX_start (fun r u' => wpY_start (fun r' v' => r' = r ∧ i_Rel (k + 5) u' v') v v1 v2 v3 v4) u v1 v2 v3 v4) ?_ u v I
  intro f_codeNum f_codeOp f_codeCon f_codeCall f_codeMatch f_codeIfZero f_codeRet f_cellBase f_unseen f_capacity f_depth f_complete f_open f_stored f_scope f_borrowedNow f_pending f_liveCells f_frames f_spareTotal f_state f_borrowing f_reusing f_keeping f_result f_steps f_fresh f_reused f_peak a_arities a_masks a_starts a_codes a_extras a_lefts a_rights a_scopes a_uses a_borrowed a_lends a_others a_frees a_afters a_builds a_pendingAt a_tags a_firsts a_seconds a_digests a_counts a_places a_work a_marks a_variables a_currents a_held a_spareCounts g_bits g_resultCell g_resultNum g_seen b_aOf b_bOf b_spare b_varCell b_varNum b_borrowed b_tagOf b_fieldCell b_fieldNum b_marked b_digestOf F
  have J : i_Rel (k + 5) (f_codeNum, f_codeOp, f_codeCon, f_codeCall, f_codeMatch, f_codeIfZero, f_codeRet, f_cellBase, f_unseen, f_capacity, f_depth, f_complete, f_open, f_stored, f_scope, f_borrowedNow, f_pending, f_liveCells, f_frames, f_spareTotal, f_state, f_borrowing, f_reusing, f_keeping, f_result, f_steps, f_fresh, f_reused, f_peak, a_arities, a_masks, a_starts, a_codes, a_extras, a_lefts, a_rights, a_scopes, a_uses, a_borrowed, a_lends, a_others, a_frees, a_afters, a_builds, a_pendingAt, a_tags, a_firsts, a_seconds, a_digests, a_counts, a_places, a_work, a_marks, a_variables, a_currents, a_held, a_spareCounts) (f_capacity, f_depth, f_complete, f_open, f_stored, f_scope, f_state, g_bits, f_frames, f_steps, f_fresh, f_reused, f_peak, g_resultCell, g_resultNum, g_seen, a_starts, a_arities, a_masks, a_codes, a_extras, a_scopes, b_aOf, b_bOf, a_currents, b_spare, b_varCell, b_varNum, b_borrowed, b_tagOf, b_fieldCell, b_fieldNum, b_marked, b_digestOf) := zz_in F
  obtain ⟨sc, bw, cm, b, st, p, cu, sg, rk, sp, L, n, lv, cp, dp, T, R⟩ := F
  have T0 := T
  obtain ⟨t1, t2, t3, t4, C, t6⟩ := T
  obtain ⟨⟨r1, r2, r3, r4⟩, r5, r6, P, K⟩ := R
  obtain ⟨F, V, B, Q, I, Y, M, Lv, S, SS⟩ := K
  refine br_c (fun h0 => br_t h0 ⟨rfl, J⟩) (fun h0 => br_c (fun h1 => ?_) (fun h1 => br_f h0 (br_f h1 ⟨rfl, J⟩)))
  obtain ⟨g, hg, rfl⟩ := nI_of h0
  have hC := C.2.1
  have h1' := h1
  rw [t1, nI_ltI hg (by omega)] at h1'
  have hg6 : g < 6 := by omega
  have hb96 := C.1
  obtain ⟨t, ht, est, ear, har, emk⟩ := C.2.2.2.2.2 g h1'
  have w2t := (C.2.2.2.1 t ht).2.1
  obtain ⟨et2, het2, Tt⟩ := C.2.2.1 t ht
  have hlt : ∀ v, v < 12 → bt (a_frees t) v = true → v < sc t := fun v hv h => ((ct_F C het2 Tt (by omega)).mp h).1
  have r01 : ∀ b : Bool, rc_b b = 0 ∨ rc_b b = 1 := fun b => by cases b; exact Or.inl rfl; exact Or.inr rfl
  have fin : ∀ kp bor reu bits : Int32, rr_M kp bor reu bits → (∀ Q : Int32 → SY → Prop, wY_start_31 Q (nI g) v2 v3 bits f_capacity f_depth f_complete f_open f_stored f_scope f_state g_bits f_frames f_steps f_fresh f_reused f_peak g_resultCell g_resultNum g_seen a_starts a_arities a_masks a_codes a_extras a_scopes b_aOf b_bOf a_currents b_spare b_varCell b_varNum b_borrowed b_tagOf b_fieldCell b_fieldNum b_marked b_digestOf → wpY_start Q (f_capacity, f_depth, f_complete, f_open, f_stored, f_scope, f_state, g_bits, f_frames, f_steps, f_fresh, f_reused, f_peak, g_resultCell, g_resultNum, g_seen, a_starts, a_arities, a_masks, a_codes, a_extras, a_scopes, b_aOf, b_bOf, a_currents, b_spare, b_varCell, b_varNum, b_borrowed, b_tagOf, b_fieldCell, b_fieldNum, b_marked, b_digestOf) (nI g) v2 v3 v4) →
      ∃ m, wX_start_80 (fun r u' => wpY_start (fun r' v' => r' = r ∧ i_Rel (k + 5) u' v') (f_capacity, f_depth, f_complete, f_open, f_stored, f_scope, f_state, g_bits, f_frames, f_steps, f_fresh, f_reused, f_peak, g_resultCell, g_resultNum, g_seen, a_starts, a_arities, a_masks, a_codes, a_extras, a_scopes, b_aOf, b_bOf, a_currents, b_spare, b_varCell, b_varNum, b_borrowed, b_tagOf, b_fieldCell, b_fieldNum, b_marked, b_digestOf) (nI g) v2 v3 v4) (nI g) v2 v3 f_codeNum f_codeOp f_codeCon f_codeCall f_codeMatch f_codeIfZero f_codeRet f_cellBase f_unseen f_capacity f_depth f_complete f_open f_stored f_scope f_borrowedNow f_pending f_liveCells f_frames f_spareTotal f_state bor reu kp f_result f_steps f_fresh f_reused f_peak m 0 a_arities a_masks a_starts a_codes a_extras a_lefts a_rights a_scopes a_uses a_borrowed a_lends a_others a_frees a_afters a_builds a_pendingAt a_tags a_firsts a_seconds a_digests a_counts a_places a_work a_marks a_variables a_currents a_held a_spareCounts := by
    intro kp bor reu bits M' hYb
    refine xt_start (f_borrowing := bor) (f_reusing := reu) (f_keeping := kp) hg6 (by omega) ear har est hlt (fun cnt pl wk vs' e0 e1 S' => hYb _ ?_)
    unfold wY_start_31
    refine ys_enter (n := 0) (bor := bor) (t := nI t) (by omega) hg6 M'.2.2.2.1 est (Or.inl rfl) (Or.inl rfl) ⟨rfl, zz_in ?_⟩
    have eE : xr_E 1 (0 : Int64) = fun _ => 0 := by
      funext c; unfold xr_E; rw [if_neg (by decide)]
    rw [← eE] at S'
    have y0 : upd (upd b_borrowed (0 * 12) (rc_b (!decide (bor = 0) && bt (a_masks g) 0))) (0 * 12 + 1) (rc_b (!decide (bor = 0) && bt (a_masks g) 1)) (0 * 12 + 0) = rc_b (!decide (bor = 0) && bt (a_masks g) 0) := by
      rw [pk_un (by omega)]; exact pk_us
    refine ⟨sc, bw, cm, b, st, p, fun _ => t, fun q => q, fun _ => 0, fun _ => 0, fun _ => false, 1, 0, cp, dp, T0, ⟨r1, r2, r3, by omega⟩, rfl, rfl, ⟨fun f hf => ?_, rfl, fun _ => ?_, fun _ f hf => rfl, P.2.2.2.2⟩, ⟨by omega, fun f hf => ?_⟩, fun f v hf hv hvis => ?_, fun f v hf hv => ?_, fun hb f v c hf hv hc q1 q2 q3 => ?_, ⟨fun c hc hL => (Bool.false_ne_true hL).elim, fun c d hc hd hL => (Bool.false_ne_true hL).elim⟩, ?_, M', rr_LS S', fun _ => S', Or.inr (Or.inl rfl), fun z => ?_, fun _ => by omega, fun z => absurd z (by decide), fun _ => ⟨rfl, fun c hc => by omega⟩⟩
    · have : f = 0 := by omega
      rw [this, pk_us, pk_us]; exact ⟨rfl, rfl⟩
    · have e : rc_sm (fun _ => 0) 1 = 0 := rfl
      have := P.2.2.2.2.2.1
      omega
    · have : f = 0 := by omega
      rw [this, pk_us, pk_us]
      refine ⟨rfl, ht, fun z => by omega, ?_⟩
      unfold rr_hold
      rw [if_pos rfl]
    · have ef : f = 0 := by omega
      subst ef
      have nd : rr_need a_frees a_afters (fun _ => t) 1 0 = a_frees t := by unfold rr_need; rw [if_pos rfl]
      have nl : rr_lent bor a_lends (fun _ => t) 1 0 = 0 := by unfold rr_lent; rw [if_pos (Or.inl rfl)]
      rw [nd, nl, b_0, Bool.or_false] at hvis
      have := hlt v hv hvis
      by_cases z : v = 0
      · subst z
        exact Or.inl ⟨rfl, e0 (by omega)⟩
      · have z1 : v = 1 := by omega
        subst z1
        exact Or.inl ⟨rfl, e1 (by omega)⟩
    · have ef : f = 0 := by omega
      subst ef
      (try dsimp only at hv)
      (try dsimp only)
      rw [w2t.2.1, ← emk]
      by_cases z : v = 0
      · subst z; exact y0
      · have z1 : v = 1 := by omega
        subst z1; exact pk_us
    · have ef : f = 0 := by omega
      subst ef
      have nd : rr_need a_frees a_afters (fun _ => t) 1 0 = a_frees t := by unfold rr_need; rw [if_pos rfl]
      rw [nd] at q1
      have := hlt v hv q1
      by_cases z : v = 0
      · subst z
        have := e0 (by omega)
        rw [show 0 * 12 + 0 = 0 from rfl, this] at q3
        exact absurd q3 (rc_nv_cv (by omega))
      · have z1 : v = 1 := by omega
        subst z1
        have := e1 (by omega)
        rw [show 0 * 12 + 1 = 1 from rfl, this] at q3
        exact absurd q3 (rc_nv_cv (by omega))
    · exact rr_Yu (rr_Yu Y (Or.inl rfl) (fun z => absurd rfl z) (r01 _)) (Or.inl rfl) (fun z => absurd rfl z) (r01 _)
    · rcases z with z | z
      · exact absurd z (by decide)
      · exact absurd z (by decide)
  have n0 : narrow .boolean (.int (0 : Int32)) = .int 0 ∧ fits .boolean (.int (0 : Int32)) = true := ⟨rfl, rfl⟩
  have n1 : narrow .boolean (.int (1 : Int32)) = .int 1 ∧ fits .boolean (.int (1 : Int32)) = true := ⟨rfl, rfl⟩
  refine br_c (fun m4 => ?_) (fun m4 => ?_)
  · have yb : ∀ Q : Int32 → SY → Prop, wY_start_31 Q (nI g) v2 v3 (v4 &&& 3) f_capacity f_depth f_complete f_open f_stored f_scope f_state g_bits f_frames f_steps f_fresh f_reused f_peak g_resultCell g_resultNum g_seen a_starts a_arities a_masks a_codes a_extras a_scopes b_aOf b_bOf a_currents b_spare b_varCell b_varNum b_borrowed b_tagOf b_fieldCell b_fieldNum b_marked b_digestOf → wpY_start Q (f_capacity, f_depth, f_complete, f_open, f_stored, f_scope, f_state, g_bits, f_frames, f_steps, f_fresh, f_reused, f_peak, g_resultCell, g_resultNum, g_seen, a_starts, a_arities, a_masks, a_codes, a_extras, a_scopes, b_aOf, b_bOf, a_currents, b_spare, b_varCell, b_varNum, b_borrowed, b_tagOf, b_fieldCell, b_fieldNum, b_marked, b_digestOf) (nI g) v2 v3 v4 := fun Q h => br_f h0 (br_t h1 (br_t m4 h))
    have b0 : bt (v4 &&& 3) 0 = bt v4 0 := by rw [b_and, show bt 3 0 = true from rfl, Bool.and_true]
    have b1 : bt (v4 &&& 3) 1 = bt v4 1 := by rw [b_and, show bt 3 1 = true from rfl, Bool.and_true]
    have b2 : bt (v4 &&& 3) 2 = false := by rw [b_and, show bt 3 2 = false from rfl, Bool.and_false]
    have tt : ∀ {x : Int32} {i : Nat}, ¬ bt x i = false → bt x i = true := fun {x i} h => by
      cases q : bt x i
      · exact absurd q h
      · rfl
    unfold wX_start_28
    refine ⟨n0.1, n0.2, br_t rfl (br_c (fun a1 => ?_) (fun a1 => ?_))⟩
    · unfold wX_start_50 wX_start_51
      refine ⟨n0.1, n0.2, br_t rfl (br_c (fun a2 => ?_) (fun a2 => ?_))⟩
      · exact fin 0 0 0 (v4 &&& 3) ⟨Or.inl rfl, Or.inl rfl, Or.inl rfl, by rw [b0, yw_and1.mp a1]; rfl, by rw [b1, yw_and2.mp a2]; rfl, by rw [b2]; rfl, fun z => absurd rfl z⟩ yb
      · exact fin 0 0 1 (v4 &&& 3) ⟨Or.inl rfl, Or.inl rfl, Or.inr rfl, by rw [b0, yw_and1.mp a1]; rfl, by rw [b1, tt (fun z => a2 (yw_and2.mpr z))]; rfl, by rw [b2]; rfl, fun z => absurd rfl z⟩ yb
    · unfold wX_start_51
      refine ⟨n1.1, n1.2, br_t rfl (br_c (fun a2 => ?_) (fun a2 => ?_))⟩
      · exact fin 0 1 0 (v4 &&& 3) ⟨Or.inl rfl, Or.inr rfl, Or.inl rfl, by rw [b0, tt (fun z => a1 (yw_and1.mpr z))]; rfl, by rw [b1, yw_and2.mp a2]; rfl, by rw [b2]; rfl, fun z => absurd rfl z⟩ yb
      · exact fin 0 1 1 (v4 &&& 3) ⟨Or.inl rfl, Or.inr rfl, Or.inr rfl, by rw [b0, tt (fun z => a1 (yw_and1.mpr z))]; rfl, by rw [b1, tt (fun z => a2 (yw_and2.mpr z))]; rfl, by rw [b2]; rfl, fun z => absurd rfl z⟩ yb
  · have yb : ∀ Q : Int32 → SY → Prop, wY_start_31 Q (nI g) v2 v3 4 f_capacity f_depth f_complete f_open f_stored f_scope f_state g_bits f_frames f_steps f_fresh f_reused f_peak g_resultCell g_resultNum g_seen a_starts a_arities a_masks a_codes a_extras a_scopes b_aOf b_bOf a_currents b_spare b_varCell b_varNum b_borrowed b_tagOf b_fieldCell b_fieldNum b_marked b_digestOf → wpY_start Q (f_capacity, f_depth, f_complete, f_open, f_stored, f_scope, f_state, g_bits, f_frames, f_steps, f_fresh, f_reused, f_peak, g_resultCell, g_resultNum, g_seen, a_starts, a_arities, a_masks, a_codes, a_extras, a_scopes, b_aOf, b_bOf, a_currents, b_spare, b_varCell, b_varNum, b_borrowed, b_tagOf, b_fieldCell, b_fieldNum, b_marked, b_digestOf) (nI g) v2 v3 v4 := fun Q h => br_f h0 (br_t h1 (br_f m4 h))
    unfold wX_start_28
    refine ⟨n1.1, n1.2, br_f (by decide) ?_⟩
    unfold wX_start_50 wX_start_51
    exact ⟨n0.1, n0.2, br_f (by decide) (fin 1 0 0 4 ⟨Or.inr rfl, Or.inl rfl, Or.inl rfl, by decide, by decide, by decide, fun _ => ⟨rfl, rfl⟩⟩ yb)⟩
theorem i_vc0 (k0 : Int32) (k1 : Int32) : wpX_init (fun u => wpY_init (fun v => i_Rel 2 u v) k0 k1) k0 k1 := by
  have fin : ∀ c d : Int32, (∃ cp : Nat, 2 ≤ cp ∧ cp ≤ 64 ∧ c = nI cp) → (∃ dp : Nat, 2 ≤ dp ∧ dp ≤ 20 ∧ d = nI dp) →
      i_Rel 2 (0, 1, 2, 3, 4, 5, 6, 4294967296, (-4294967296), c, d, 0, 0, 0, 0, 0, 0, 0, 0, 0, 0, 0, 0, 0, 0, 0, 0, 0, 0, (fun _ => 0), (fun _ => 0), (fun _ => 0), (fun _ => 0), (fun _ => 0), (fun _ => 0), (fun _ => 0), (fun _ => 0), (fun _ => 0), (fun _ => 0), (fun _ => 0), (fun _ => 0), (fun _ => 0), (fun _ => 0), (fun _ => 0), (fun _ => 0), (fun _ => 0), (fun _ => 0), (fun _ => 0), (fun _ => 0), (fun _ => 0), (fun _ => 0), (fun _ => 0), (fun _ => 0), (fun _ => 0), (fun _ => 0), (fun _ => 0), (fun _ => 0))
        (c, d, 0, 0, 0, 0, 0, 0, 0, 0, 0, 0, 0, 0, 0, 0, (fun _ => 0), (fun _ => 0), (fun _ => 0), (fun _ => 0), (fun _ => 0), (fun _ => 0), (fun _ => 0), (fun _ => 0), (fun _ => 0), (fun _ => 0), (fun _ => 0), (fun _ => 0), (fun _ => 0), (fun _ => 0), (fun _ => 0), (fun _ => 0), (fun _ => 0), (fun _ => 0)) := by
    rintro c d ⟨cp, c1, c2, rfl⟩ ⟨dp, d1, d2, rfl⟩
    refine zz_in ⟨fun _ => 0, fun _ => 0, 0, 0, 0, 0, fun _ => 0, fun q => q, fun _ => 0, fun _ => 0, fun _ => false, 0, 0, cp, dp, ⟨rfl, rfl, by omega, by omega, ⟨by omega, by omega, fun i hi => by omega, fun i hi => by omega, fun i hi => by omega, fun g hg => by omega⟩, Or.inl ⟨rfl, rfl⟩⟩, ⟨rfl, d1, d2, by omega⟩, rfl, rfl, ⟨fun f hf => by omega, rfl, fun _ => ?_, fun _ f hf => by omega, rfl, c1, c2⟩, ⟨by omega, fun f hf => by omega⟩, fun f v hf => by omega, fun f v hf => by omega, fun _ f v c hf => by omega, ⟨fun c hc hL => (Bool.false_ne_true hL).elim, fun c d hc hd hL => (Bool.false_ne_true hL).elim⟩, ⟨fun x hx => ⟨Or.inl rfl, fun z => absurd rfl z, Or.inl rfl⟩, fun x hx => ⟨Or.inl rfl, fun z => absurd rfl z⟩, Or.inl rfl, fun z => absurd rfl z⟩, ⟨Or.inl rfl, Or.inl rfl, Or.inl rfl, by decide, by decide, by decide, fun z => absurd rfl z⟩, ?_, fun z => absurd rfl z, Or.inl rfl, fun _ => rfl, fun z => ?_, fun z => absurd z (by decide), fun z => absurd rfl z⟩
    · have e : rc_sm (fun _ => 0) 0 = 0 := rfl
      omega
    · refine ⟨fun _ x c hx hc hH => ?_, fun _ c hc h => ?_, fun d c hd hc hL => (Bool.false_ne_true hL).elim, fun _ c hc hL => (Bool.false_ne_true hL).elim, fun z => absurd rfl z, (rc_sm_0 160 (fun c _ => rfl)).symm, fun d hd hL => (Bool.false_ne_true hL).elim⟩
      · have := (xr_Hn hH).1; omega
      · unfold xr_E at h
        rw [if_neg (by decide)] at h; omega
    · rcases z with z | z | z
      · exact absurd z (by decide)
      · exact absurd z (by decide)
      · exact absurd z (by decide)
  have tri : ∀ (x : Int32) (m : Nat) (M : Int32), M = nI m → 2 ≤ m → m < 2 ^ 31 → 2 ≤ x → x ≤ M → ∃ c : Nat, 2 ≤ c ∧ c ≤ m ∧ x = nI c := fun x m M hM hm hm2 h1 h2 => by
    obtain ⟨j, hj, rfl⟩ := nI_of (x := x) (fun z => by
      have := Int32.lt_of_lt_of_le z (show (0 : Int32) ≤ 2 by decide)
      exact absurd h1 (Int32.not_le.mpr this))
    have e2 : (2 : Int32) = nI 2 := rfl
    rw [e2, nI_leI (by omega) hj] at h1
    rw [hM, nI_leI hj hm2] at h2
    exact ⟨j, h1, h2, rfl⟩
  have c2 : ∃ c : Nat, 2 ≤ c ∧ c ≤ 64 ∧ (2 : Int32) = nI c := ⟨2, by omega, by omega, rfl⟩
  have c64 : ∃ c : Nat, 2 ≤ c ∧ c ≤ 64 ∧ (64 : Int32) = nI c := ⟨64, by omega, by omega, rfl⟩
  have d2 : ∃ c : Nat, 2 ≤ c ∧ c ≤ 20 ∧ (2 : Int32) = nI c := ⟨2, by omega, by omega, rfl⟩
  have d20 : ∃ c : Nat, 2 ≤ c ∧ c ≤ 20 ∧ (20 : Int32) = nI c := ⟨20, by omega, by omega, rfl⟩
  unfold wpX_init
  by_cases a1 : 2 ≤ k0
  · by_cases a2 : k0 ≤ 64
    · have hc := tri k0 64 64 rfl (by omega) (by omega) a1 a2
      by_cases b1 : 2 ≤ k1
      · by_cases b2 : k1 ≤ 20
        · exact br_t a1 (br_t a2 (br_t b1 (br_t b2 (br_t a1 (br_t a2 (br_t b1 (br_t b2 (fin _ _ hc (tri k1 20 20 rfl (by omega) (by omega) b1 b2)))))))))
        · exact br_t a1 (br_t a2 (br_t b1 (br_f b2 (br_t a1 (br_t a2 (br_t b1 (br_f b2 (fin _ _ hc d20))))))))
      · exact br_t a1 (br_t a2 (br_f b1 (br_t a1 (br_t a2 (br_f b1 (fin _ _ hc d2))))))
    · by_cases b1 : 2 ≤ k1
      · by_cases b2 : k1 ≤ 20
        · exact br_t a1 (br_f a2 (br_t b1 (br_t b2 (br_t a1 (br_f a2 (br_t b1 (br_t b2 (fin _ _ c64 (tri k1 20 20 rfl (by omega) (by omega) b1 b2)))))))))
        · exact br_t a1 (br_f a2 (br_t b1 (br_f b2 (br_t a1 (br_f a2 (br_t b1 (br_f b2 (fin _ _ c64 d20))))))))
      · exact br_t a1 (br_f a2 (br_f b1 (br_t a1 (br_f a2 (br_f b1 (fin _ _ c64 d2))))))
  · by_cases b1 : 2 ≤ k1
    · by_cases b2 : k1 ≤ 20
      · exact br_f a1 (br_t b1 (br_t b2 (br_f a1 (br_t b1 (br_t b2 (fin _ _ c2 (tri k1 20 20 rfl (by omega) (by omega) b1 b2)))))))
      · exact br_f a1 (br_t b1 (br_f b2 (br_f a1 (br_t b1 (br_f b2 (fin _ _ c2 d20))))))
    · exact br_f a1 (br_f b1 (br_f a1 (br_f b1 (fin _ _ c2 d2))))
end
section
/-! ===== seeing values ===== -/
section
variable {f_codeNum f_codeOp f_codeCon f_codeCall f_codeMatch f_codeIfZero f_codeRet : Int32} {f_cellBase f_unseen : Int64} {f_capacity f_depth f_complete f_open f_stored f_scope f_borrowedNow f_pending f_liveCells f_frames f_spareTotal f_state f_borrowing f_reusing f_keeping : Int32} {f_result : Int64} {f_steps f_fresh f_reused f_peak : Int32} {a_arities a_masks a_starts a_codes a_extras a_lefts a_rights a_scopes a_uses a_borrowed a_lends a_others a_frees a_afters a_builds a_pendingAt a_tags : Nat → Int32} {a_firsts a_seconds : Nat → Int64} {a_digests a_counts a_places a_work a_marks : Nat → Int32} {a_variables : Nat → Int64} {a_currents a_held a_spareCounts : Nat → Int32} {g_bits g_resultCell g_resultNum g_seen : Int32} {b_aOf b_bOf b_spare b_varCell b_varNum b_borrowed b_tagOf b_fieldCell b_fieldNum b_marked b_digestOf : Nat → Int32}
variable {sc cu sg rk sp : Nat → Nat} {bw : Nat → Int32} {L : Nat → Bool} {cm b n lv st cp dp : Nat}
theorem sv_need {post : Int32 → Prop} {f : Nat} (hf : f < n) (hn : n ≤ 20) (hcu : a_currents f = nI (cu f)) (hcb : cu f < 96) (h : post (rr_need a_frees a_afters cu n f)) : wpX_neededBy post (f_codeNum, f_codeOp, f_codeCon, f_codeCall, f_codeMatch, f_codeIfZero, f_codeRet, f_cellBase, f_unseen, f_capacity, f_depth, f_complete, f_open, f_stored, f_scope, f_borrowedNow, f_pending, f_liveCells, nI n, f_spareTotal, f_state, f_borrowing, f_reusing, f_keeping, f_result, f_steps, f_fresh, f_reused, f_peak, a_arities, a_masks, a_starts, a_codes, a_extras, a_lefts, a_rights, a_scopes, a_uses, a_borrowed, a_lends, a_others, a_frees, a_afters, a_builds, a_pendingAt, a_tags, a_firsts, a_seconds, a_digests, a_counts, a_places, a_work, a_marks, a_variables, a_currents, a_held, a_spareCounts) (nI f) := by
  obtain ⟨k, rfl⟩ : ∃ k, n = k + 1 := ⟨n - 1, by omega⟩
  unfold wpX_neededBy
  (try dsimp only)
  rw [nI_clamp (show f < 2 ^ 31 by omega), nI_pred k]
  refine ⟨vp_in_nI (by omega) (by omega), nm_r hcu ?_⟩
  rw [nI_clamp (show cu f < 2 ^ 31 by omega)]
  unfold rr_need at h
  by_cases z : f = k
  · rw [if_pos (by omega)] at h
    exact br_t (by rw [z]) ⟨vp_in_nI hcb (by omega), h⟩
  · rw [if_neg (by omega)] at h
    exact br_f (fun q => z ((nI_eq (by omega) (by omega)).mp q)) ⟨vp_in_nI hcb (by omega), h⟩
/-- one way down: what both sides see at the end of the path -/
theorem sv_path (I : rr_I L sg rk a_firsts a_seconds a_tags a_digests b_tagOf b_fieldCell b_fieldNum) :
    ∀ (k p : Nat) (w : Int64) (cl nm : Int32) (i : Nat), 1 ≤ p → p < 2 ^ k → i + k ≤ 31 → rc_vr L sg w cl nm →
      ((∀ (PX : Int64 → Prop) (m : Nat), k < m → PX (-4294967296) → wX_see_23 PX f_codeNum f_codeOp f_codeCon f_codeCall f_codeMatch f_codeIfZero f_codeRet f_cellBase f_unseen f_capacity f_depth f_complete f_open f_stored f_scope f_borrowedNow f_pending f_liveCells f_frames f_spareTotal f_state f_borrowing f_reusing f_keeping f_result f_steps f_fresh f_reused f_peak a_arities a_masks a_starts a_codes a_extras a_lefts a_rights a_scopes a_uses a_borrowed a_lends a_others a_frees a_afters a_builds a_pendingAt a_tags a_firsts a_seconds a_digests a_counts a_places a_work a_marks a_variables a_currents a_held a_spareCounts m w (nI p) (nI i)) ∧ (∀ (PY : Int32 → SY → Prop) (m : Nat), k < m → (∀ sn, PY 0 (f_capacity, f_depth, f_complete, f_open, f_stored, f_scope, f_state, g_bits, f_frames, f_steps, f_fresh, f_reused, f_peak, g_resultCell, g_resultNum, sn, a_starts, a_arities, a_masks, a_codes, a_extras, a_scopes, b_aOf, b_bOf, a_currents, b_spare, b_varCell, b_varNum, b_borrowed, b_tagOf, b_fieldCell, b_fieldNum, b_marked, b_digestOf)) → wY_see_120 PY f_capacity f_depth f_complete f_open f_stored f_scope f_state g_bits f_frames f_steps f_fresh f_reused f_peak g_resultCell g_resultNum a_starts a_arities a_masks a_codes a_extras a_scopes b_aOf b_bOf a_currents b_spare b_varCell b_varNum b_borrowed b_tagOf b_fieldCell b_fieldNum b_marked b_digestOf m cl (nI p) nm)) ∨
      (∃ w' cl' nm', rc_vr L sg w' cl' nm' ∧ (∀ (PX : Int64 → Prop) (m : Nat), k < m → PX w' → wX_see_23 PX f_codeNum f_codeOp f_codeCon f_codeCall f_codeMatch f_codeIfZero f_codeRet f_cellBase f_unseen f_capacity f_depth f_complete f_open f_stored f_scope f_borrowedNow f_pending f_liveCells f_frames f_spareTotal f_state f_borrowing f_reusing f_keeping f_result f_steps f_fresh f_reused f_peak a_arities a_masks a_starts a_codes a_extras a_lefts a_rights a_scopes a_uses a_borrowed a_lends a_others a_frees a_afters a_builds a_pendingAt a_tags a_firsts a_seconds a_digests a_counts a_places a_work a_marks a_variables a_currents a_held a_spareCounts m w (nI p) (nI i)) ∧
        (∀ (PY : Int32 → SY → Prop) (m : Nat), k < m → (cl' = 0 → PY 1 (f_capacity, f_depth, f_complete, f_open, f_stored, f_scope, f_state, g_bits, f_frames, f_steps, f_fresh, f_reused, f_peak, g_resultCell, g_resultNum, nm', a_starts, a_arities, a_masks, a_codes, a_extras, a_scopes, b_aOf, b_bOf, a_currents, b_spare, b_varCell, b_varNum, b_borrowed, b_tagOf, b_fieldCell, b_fieldNum, b_marked, b_digestOf)) → (¬ cl' = 0 → PY 2 (f_capacity, f_depth, f_complete, f_open, f_stored, f_scope, f_state, g_bits, f_frames, f_steps, f_fresh, f_reused, f_peak, g_resultCell, g_resultNum, nm', a_starts, a_arities, a_masks, a_codes, a_extras, a_scopes, b_aOf, b_bOf, a_currents, b_spare, b_varCell, b_varNum, b_borrowed, b_tagOf, b_fieldCell, b_fieldNum, b_marked, b_digestOf)) → wY_see_120 PY f_capacity f_depth f_complete f_open f_stored f_scope f_state g_bits f_frames f_steps f_fresh f_reused f_peak g_resultCell g_resultNum a_starts a_arities a_masks a_codes a_extras a_scopes b_aOf b_bOf a_currents b_spare b_varCell b_varNum b_borrowed b_tagOf b_fieldCell b_fieldNum b_marked b_digestOf m cl (nI p) nm)) := by
  intro k
  induction k with
  | zero => intro p w cl nm i h1 h2; omega
  | succ k ih =>
    intro p w cl nm i h1 h2 h3 hv
    have hp31 : p < 2 ^ 31 := Nat.lt_of_lt_of_le h2 (Nat.pow_le_pow_right (by omega) (by omega))
    by_cases hp : p = 1
    · subst hp
      right
      refine ⟨w, cl, nm, hv, fun PX m hm hPX => ?_, fun PY m hm hP1 hP2 => ?_⟩
      · obtain ⟨m, rfl⟩ : ∃ q, m = q + 1 := ⟨m - 1, by omega⟩
        exact br_f (nI_ge (b := 31) (by omega) (by omega)) (br_t (Int32.le_refl _) hPX)
      · obtain ⟨m, rfl⟩ : ∃ q, m = q + 1 := ⟨m - 1, by omega⟩
        exact br_t (Int32.le_refl _) (br_c hP1 hP2)
    · have hp2 : p / 2 < 2 ^ k := by
        rw [Nat.pow_succ] at h2; omega
      have g1 : ¬ nI p ≤ 1 := nI_ge (a := 1) (by omega) hp31
      have g31 : ¬ (31 : Int32) ≤ nI i := nI_ge (b := 31) (by omega) (by omega)
      rcases hv with ⟨u1, u2⟩ | ⟨u1, c, hc, hL, u2, u3⟩
      · left
        refine ⟨fun PX m hm hPX => ?_, fun PY m hm hPY => ?_⟩
        · obtain ⟨m, rfl⟩ : ∃ q, m = q + 1 := ⟨m - 1, by omega⟩
          exact br_f g31 (br_f g1 (xw_isN (by rw [u2]; exact rc_nv_lt _) (br_t rfl hPX)))
        · obtain ⟨m, rfl⟩ : ∃ q, m = q + 1 := ⟨m - 1, by omega⟩
          exact br_f g1 (br_t u1 (hPY _))
      · obtain ⟨i1, i2, i3, i4, -⟩ := I.1 c hc hL
        have sh : nI p >>> ((1 : Int32) &&& 31) = nI (p / 2) := pk_shrN (k := 1) hp31 _ (by decide)
        have an : (nI p &&& 1) = nI (p % 2) := pk_andN (k := 1) (by omega) (by decide)
        have dv : nI p / 2 = nI (p / 2) := pk_div (d := 2) hp31 (by omega) (by omega)
        have rm : nI p - nI p / 2 * 2 = nI (p % 2) := pk_rem (d := 2) hp31 (by omega) (by omega)
        have hm2 : p % 2 = 0 ∨ p % 2 = 1 := by omega
        have hch : ∃ w1, (p % 2 = 0 → w1 = a_firsts c) ∧ (p % 2 = 1 → w1 = a_seconds c) ∧ rc_vr L sg w1 (b_fieldCell (2 * sg c + p % 2)) (b_fieldNum (2 * sg c + p % 2)) := by
          rcases hm2 with z | z
          · exact ⟨a_firsts c, fun _ => rfl, fun q => by omega, by rw [z]; exact i3⟩
          · exact ⟨a_seconds c, fun q => by omega, fun _ => rfl, by rw [z]; exact i4⟩
        obtain ⟨w1, e0, e1, hv1⟩ := hch
        have goX : ∀ (PX : Int64 → Prop) (m : Nat), wX_see_23 PX f_codeNum f_codeOp f_codeCon f_codeCall f_codeMatch f_codeIfZero f_codeRet f_cellBase f_unseen f_capacity f_depth f_complete f_open f_stored f_scope f_borrowedNow f_pending f_liveCells f_frames f_spareTotal f_state f_borrowing f_reusing f_keeping f_result f_steps f_fresh f_reused f_peak a_arities a_masks a_starts a_codes a_extras a_lefts a_rights a_scopes a_uses a_borrowed a_lends a_others a_frees a_afters a_builds a_pendingAt a_tags a_firsts a_seconds a_digests a_counts a_places a_work a_marks a_variables a_currents a_held a_spareCounts m w1 (nI (p / 2)) (nI (i + 1)) → wX_see_23 PX f_codeNum f_codeOp f_codeCon f_codeCall f_codeMatch f_codeIfZero f_codeRet f_cellBase f_unseen f_capacity f_depth f_complete f_open f_stored f_scope f_borrowedNow f_pending f_liveCells f_frames f_spareTotal f_state f_borrowing f_reusing f_keeping f_result f_steps f_fresh f_reused f_peak a_arities a_masks a_starts a_codes a_extras a_lefts a_rights a_scopes a_uses a_borrowed a_lends a_others a_frees a_afters a_builds a_pendingAt a_tags a_firsts a_seconds a_digests a_counts a_places a_work a_marks a_variables a_currents a_held a_spareCounts (m + 1) w (nI p) (nI i) := fun PX m h => by
          refine br_f g31 (br_f g1 ?_)
          rw [u2]
          refine xw_isC hc (br_f (by decide) (xw_cellOf hc ?_))
          rw [an, sh, nI_1, nI_clamp (show c < 2 ^ 31 by omega)]
          rcases hm2 with z | z
          · rw [z]
            exact br_t rfl ⟨vp_in_nI hc (by omega), nm_r (e0 z).symm (nm_e (nm_e h))⟩
          · rw [z]
            exact br_f (by decide) ⟨vp_in_nI hc (by omega), nm_r (e1 z).symm (nm_e (nm_e h))⟩
        have goY : ∀ (PY : Int32 → SY → Prop) (m : Nat), wY_see_120 PY f_capacity f_depth f_complete f_open f_stored f_scope f_state g_bits f_frames f_steps f_fresh f_reused f_peak g_resultCell g_resultNum a_starts a_arities a_masks a_codes a_extras a_scopes b_aOf b_bOf a_currents b_spare b_varCell b_varNum b_borrowed b_tagOf b_fieldCell b_fieldNum b_marked b_digestOf m (b_fieldCell (2 * sg c + p % 2)) (nI (p / 2)) (b_fieldNum (2 * sg c + p % 2)) → wY_see_120 PY f_capacity f_depth f_complete f_open f_stored f_scope f_state g_bits f_frames f_steps f_fresh f_reused f_peak g_resultCell g_resultNum a_starts a_arities a_masks a_codes a_extras a_scopes b_aOf b_bOf a_currents b_spare b_varCell b_varNum b_borrowed b_tagOf b_fieldCell b_fieldNum b_marked b_digestOf (m + 1) cl (nI p) nm := fun PY m h => by
          refine br_f g1 (br_f (by rw [u1]; decide) ⟨by decide, ?_⟩)
          rw [rm, dv, u3, show 2 * nI (sg c) = nI (2 * sg c) from pk_mul 2 (sg c), nI_add]
          refine nm_e ?_
          rw [nI_clamp (show 2 * sg c + p % 2 < 2 ^ 31 by omega)]
          exact ⟨vp_in_nI (by omega) (by omega), nm_e ⟨vp_in_nI (by omega) (by omega), nm_e ⟨by decide, nm_e h⟩⟩⟩
        rcases ih (p / 2) w1 _ _ (i + 1) (by omega) hp2 (by omega) hv1 with ⟨hX, hY⟩ | ⟨w', cl', nm', hv', hX, hY⟩
        · left
          refine ⟨fun PX m hm hPX => ?_, fun PY m hm hPY => ?_⟩
          · obtain ⟨m, rfl⟩ : ∃ q, m = q + 1 := ⟨m - 1, by omega⟩
            exact goX PX m (hX PX m (by omega) hPX)
          · obtain ⟨m, rfl⟩ : ∃ q, m = q + 1 := ⟨m - 1, by omega⟩
            exact goY PY m (hY PY m (by omega) hPY)
        · right
          refine ⟨w', cl', nm', hv', fun PX m hm hPX => ?_, fun PY m hm h1' h2' => ?_⟩
          · obtain ⟨m, rfl⟩ : ∃ q, m = q + 1 := ⟨m - 1, by omega⟩
            exact goX PX m (hX PX m (by omega) hPX)
          · obtain ⟨m, rfl⟩ : ∃ q, m = q + 1 := ⟨m - 1, by omega⟩
            exact goY PY m (hY PY m (by omega) h1' h2')
/-- see: nothing on both sides, or one value on both sides -/
theorem sv_see (fr va pa : Int32) (C : ct_C a_arities a_masks a_starts a_codes a_extras a_lefts a_rights a_scopes a_uses a_borrowed a_lends a_others a_frees a_afters a_builds b_aOf b_bOf sc bw cm b) (K : rr_K f_state f_borrowing f_reusing f_keeping f_result f_fresh a_codes a_borrowed a_lends a_frees a_afters a_tags a_firsts a_seconds a_digests a_counts a_places a_work a_variables a_currents a_held g_bits g_resultCell g_resultNum b_varCell b_varNum b_borrowed b_tagOf b_fieldCell b_fieldNum sc cu sg rk L b n lv) (hb : b ≤ st) (hst : st ≤ 96) (hS : f_stored = nI st) (hF : f_frames = nI n) :
    ((∀ PX : Int64 → Prop, PX (-4294967296) → wpX_see PX (f_codeNum, f_codeOp, f_codeCon, f_codeCall, f_codeMatch, f_codeIfZero, f_codeRet, f_cellBase, f_unseen, f_capacity, f_depth, f_complete, f_open, f_stored, f_scope, f_borrowedNow, f_pending, f_liveCells, f_frames, f_spareTotal, f_state, f_borrowing, f_reusing, f_keeping, f_result, f_steps, f_fresh, f_reused, f_peak, a_arities, a_masks, a_starts, a_codes, a_extras, a_lefts, a_rights, a_scopes, a_uses, a_borrowed, a_lends, a_others, a_frees, a_afters, a_builds, a_pendingAt, a_tags, a_firsts, a_seconds, a_digests, a_counts, a_places, a_work, a_marks, a_variables, a_currents, a_held, a_spareCounts) fr va pa) ∧ (∀ PY : Int32 → SY → Prop, (∀ sn, PY 0 (f_capacity, f_depth, f_complete, f_open, f_stored, f_scope, f_state, g_bits, f_frames, f_steps, f_fresh, f_reused, f_peak, g_resultCell, g_resultNum, sn, a_starts, a_arities, a_masks, a_codes, a_extras, a_scopes, b_aOf, b_bOf, a_currents, b_spare, b_varCell, b_varNum, b_borrowed, b_tagOf, b_fieldCell, b_fieldNum, b_marked, b_digestOf)) → wpY_see PY (f_capacity, f_depth, f_complete, f_open, f_stored, f_scope, f_state, g_bits, f_frames, f_steps, f_fresh, f_reused, f_peak, g_resultCell, g_resultNum, g_seen, a_starts, a_arities, a_masks, a_codes, a_extras, a_scopes, b_aOf, b_bOf, a_currents, b_spare, b_varCell, b_varNum, b_borrowed, b_tagOf, b_fieldCell, b_fieldNum, b_marked, b_digestOf) fr va pa)) ∨
    (∃ w cl nm, rc_vr L sg w cl nm ∧ (∀ PX : Int64 → Prop, PX w → wpX_see PX (f_codeNum, f_codeOp, f_codeCon, f_codeCall, f_codeMatch, f_codeIfZero, f_codeRet, f_cellBase, f_unseen, f_capacity, f_depth, f_complete, f_open, f_stored, f_scope, f_borrowedNow, f_pending, f_liveCells, f_frames, f_spareTotal, f_state, f_borrowing, f_reusing, f_keeping, f_result, f_steps, f_fresh, f_reused, f_peak, a_arities, a_masks, a_starts, a_codes, a_extras, a_lefts, a_rights, a_scopes, a_uses, a_borrowed, a_lends, a_others, a_frees, a_afters, a_builds, a_pendingAt, a_tags, a_firsts, a_seconds, a_digests, a_counts, a_places, a_work, a_marks, a_variables, a_currents, a_held, a_spareCounts) fr va pa) ∧
      (∀ PY : Int32 → SY → Prop, (cl = 0 → PY 1 (f_capacity, f_depth, f_complete, f_open, f_stored, f_scope, f_state, g_bits, f_frames, f_steps, f_fresh, f_reused, f_peak, g_resultCell, g_resultNum, nm, a_starts, a_arities, a_masks, a_codes, a_extras, a_scopes, b_aOf, b_bOf, a_currents, b_spare, b_varCell, b_varNum, b_borrowed, b_tagOf, b_fieldCell, b_fieldNum, b_marked, b_digestOf)) → (¬ cl = 0 → PY 2 (f_capacity, f_depth, f_complete, f_open, f_stored, f_scope, f_state, g_bits, f_frames, f_steps, f_fresh, f_reused, f_peak, g_resultCell, g_resultNum, nm, a_starts, a_arities, a_masks, a_codes, a_extras, a_scopes, b_aOf, b_bOf, a_currents, b_spare, b_varCell, b_varNum, b_borrowed, b_tagOf, b_fieldCell, b_fieldNum, b_marked, b_digestOf)) → wpY_see PY (f_capacity, f_depth, f_complete, f_open, f_stored, f_scope, f_state, g_bits, f_frames, f_steps, f_fresh, f_reused, f_peak, g_resultCell, g_resultNum, g_seen, a_starts, a_arities, a_masks, a_codes, a_extras, a_scopes, b_aOf, b_bOf, a_currents, b_spare, b_varCell, b_varNum, b_borrowed, b_tagOf, b_fieldCell, b_fieldNum, b_marked, b_digestOf) fr va pa)) := by
  obtain ⟨F, V, B, Q, I, Y, M, Lv, S, SS⟩ := K
  have hb96 := C.1
  have hn20 := F.1
  by_cases hp : 1 ≤ pa
  · have hp' : ¬ pa < 1 := Int32.not_lt.mpr hp
    obtain ⟨p, hp31, rfl⟩ := nI_of (x := pa) (fun z => hp' (Int32.lt_of_lt_of_le z (by decide)))
    have hp1 : 1 ≤ p := by
      rw [show (1 : Int32) = nI 1 from rfl, nI_leI (by omega) hp31] at hp; exact hp
    -- from a root
    have fromRoot : ∀ w cl nm, rc_vr L sg w cl nm → (∀ PX : Int64 → Prop, (∃ m, wX_see_23 PX f_codeNum f_codeOp f_codeCon f_codeCall f_codeMatch f_codeIfZero f_codeRet f_cellBase f_unseen f_capacity f_depth f_complete f_open f_stored f_scope f_borrowedNow f_pending f_liveCells f_frames f_spareTotal f_state f_borrowing f_reusing f_keeping f_result f_steps f_fresh f_reused f_peak a_arities a_masks a_starts a_codes a_extras a_lefts a_rights a_scopes a_uses a_borrowed a_lends a_others a_frees a_afters a_builds a_pendingAt a_tags a_firsts a_seconds a_digests a_counts a_places a_work a_marks a_variables a_currents a_held a_spareCounts m w (nI p) 0) → wpX_see PX (f_codeNum, f_codeOp, f_codeCon, f_codeCall, f_codeMatch, f_codeIfZero, f_codeRet, f_cellBase, f_unseen, f_capacity, f_depth, f_complete, f_open, f_stored, f_scope, f_borrowedNow, f_pending, f_liveCells, f_frames, f_spareTotal, f_state, f_borrowing, f_reusing, f_keeping, f_result, f_steps, f_fresh, f_reused, f_peak, a_arities, a_masks, a_starts, a_codes, a_extras, a_lefts, a_rights, a_scopes, a_uses, a_borrowed, a_lends, a_others, a_frees, a_afters, a_builds, a_pendingAt, a_tags, a_firsts, a_seconds, a_digests, a_counts, a_places, a_work, a_marks, a_variables, a_currents, a_held, a_spareCounts) fr va (nI p)) →
        (∀ PY : Int32 → SY → Prop, (∃ m, wY_see_120 PY f_capacity f_depth f_complete f_open f_stored f_scope f_state g_bits f_frames f_steps f_fresh f_reused f_peak g_resultCell g_resultNum a_starts a_arities a_masks a_codes a_extras a_scopes b_aOf b_bOf a_currents b_spare b_varCell b_varNum b_borrowed b_tagOf b_fieldCell b_fieldNum b_marked b_digestOf m cl (nI p) nm) → wpY_see PY (f_capacity, f_depth, f_complete, f_open, f_stored, f_scope, f_state, g_bits, f_frames, f_steps, f_fresh, f_reused, f_peak, g_resultCell, g_resultNum, g_seen, a_starts, a_arities, a_masks, a_codes, a_extras, a_scopes, b_aOf, b_bOf, a_currents, b_spare, b_varCell, b_varNum, b_borrowed, b_tagOf, b_fieldCell, b_fieldNum, b_marked, b_digestOf) fr va (nI p)) →
        ((∀ PX : Int64 → Prop, PX (-4294967296) → wpX_see PX (f_codeNum, f_codeOp, f_codeCon, f_codeCall, f_codeMatch, f_codeIfZero, f_codeRet, f_cellBase, f_unseen, f_capacity, f_depth, f_complete, f_open, f_stored, f_scope, f_borrowedNow, f_pending, f_liveCells, f_frames, f_spareTotal, f_state, f_borrowing, f_reusing, f_keeping, f_result, f_steps, f_fresh, f_reused, f_peak, a_arities, a_masks, a_starts, a_codes, a_extras, a_lefts, a_rights, a_scopes, a_uses, a_borrowed, a_lends, a_others, a_frees, a_afters, a_builds, a_pendingAt, a_tags, a_firsts, a_seconds, a_digests, a_counts, a_places, a_work, a_marks, a_variables, a_currents, a_held, a_spareCounts) fr va (nI p)) ∧ (∀ PY : Int32 → SY → Prop, (∀ sn, PY 0 (f_capacity, f_depth, f_complete, f_open, f_stored, f_scope, f_state, g_bits, f_frames, f_steps, f_fresh, f_reused, f_peak, g_resultCell, g_resultNum, sn, a_starts, a_arities, a_masks, a_codes, a_extras, a_scopes, b_aOf, b_bOf, a_currents, b_spare, b_varCell, b_varNum, b_borrowed, b_tagOf, b_fieldCell, b_fieldNum, b_marked, b_digestOf)) → wpY_see PY (f_capacity, f_depth, f_complete, f_open, f_stored, f_scope, f_state, g_bits, f_frames, f_steps, f_fresh, f_reused, f_peak, g_resultCell, g_resultNum, g_seen, a_starts, a_arities, a_masks, a_codes, a_extras, a_scopes, b_aOf, b_bOf, a_currents, b_spare, b_varCell, b_varNum, b_borrowed, b_tagOf, b_fieldCell, b_fieldNum, b_marked, b_digestOf) fr va (nI p))) ∨
        (∃ w cl nm, rc_vr L sg w cl nm ∧ (∀ PX : Int64 → Prop, PX w → wpX_see PX (f_codeNum, f_codeOp, f_codeCon, f_codeCall, f_codeMatch, f_codeIfZero, f_codeRet, f_cellBase, f_unseen, f_capacity, f_depth, f_complete, f_open, f_stored, f_scope, f_borrowedNow, f_pending, f_liveCells, f_frames, f_spareTotal, f_state, f_borrowing, f_reusing, f_keeping, f_result, f_steps, f_fresh, f_reused, f_peak, a_arities, a_masks, a_starts, a_codes, a_extras, a_lefts, a_rights, a_scopes, a_uses, a_borrowed, a_lends, a_others, a_frees, a_afters, a_builds, a_pendingAt, a_tags, a_firsts, a_seconds, a_digests, a_counts, a_places, a_work, a_marks, a_variables, a_currents, a_held, a_spareCounts) fr va (nI p)) ∧
          (∀ PY : Int32 → SY → Prop, (cl = 0 → PY 1 (f_capacity, f_depth, f_complete, f_open, f_stored, f_scope, f_state, g_bits, f_frames, f_steps, f_fresh, f_reused, f_peak, g_resultCell, g_resultNum, nm, a_starts, a_arities, a_masks, a_codes, a_extras, a_scopes, b_aOf, b_bOf, a_currents, b_spare, b_varCell, b_varNum, b_borrowed, b_tagOf, b_fieldCell, b_fieldNum, b_marked, b_digestOf)) → (¬ cl = 0 → PY 2 (f_capacity, f_depth, f_complete, f_open, f_stored, f_scope, f_state, g_bits, f_frames, f_steps, f_fresh, f_reused, f_peak, g_resultCell, g_resultNum, nm, a_starts, a_arities, a_masks, a_codes, a_extras, a_scopes, b_aOf, b_bOf, a_currents, b_spare, b_varCell, b_varNum, b_borrowed, b_tagOf, b_fieldCell, b_fieldNum, b_marked, b_digestOf)) → wpY_see PY (f_capacity, f_depth, f_complete, f_open, f_stored, f_scope, f_state, g_bits, f_frames, f_steps, f_fresh, f_reused, f_peak, g_resultCell, g_resultNum, g_seen, a_starts, a_arities, a_masks, a_codes, a_extras, a_scopes, b_aOf, b_bOf, a_currents, b_spare, b_varCell, b_varNum, b_borrowed, b_tagOf, b_fieldCell, b_fieldNum, b_marked, b_digestOf) fr va (nI p))) := by
      intro w cl nm hv gX gY
      rcases sv_path (f_liveCells := f_liveCells) (f_state := f_state) (g_resultNum := g_resultNum) (b_marked := b_marked) I 31 p w cl nm 0 hp1 hp31 (by omega) hv with ⟨hX, hY⟩ | ⟨w', cl', nm', hv', hX, hY⟩
      · exact Or.inl ⟨fun PX h => gX PX ⟨32, hX PX 32 (by omega) h⟩, fun PY h => gY PY ⟨32, hY PY 32 (by omega) h⟩⟩
      · exact Or.inr ⟨w', cl', nm', hv', fun PX h => gX PX ⟨32, hX PX 32 (by omega) h⟩, fun PY h1 h2 => gY PY ⟨32, hY PY 32 (by omega) h1 h2⟩⟩
    -- no root: X's loop ends at once or on a value that is no cell
    have noRoot : (∀ PX : Int64 → Prop, PX (-4294967296) → wpX_root PX (f_codeNum, f_codeOp, f_codeCon, f_codeCall, f_codeMatch, f_codeIfZero, f_codeRet, f_cellBase, f_unseen, f_capacity, f_depth, f_complete, f_open, f_stored, f_scope, f_borrowedNow, f_pending, f_liveCells, f_frames, f_spareTotal, f_state, f_borrowing, f_reusing, f_keeping, f_result, f_steps, f_fresh, f_reused, f_peak, a_arities, a_masks, a_starts, a_codes, a_extras, a_lefts, a_rights, a_scopes, a_uses, a_borrowed, a_lends, a_others, a_frees, a_afters, a_builds, a_pendingAt, a_tags, a_firsts, a_seconds, a_digests, a_counts, a_places, a_work, a_marks, a_variables, a_currents, a_held, a_spareCounts) fr va) → (∀ PY : Int32 → SY → Prop, (∀ sn, PY 0 (f_capacity, f_depth, f_complete, f_open, f_stored, f_scope, f_state, g_bits, f_frames, f_steps, f_fresh, f_reused, f_peak, g_resultCell, g_resultNum, sn, a_starts, a_arities, a_masks, a_codes, a_extras, a_scopes, b_aOf, b_bOf, a_currents, b_spare, b_varCell, b_varNum, b_borrowed, b_tagOf, b_fieldCell, b_fieldNum, b_marked, b_digestOf)) → wpY_see PY (f_capacity, f_depth, f_complete, f_open, f_stored, f_scope, f_state, g_bits, f_frames, f_steps, f_fresh, f_reused, f_peak, g_resultCell, g_resultNum, g_seen, a_starts, a_arities, a_masks, a_codes, a_extras, a_scopes, b_aOf, b_bOf, a_currents, b_spare, b_varCell, b_varNum, b_borrowed, b_tagOf, b_fieldCell, b_fieldNum, b_marked, b_digestOf) fr va (nI p)) →
        ((∀ PX : Int64 → Prop, PX (-4294967296) → wpX_see PX (f_codeNum, f_codeOp, f_codeCon, f_codeCall, f_codeMatch, f_codeIfZero, f_codeRet, f_cellBase, f_unseen, f_capacity, f_depth, f_complete, f_open, f_stored, f_scope, f_borrowedNow, f_pending, f_liveCells, f_frames, f_spareTotal, f_state, f_borrowing, f_reusing, f_keeping, f_result, f_steps, f_fresh, f_reused, f_peak, a_arities, a_masks, a_starts, a_codes, a_extras, a_lefts, a_rights, a_scopes, a_uses, a_borrowed, a_lends, a_others, a_frees, a_afters, a_builds, a_pendingAt, a_tags, a_firsts, a_seconds, a_digests, a_counts, a_places, a_work, a_marks, a_variables, a_currents, a_held, a_spareCounts) fr va (nI p)) ∧ (∀ PY : Int32 → SY → Prop, (∀ sn, PY 0 (f_capacity, f_depth, f_complete, f_open, f_stored, f_scope, f_state, g_bits, f_frames, f_steps, f_fresh, f_reused, f_peak, g_resultCell, g_resultNum, sn, a_starts, a_arities, a_masks, a_codes, a_extras, a_scopes, b_aOf, b_bOf, a_currents, b_spare, b_varCell, b_varNum, b_borrowed, b_tagOf, b_fieldCell, b_fieldNum, b_marked, b_digestOf)) → wpY_see PY (f_capacity, f_depth, f_complete, f_open, f_stored, f_scope, f_state, g_bits, f_frames, f_steps, f_fresh, f_reused, f_peak, g_resultCell, g_resultNum, g_seen, a_starts, a_arities, a_masks, a_codes, a_extras, a_scopes, b_aOf, b_bOf, a_currents, b_spare, b_varCell, b_varNum, b_borrowed, b_tagOf, b_fieldCell, b_fieldNum, b_marked, b_digestOf) fr va (nI p))) := by
      intro gX gY
      refine ⟨fun PX h => br_t hp (gX _ ⟨1, br_f (by decide) (br_c (fun _ => h) (fun _ => xw_isN (by decide) (br_t rfl h)))⟩), gY⟩
    by_cases h2 : f_state = 2
    · by_cases hf0 : fr = 0
      · by_cases hv0 : va = 0
        · refine fromRoot f_result g_resultCell g_resultNum (SS.2.2.2.1 h2) (fun PX h => br_t hp (br_t h2 (br_t hf0 (br_t hv0 h)))) (fun PY h => br_f hp' (br_t h2 (br_t hf0 (br_t hv0 ?_))))
          unfold wY_see_37
          exact br_t h2 h
        · exact Or.inl (noRoot (fun PX h => br_t h2 (br_t hf0 (br_f hv0 h))) (fun PY h => br_f hp' (br_t h2 (br_t hf0 (br_f hv0 (h _))))))
      · exact Or.inl (noRoot (fun PX h => br_t h2 (br_f hf0 h)) (fun PY h => br_f hp' (br_t h2 (br_f hf0 (h _)))))
    · by_cases a1 : fr < 0
      · refine Or.inl (noRoot (fun PX h => br_f h2 (br_t a1 h)) (fun PY h => br_f hp' (br_f h2 ?_)))
        unfold wY_see_37
        exact br_f h2 (br_t a1 (h _))
      · by_cases a2 : f_frames ≤ fr
        · refine Or.inl (noRoot (fun PX h => br_f h2 (br_f a1 (br_t a2 h))) (fun PY h => br_f hp' (br_f h2 ?_)))
          unfold wY_see_37
          exact br_f h2 (br_f a1 (br_t a2 (h _)))
        · by_cases a3 : va < 0
          · refine Or.inl (noRoot (fun PX h => br_f h2 (br_f a1 (br_f a2 (br_t a3 h)))) (fun PY h => br_f hp' (br_f h2 ?_)))
            unfold wY_see_37
            exact br_f h2 (br_f a1 (br_f a2 (br_t a3 (h _))))
          · by_cases a4 : va < 12
            · obtain ⟨f, hf31, rfl⟩ := nI_of a1
              obtain ⟨v, hv31, rfl⟩ := nI_of a3
              have hf : f < n := by
                rw [hF, nI_leI (by omega) hf31] at a2; omega
              have hv : v < 12 := by
                rw [show (12 : Int32) = nI 12 from rfl, nI_ltI hv31 (by omega)] at a4; exact a4
              obtain ⟨k1, k2, k3, k4⟩ := F.2 f hf
              have xm : nI f * 12 = nI (f * 12) := pk_mul f 12
              -- X's root
              have gX : ∀ PX : Int64 → Prop, (∀ x3 : Int32, bt x3 v = (bt (rr_need a_frees a_afters cu n f) v || bt (rr_lent f_borrowing a_lends cu n f) v) → wX_root_90 PX (nI f) (nI v) x3 f_codeNum f_codeOp f_codeCon f_codeCall f_codeMatch f_codeIfZero f_codeRet f_cellBase f_unseen f_capacity f_depth f_complete f_open f_stored f_scope f_borrowedNow f_pending f_liveCells f_frames f_spareTotal f_state f_borrowing f_reusing f_keeping f_result f_steps f_fresh f_reused f_peak a_arities a_masks a_starts a_codes a_extras a_lefts a_rights a_scopes a_uses a_borrowed a_lends a_others a_frees a_afters a_builds a_pendingAt a_tags a_firsts a_seconds a_digests a_counts a_places a_work a_marks a_variables a_currents a_held a_spareCounts) → wpX_root PX (f_codeNum, f_codeOp, f_codeCon, f_codeCall, f_codeMatch, f_codeIfZero, f_codeRet, f_cellBase, f_unseen, f_capacity, f_depth, f_complete, f_open, f_stored, f_scope, f_borrowedNow, f_pending, f_liveCells, f_frames, f_spareTotal, f_state, f_borrowing, f_reusing, f_keeping, f_result, f_steps, f_fresh, f_reused, f_peak, a_arities, a_masks, a_starts, a_codes, a_extras, a_lefts, a_rights, a_scopes, a_uses, a_borrowed, a_lends, a_others, a_frees, a_afters, a_builds, a_pendingAt, a_tags, a_firsts, a_seconds, a_digests, a_counts, a_places, a_work, a_marks, a_variables, a_currents, a_held, a_spareCounts) (nI f) (nI v) := by
                intro PX h
                refine br_f h2 (br_f a1 (br_f a2 (br_f a3 (br_t a4 ?_))))
                rw [hF] at h ⊢
                refine sv_need hf hn20 k1 (by omega) ?_
                by_cases hb0 : f_borrowing = 0
                · refine br_t hb0 (h _ ?_)
                  unfold rr_lent
                  rw [if_pos (Or.inr hb0), b_0, Bool.or_false]
                · refine br_f hb0 ?_
                  obtain ⟨k, rfl⟩ : ∃ k, n = k + 1 := ⟨n - 1, by omega⟩
                  rw [nI_pred k]
                  by_cases z : f = k
                  · refine br_t (by rw [z]; exact Int32.le_refl _) (h _ ?_)
                    unfold rr_lent
                    rw [if_pos (Or.inl (by omega)), b_0, Bool.or_false]
                  · rw [nI_clamp hf31, k1, nI_clamp (show cu f < 2 ^ 31 by omega)]
                    refine br_f (nI_ge (by omega) (by omega)) ⟨vp_in_nI (by omega) (by omega), vp_in_nI (by omega) (by omega), nm_e (h _ ?_)⟩
                    unfold rr_lent
                    rw [if_neg (fun w => w.elim (fun w => by omega) hb0), b_or]
              have y37 : ∀ PY : Int32 → SY → Prop, wY_see_37 PY (nI f) (nI v) (nI p) g_resultCell f_capacity f_depth f_complete f_open f_stored f_scope f_state g_bits f_frames f_steps f_fresh f_reused f_peak g_resultCell g_resultNum g_resultNum a_starts a_arities a_masks a_codes a_extras a_scopes b_aOf b_bOf a_currents b_spare b_varCell b_varNum b_borrowed b_tagOf b_fieldCell b_fieldNum b_marked b_digestOf → wpY_see PY (f_capacity, f_depth, f_complete, f_open, f_stored, f_scope, f_state, g_bits, f_frames, f_steps, f_fresh, f_reused, f_peak, g_resultCell, g_resultNum, g_seen, a_starts, a_arities, a_masks, a_codes, a_extras, a_scopes, b_aOf, b_bOf, a_currents, b_spare, b_varCell, b_varNum, b_borrowed, b_tagOf, b_fieldCell, b_fieldNum, b_marked, b_digestOf) (nI f) (nI v) (nI p) := fun PY h => br_f hp' (br_f h2 h)
              cases hvis : (bt (rr_need a_frees a_afters cu n f) v || bt (rr_lent f_borrowing a_lends cu n f) v)
              · left
                refine noRoot (fun PX h => gX PX (fun x3 e3 => ?_)) (fun PY h => y37 PY ?_)
                · rw [hvis] at e3
                  unfold wX_root_90
                  exact br_t ((rc_bit x3 (by omega)).mpr e3) h
                · unfold wY_see_37
                  rw [Bool.or_eq_false_iff] at hvis
                  refine br_f h2 (br_f a1 (br_f a2 (br_f a3 (br_t a4 ?_))))
                  rw [xm, nI_add]
                  refine nm_e ?_
                  rw [hS, hF] at h ⊢
                  refine yr_needed C F hb hst hf hv ?_
                  rw [hvis.1]
                  refine br_t rfl (yr_lent (g_stored := nI st) C F B M.2.2.2.1 hf hv ?_)
                  rw [hvis.2]
                  exact br_t rfl (h _)
              · refine fromRoot _ _ _ (V f v hf hv hvis) (fun PX h => br_t hp (gX _ (fun x3 e3 => ?_))) (fun PY h => y37 PY ?_)
                · rw [hvis] at e3
                  unfold wX_root_90
                  refine br_f (fun w => by rw [rc_bit x3 (by omega), e3] at w; exact absurd w (by decide)) ?_
                  rw [xm, nI_add, nI_clamp (show f * 12 + v < 2 ^ 31 by omega)]
                  exact ⟨vp_in_nI (by omega) (by omega), h⟩
                · have g97 : wY_see_97 PY (nI p) (nI (f * 12 + v)) f_capacity f_depth f_complete f_open f_stored f_scope f_state g_bits f_frames f_steps f_fresh f_reused f_peak g_resultCell g_resultNum g_resultNum a_starts a_arities a_masks a_codes a_extras a_scopes b_aOf b_bOf a_currents b_spare b_varCell b_varNum b_borrowed b_tagOf b_fieldCell b_fieldNum b_marked b_digestOf := by
                    unfold wY_see_97
                    rw [nI_clamp (show f * 12 + v < 2 ^ 31 by omega)]
                    exact ⟨vp_in_nI (by omega) (by omega), nm_e ⟨vp_in_nI (by omega) (by omega), nm_e h⟩⟩
                  unfold wY_see_37
                  refine br_f h2 (br_f a1 (br_f a2 (br_f a3 (br_t a4 ?_))))
                  rw [xm, nI_add]
                  refine nm_e ?_
                  rw [hS, hF] at g97 ⊢
                  refine yr_needed C F hb hst hf hv ?_
                  cases q : bt (rr_need a_frees a_afters cu n f) v
                  · rw [q, Bool.false_or] at hvis
                    refine br_t rfl (yr_lent (g_stored := nI st) C F B M.2.2.2.1 hf hv ?_)
                    rw [hvis]
                    exact br_f (by decide) g97
                  · exact br_f (by decide) g97
            · refine Or.inl (noRoot (fun PX h => br_f h2 (br_f a1 (br_f a2 (br_f a3 (br_f a4 h))))) (fun PY h => br_f hp' (br_f h2 ?_)))
              unfold wY_see_37
              exact br_f h2 (br_f a1 (br_f a2 (br_f a3 (br_f a4 (h _)))))
  · exact Or.inl ⟨fun PX h => br_f hp h, fun PY h => br_t (Int32.not_le.mp hp) (h _)⟩
end
end
section
theorem i_vc_kind {k : Nat} {u : SX} {v : SY} (I : i_Rel k u v) (hk : k + 5 ≤ 2562) (v1 : Int32) (v2 : Int32) (v3 : Int32) : wpX_kind (fun r => wpY_kind (fun r' v' => r' = r ∧ i_Rel (k + 5) u v') v v1 v2 v3) u v1 v2 v3 := by
  refine zz_el (P := fun u v => wpX_kind (fun r => wpY_kind (fun r' v' => r' = r ∧ i_Rel (k + 5) u v') v v1 v2 v3) u v1 v2 v3) ?_ u v I
  intro f_codeNum f_codeOp f_codeCon f_codeCall f_codeMatch f_codeIfZero f_codeRet f_cellBase f_unseen f_capacity f_depth f_complete f_open f_stored f_scope f_borrowedNow f_pending f_liveCells f_frames f_spareTotal f_state f_borrowing f_reusing f_keeping f_result f_steps f_fresh f_reused f_peak a_arities a_masks a_starts a_codes a_extras a_lefts a_rights a_scopes a_uses a_borrowed a_lends a_others a_frees a_afters a_builds a_pendingAt a_tags a_firsts a_seconds a_digests a_counts a_places a_work a_marks a_variables a_currents a_held a_spareCounts g_bits g_resultCell g_resultNum g_seen b_aOf b_bOf b_spare b_varCell b_varNum b_borrowed b_tagOf b_fieldCell b_fieldNum b_marked b_digestOf F
  have J : ∀ sn, i_Rel (k + 5) (f_codeNum, f_codeOp, f_codeCon, f_codeCall, f_codeMatch, f_codeIfZero, f_codeRet, f_cellBase, f_unseen, f_capacity, f_depth, f_complete, f_open, f_stored, f_scope, f_borrowedNow, f_pending, f_liveCells, f_frames, f_spareTotal, f_state, f_borrowing, f_reusing, f_keeping, f_result, f_steps, f_fresh, f_reused, f_peak, a_arities, a_masks, a_starts, a_codes, a_extras, a_lefts, a_rights, a_scopes, a_uses, a_borrowed, a_lends, a_others, a_frees, a_afters, a_builds, a_pendingAt, a_tags, a_firsts, a_seconds, a_digests, a_counts, a_places, a_work, a_marks, a_variables, a_currents, a_held, a_spareCounts) (f_capacity, f_depth, f_complete, f_open, f_stored, f_scope, f_state, g_bits, f_frames, f_steps, f_fresh, f_reused, f_peak, g_resultCell, g_resultNum, sn, a_starts, a_arities, a_masks, a_codes, a_extras, a_scopes, b_aOf, b_bOf, a_currents, b_spare, b_varCell, b_varNum, b_borrowed, b_tagOf, b_fieldCell, b_fieldNum, b_marked, b_digestOf) := fun sn => zz_in F
  obtain ⟨sc, bw, cm, b, st, p, cu, sg, rk, sp, L, n, lv, cp, dp, T, R⟩ := F
  unfold wpX_kind
  rcases sv_see (g_seen := g_seen) (b_marked := b_marked) (b_digestOf := b_digestOf) v1 v2 v3 T.2.2.2.2.1 R.2.2.2.2 T.2.2.1 T.2.2.2.1 T.2.1 R.2.2.1 with ⟨hX, hY⟩ | ⟨w, cl, nm, hv, hX, hY⟩
  · refine hX _ (br_t rfl ?_)
    unfold wpY_kind
    exact hY _ (fun sn => ⟨rfl, J sn⟩)
  · refine hX _ ?_
    rcases hv with ⟨u1, u2⟩ | ⟨u1, c, hc, hL, u2, u3⟩
    · refine br_f (by rw [u2]; exact rc_nv_ne _) (xw_isN (by rw [u2]; exact rc_nv_lt _) (br_t rfl ?_))
      unfold wpY_kind
      exact hY _ (fun _ => ⟨rfl, J _⟩) (fun z => absurd u1 z)
    · rw [u2]
      refine br_f (rc_cv_ne (by omega)) (xw_isC hc (br_f (by decide) ?_))
      unfold wpY_kind
      exact hY _ (fun z => by rw [u1] at z; exact absurd z (by decide)) (fun _ => ⟨rfl, J _⟩)
theorem i_vc_value {k : Nat} {u : SX} {v : SY} (I : i_Rel k u v) (hk : k + 5 ≤ 2562) (v1 : Int32) (v2 : Int32) (v3 : Int32) : wpX_value (fun r => wpY_value (fun r' v' => r' = r ∧ i_Rel (k + 5) u v') v v1 v2 v3) u v1 v2 v3 := by
  refine zz_el (P := fun u v => wpX_value (fun r => wpY_value (fun r' v' => r' = r ∧ i_Rel (k + 5) u v') v v1 v2 v3) u v1 v2 v3) ?_ u v I
  intro f_codeNum f_codeOp f_codeCon f_codeCall f_codeMatch f_codeIfZero f_codeRet f_cellBase f_unseen f_capacity f_depth f_complete f_open f_stored f_scope f_borrowedNow f_pending f_liveCells f_frames f_spareTotal f_state f_borrowing f_reusing f_keeping f_result f_steps f_fresh f_reused f_peak a_arities a_masks a_starts a_codes a_extras a_lefts a_rights a_scopes a_uses a_borrowed a_lends a_others a_frees a_afters a_builds a_pendingAt a_tags a_firsts a_seconds a_digests a_counts a_places a_work a_marks a_variables a_currents a_held a_spareCounts g_bits g_resultCell g_resultNum g_seen b_aOf b_bOf b_spare b_varCell b_varNum b_borrowed b_tagOf b_fieldCell b_fieldNum b_marked b_digestOf F
  have J : ∀ sn, i_Rel (k + 5) (f_codeNum, f_codeOp, f_codeCon, f_codeCall, f_codeMatch, f_codeIfZero, f_codeRet, f_cellBase, f_unseen, f_capacity, f_depth, f_complete, f_open, f_stored, f_scope, f_borrowedNow, f_pending, f_liveCells, f_frames, f_spareTotal, f_state, f_borrowing, f_reusing, f_keeping, f_result, f_steps, f_fresh, f_reused, f_peak, a_arities, a_masks, a_starts, a_codes, a_extras, a_lefts, a_rights, a_scopes, a_uses, a_borrowed, a_lends, a_others, a_frees, a_afters, a_builds, a_pendingAt, a_tags, a_firsts, a_seconds, a_digests, a_counts, a_places, a_work, a_marks, a_variables, a_currents, a_held, a_spareCounts) (f_capacity, f_depth, f_complete, f_open, f_stored, f_scope, f_state, g_bits, f_frames, f_steps, f_fresh, f_reused, f_peak, g_resultCell, g_resultNum, sn, a_starts, a_arities, a_masks, a_codes, a_extras, a_scopes, b_aOf, b_bOf, a_currents, b_spare, b_varCell, b_varNum, b_borrowed, b_tagOf, b_fieldCell, b_fieldNum, b_marked, b_digestOf) := fun sn => zz_in F
  obtain ⟨sc, bw, cm, b, st, p, cu, sg, rk, sp, L, n, lv, cp, dp, T, R⟩ := F
  have Is := R.2.2.2.2.2.2.2.2.1
  unfold wpX_value
  rcases sv_see (g_seen := g_seen) (b_marked := b_marked) (b_digestOf := b_digestOf) v1 v2 v3 T.2.2.2.2.1 R.2.2.2.2 T.2.2.1 T.2.2.2.1 T.2.1 R.2.2.1 with ⟨hX, hY⟩ | ⟨w, cl, nm, hv, hX, hY⟩
  · refine hX _ (br_t rfl ?_)
    unfold wpY_value
    exact hY _ (fun sn => br_f (by decide) (br_f (by decide) ⟨rfl, J sn⟩))
  · refine hX _ ?_
    rcases hv with ⟨u1, u2⟩ | ⟨u1, c, hc, hL, u2, u3⟩
    · refine br_f (by rw [u2]; exact rc_nv_ne _) (xs_operand (Or.inl (by rw [u2]; exact rc_nv_lt _)) ?_)
      unfold wpY_value
      refine hY _ (fun _ => br_f (by decide) (br_t rfl ⟨?_, J _⟩)) (fun z => absurd u1 z)
      unfold xs_opd
      rw [u2, if_pos (rc_nv_lt _), rc_nv_32]
    · rw [u2]
      refine br_f (rc_cv_ne (by omega)) (xs_operand (Or.inr ⟨c, hc, rfl⟩) ?_)
      unfold wpY_value
      refine hY _ (fun z => by rw [u1] at z; exact absurd z (by decide)) (fun _ => br_t rfl ?_)
      obtain ⟨i1, i2, -⟩ := Is.1 c hc hL
      rw [u3, nI_clamp (show sg c < 2 ^ 31 by omega)]
      refine ⟨vp_in_nI i1 (by omega), ?_, J _⟩
      unfold xs_opd
      rw [if_neg (rc_cv_ge (by omega)), rc_cv_of (by omega), nI_clamp (by omega), i2]
/-! ===== digests ===== -/
/-- a rank below 160 -/
theorem dg_rank {L : Nat → Bool} {rk : Nat → Nat} {fx sy : Nat → Int64} (hr : ∀ c, c < 160 → L c = true → ∀ q, q < 160 → (fx c = rc_cv q ∨ sy c = rc_cv q) → rk q < rk c) (hcl : ∀ d q, d < 160 → q < 160 → L d = true → (fx d = rc_cv q ∨ sy d = rc_cv q) → L q = true) :
    ∃ r : Nat → Nat, (∀ c, c < 160 → r c < 160) ∧ ∀ c, c < 160 → L c = true → ∀ q, q < 160 → (fx c = rc_cv q ∨ sy c = rc_cv q) → r q < r c := by
  refine ⟨fun c => rc_sm (fun d => if L d = true ∧ rk d < rk c then 1 else 0) 160, fun c hc => ?_, fun c hc hL q hq h => ?_⟩
  · have hu := rc_sm_upd (f := fun d => if L d = true ∧ rk d < rk c then 1 else 0) (g := fun d => if d = c then 1 else if L d = true ∧ rk d < rk c then 1 else 0) (x := c) (fun j hj => if_neg hj) 160 hc
    (try dsimp only at hu)
    rw [if_pos rfl, if_neg (fun z => Nat.lt_irrefl _ z.2)] at hu
    have hle := rc_sm_le (f := fun d => if d = c then 1 else if L d = true ∧ rk d < rk c then 1 else 0) (m := 1) 160 (fun j _ => by (try dsimp only); split <;> (try split) <;> omega)
    (try dsimp only)
    omega
  · have hLq := hcl c q hc hq hL h
    have hlt := hr c hc hL q hq h
    have hu := rc_sm_upd (f := fun d => if L d = true ∧ rk d < rk q then 1 else 0) (g := fun d => if d = q then 1 else if L d = true ∧ rk d < rk q then 1 else 0) (x := q) (fun j hj => if_neg hj) 160 hq
    (try dsimp only at hu)
    rw [if_pos rfl, if_neg (fun z => Nat.lt_irrefl _ z.2)] at hu
    have hm : rc_sm (fun d => if d = q then 1 else if L d = true ∧ rk d < rk q then 1 else 0) 160 ≤ rc_sm (fun d => if L d = true ∧ rk d < rk c then 1 else 0) 160 := rc_sm_mono 160 (fun d _ => by
      (try dsimp only)
      by_cases z : d = q
      · rw [if_pos z, if_pos ⟨by rw [z]; exact hLq, by rw [z]; exact hlt⟩]; exact Nat.le_refl _
      · rw [if_neg z]
        by_cases w : L d = true ∧ rk d < rk q
        · rw [if_pos w, if_pos ⟨w.1, by omega⟩]; exact Nat.le_refl _
        · rw [if_neg w]; exact Nat.zero_le _)
    (try dsimp only)
    omega
section
variable {g_cap g_most g_functions g_open g_stored g_scope g_state g_bits g_frames g_steps g_fresh g_reused g_peak g_resultCell g_resultNum g_seen : Int32} {b_firstOf b_arityOf b_maskOf b_kindOf b_numOf b_scopeOf b_aOf b_bOf b_cur b_spare b_varCell b_varNum b_borrowed b_tagOf b_fieldCell b_fieldNum b_marked b_digestOf : Nat → Int32}
variable {L : Nat → Bool} {sg rk : Nat → Nat} {fx sy : Nat → Int64} {tg dg : Nat → Int32}
/-- one row of the digest loop -/
theorem dg_row {post : Int32 → SY → Prop} {J : Int32 → (Nat → Int32) → (Nat → Int32) → (Nat → Int32) → (Nat → Int32) → (Nat → Int32) → (Nat → Int32) → (Nat → Int32) → (Nat → Int32) → (Nat → Int32) → (Nat → Int32) → (Nat → Int32) → (Nat → Int32) → (Nat → Int32) → (Nat → Int32) → (Nat → Int32) → (Nat → Int32) → (Nat → Int32) → (Nat → Int32) → Prop}
    {i j : Nat} {x z : Int32} (hj : j < 160) (hf : ∀ x, x < 320 → ¬ b_fieldCell x = 0 → ∃ c, c < 160 ∧ b_fieldNum x = nI c)
    (hx : x = if b_fieldCell (2 * j) = 0 then 5 * b_fieldNum (2 * j) + 1 else b_digestOf (b_fieldNum (2 * j)).toNatClampNeg) (hz : z = if b_fieldCell (2 * j + 1) = 0 then 5 * b_fieldNum (2 * j + 1) + 1 else b_digestOf (b_fieldNum (2 * j + 1)).toNatClampNeg)
    (h : J (nI (i + 1)) b_firstOf b_arityOf b_maskOf b_kindOf b_numOf b_scopeOf b_aOf b_bOf b_cur b_spare b_varCell b_varNum b_borrowed b_tagOf b_fieldCell b_fieldNum b_marked (upd b_digestOf j ((((31 * x) + (1009 * z)) + b_tagOf j) + 2))) : wY_digest_95 post J (nI i) (nI j) x g_cap g_most g_functions g_open g_stored g_scope g_state g_bits g_frames g_steps g_fresh g_reused g_peak g_resultCell g_resultNum g_seen b_firstOf b_arityOf b_maskOf b_kindOf b_numOf b_scopeOf b_aOf b_bOf b_cur b_spare b_varCell b_varNum b_borrowed b_tagOf b_fieldCell b_fieldNum b_marked b_digestOf := by
  have g145 : ∀ z0, z0 = z → wY_digest_145 post J (nI i) (nI j) x z0 g_cap g_most g_functions g_open g_stored g_scope g_state g_bits g_frames g_steps g_fresh g_reused g_peak g_resultCell g_resultNum g_seen b_firstOf b_arityOf b_maskOf b_kindOf b_numOf b_scopeOf b_aOf b_bOf b_cur b_spare b_varCell b_varNum b_borrowed b_tagOf b_fieldCell b_fieldNum b_marked b_digestOf := by
    intro z0 e0
    unfold wY_digest_145
    rw [e0, nI_clamp (show j < 2 ^ 31 by omega)]
    exact ⟨vp_in_nI hj (by omega), vp_in_nI hj (by omega), nm_e (nm_r (nI_1 i) h)⟩
  unfold wY_digest_95
  rw [show 2 * nI j = nI (2 * j) from pk_mul 2 j, nI_1, nI_clamp (show 2 * j + 1 < 2 ^ 31 by omega)]
  refine ⟨vp_in_nI (by omega) (by omega), br_c (fun w => ⟨vp_in_nI (by omega) (by omega), g145 _ ?_⟩) (fun w => ?_)⟩
  · rw [hz, if_pos w]
  · obtain ⟨c, hc, ec⟩ := hf (2 * j + 1) (by omega) w
    refine ⟨vp_in_nI (by omega) (by omega), by rw [ec]; exact vp_in_nI hc (by omega), g145 _ ?_⟩
    rw [hz, if_neg w]
theorem dg_loop {post : Int32 → SY → Prop} {c0 : Nat} (hf : ∀ x, x < 320 → ¬ b_fieldCell x = 0 → ∃ c, c < 160 ∧ b_fieldNum x = nI c)
    (I : rr_I L sg rk fx sy tg dg b_tagOf b_fieldCell b_fieldNum) {r : Nat → Nat} (hr1 : ∀ c, c < 160 → r c < 160) (hr2 : ∀ c, c < 160 → L c = true → ∀ q, q < 160 → (fx c = rc_cv q ∨ sy c = rc_cv q) → r q < r c)
    (hc0 : c0 < 160) (hL0 : L c0 = true) (hsn : g_seen = nI (sg c0)) (hp : ∀ D, post (dg c0) (g_cap, g_most, g_functions, g_open, g_stored, g_scope, g_state, g_bits, g_frames, g_steps, g_fresh, g_reused, g_peak, g_resultCell, g_resultNum, g_seen, b_firstOf, b_arityOf, b_maskOf, b_kindOf, b_numOf, b_scopeOf, b_aOf, b_bOf, b_cur, b_spare, b_varCell, b_varNum, b_borrowed, b_tagOf, b_fieldCell, b_fieldNum, b_marked, D)) :
    ∀ (k m i : Nat) (D : Nat → Int32), i + k = 25600 → k < m → (∀ c, c < 160 → L c = true → 160 * r c + sg c < i → D (sg c) = dg c) → wY_digest_37 post g_cap g_most g_functions g_open g_stored g_scope g_state g_bits g_frames g_steps g_fresh g_reused g_peak g_resultCell g_resultNum g_seen m (nI i) b_firstOf b_arityOf b_maskOf b_kindOf b_numOf b_scopeOf b_aOf b_bOf b_cur b_spare b_varCell b_varNum b_borrowed b_tagOf b_fieldCell b_fieldNum b_marked D := by
  intro k
  induction k with
  | zero =>
    intro m i D hi hm hD
    obtain ⟨m, rfl⟩ : ∃ q, m = q + 1 := ⟨m - 1, by omega⟩
    have : i = 25600 := by omega
    subst this
    have i1 := (I.1 c0 hc0 hL0).1
    have h1 := hr1 c0 hc0
    refine br_t (Int32.le_refl _) ?_
    have := hD c0 hc0 hL0 (by omega)
    rw [hsn, nI_clamp (show sg c0 < 2 ^ 31 by omega), this]
    have := hp D
    rw [hsn] at this
    exact ⟨vp_in_nI i1 (by omega), this⟩
  | succ k ih =>
    intro m i D hi hm hD
    obtain ⟨m, rfl⟩ : ∃ q, m = q + 1 := ⟨m - 1, by omega⟩
    have rm : nI i - nI i / 160 * 160 = nI (i % 160) := pk_rem (d := 160) (by omega) (by omega) (by omega)
    refine br_f (nI_ge (b := 25600) (by omega) (by omega)) ⟨by decide, nm_r rm ?_⟩
    have hj : i % 160 < 160 := Nat.mod_lt _ (by omega)
    rw [show 2 * nI (i % 160) = nI (2 * (i % 160)) from pk_mul 2 _, nI_clamp (show 2 * (i % 160) < 2 ^ 31 by omega)]
    have nx : wY_digest_37 post g_cap g_most g_functions g_open g_stored g_scope g_state g_bits g_frames g_steps g_fresh g_reused g_peak g_resultCell g_resultNum g_seen m (nI (i + 1)) b_firstOf b_arityOf b_maskOf b_kindOf b_numOf b_scopeOf b_aOf b_bOf b_cur b_spare b_varCell b_varNum b_borrowed b_tagOf b_fieldCell b_fieldNum b_marked (upd D (i % 160) ((((31 * (if b_fieldCell (2 * (i % 160)) = 0 then 5 * b_fieldNum (2 * (i % 160)) + 1 else D (b_fieldNum (2 * (i % 160))).toNatClampNeg)) + (1009 * (if b_fieldCell (2 * (i % 160) + 1) = 0 then 5 * b_fieldNum (2 * (i % 160) + 1) + 1 else D (b_fieldNum (2 * (i % 160) + 1)).toNatClampNeg))) + b_tagOf (i % 160)) + 2)) := by
      refine ih m (i + 1) _ (by omega) (by omega) (fun c hc hL hlt => ?_)
      obtain ⟨i1, i2, i3, i4, i5, i6⟩ := I.1 c hc hL
      by_cases e : sg c = i % 160
      · rw [e, pk_us, ← e]
        have hch : ∀ v cl nm, rc_vr L sg v cl nm → (∀ q, q < 160 → v = rc_cv q → r q < r c) → (if cl = 0 then 5 * nm + 1 else D nm.toNatClampNeg) = xg_d dg v := fun v cl nm hv hq => by
          unfold xg_d
          rcases hv with ⟨u1, u2⟩ | ⟨u1, q, hq1, hLq, u2, u3⟩
          · rw [if_pos u1, u2, if_pos (rc_nv_lt _), rc_nv_32]
          · have j1 := (I.1 q hq1 hLq).1
            rw [u1, if_neg (by decide), u2, if_neg (rc_cv_ge (by omega)), rc_cv_of (by omega), nI_clamp (by omega), u3, nI_clamp (by omega)]
            have := hq q hq1 u2
            exact hD q hq1 hLq (by omega)
        rw [hch _ _ _ i3 (fun q hq h => hr2 c hc hL q hq (Or.inl h)), hch _ _ _ i4 (fun q hq h => hr2 c hc hL q hq (Or.inr h)), i2, i5]
      · rw [pk_un e]
        exact hD c hc hL (by
          have h1 := hr1 c hc
          by_cases w : 160 * r c + sg c = i
          · exact absurd (by omega) e
          · omega)
    refine ⟨vp_in_nI (by omega) (by omega), br_c (fun w => ⟨vp_in_nI (by omega) (by omega), dg_row (b_digestOf := D) hj hf (by rw [if_pos w]) rfl ?_⟩) (fun w => ?_)⟩
    · rw [if_pos w] at nx; exact nx
    · obtain ⟨c, hc, ec⟩ := hf (2 * (i % 160)) (by omega) w
      refine ⟨vp_in_nI (by omega) (by omega), by rw [ec]; exact vp_in_nI hc (by omega), dg_row (b_digestOf := D) hj hf (by rw [if_neg w]) rfl ?_⟩
      rw [if_neg w] at nx; exact nx
end
theorem i_vc_digest {k : Nat} {u : SX} {v : SY} (I : i_Rel k u v) (hk : k + 5 ≤ 2562) (v1 : Int32) (v2 : Int32) (v3 : Int32) : wpX_digest (fun r => wpY_digest (fun r' v' => r' = r ∧ i_Rel (k + 5) u v') v v1 v2 v3) u v1 v2 v3 := by
  refine zz_el (P := fun u v => wpX_digest (fun r => wpY_digest (fun r' v' => r' = r ∧ i_Rel (k + 5) u v') v v1 v2 v3) u v1 v2 v3) ?_ u v I
  intro f_codeNum f_codeOp f_codeCon f_codeCall f_codeMatch f_codeIfZero f_codeRet f_cellBase f_unseen f_capacity f_depth f_complete f_open f_stored f_scope f_borrowedNow f_pending f_liveCells f_frames f_spareTotal f_state f_borrowing f_reusing f_keeping f_result f_steps f_fresh f_reused f_peak a_arities a_masks a_starts a_codes a_extras a_lefts a_rights a_scopes a_uses a_borrowed a_lends a_others a_frees a_afters a_builds a_pendingAt a_tags a_firsts a_seconds a_digests a_counts a_places a_work a_marks a_variables a_currents a_held a_spareCounts g_bits g_resultCell g_resultNum g_seen b_aOf b_bOf b_spare b_varCell b_varNum b_borrowed b_tagOf b_fieldCell b_fieldNum b_marked b_digestOf F
  have J : ∀ sn D, i_Rel (k + 5) (f_codeNum, f_codeOp, f_codeCon, f_codeCall, f_codeMatch, f_codeIfZero, f_codeRet, f_cellBase, f_unseen, f_capacity, f_depth, f_complete, f_open, f_stored, f_scope, f_borrowedNow, f_pending, f_liveCells, f_frames, f_spareTotal, f_state, f_borrowing, f_reusing, f_keeping, f_result, f_steps, f_fresh, f_reused, f_peak, a_arities, a_masks, a_starts, a_codes, a_extras, a_lefts, a_rights, a_scopes, a_uses, a_borrowed, a_lends, a_others, a_frees, a_afters, a_builds, a_pendingAt, a_tags, a_firsts, a_seconds, a_digests, a_counts, a_places, a_work, a_marks, a_variables, a_currents, a_held, a_spareCounts) (f_capacity, f_depth, f_complete, f_open, f_stored, f_scope, f_state, g_bits, f_frames, f_steps, f_fresh, f_reused, f_peak, g_resultCell, g_resultNum, sn, a_starts, a_arities, a_masks, a_codes, a_extras, a_scopes, b_aOf, b_bOf, a_currents, b_spare, b_varCell, b_varNum, b_borrowed, b_tagOf, b_fieldCell, b_fieldNum, b_marked, D) := fun sn D => zz_in F
  obtain ⟨sc, bw, cm, b, st, p, cu, sg, rk, sp, L, n, lv, cp, dp, T, R⟩ := F
  have R0 := R
  obtain ⟨-, -, -, -, -, -, -, -, Is, Y, -, Lv, -, -⟩ := R
  unfold wpX_digest
  rcases sv_see (g_seen := g_seen) (b_marked := b_marked) (b_digestOf := b_digestOf) v1 v2 v3 T.2.2.2.2.1 R0.2.2.2.2 T.2.2.1 T.2.2.2.1 T.2.1 R0.2.2.1 with ⟨hX, hY⟩ | ⟨w, cl, nm, hv, hX, hY⟩
  · refine hX _ (br_t rfl ?_)
    unfold wpY_digest
    exact hY _ (fun sn => br_f (by decide) (br_f (by decide) ⟨rfl, J sn _⟩))
  · refine hX _ ?_
    rcases hv with ⟨u1, u2⟩ | ⟨u1, c, hc, hL, u2, u3⟩
    · refine br_f (by rw [u2]; exact rc_nv_ne _) (xx_dig (Or.inl (by rw [u2]; exact rc_nv_lt _)) ?_)
      unfold wpY_digest
      refine hY _ (fun _ => br_f (by decide) (br_t rfl ⟨?_, J _ _⟩)) (fun z => absurd u1 z)
      unfold xg_d
      rw [u2, if_pos (rc_nv_lt _), rc_nv_32]
    · rw [u2]
      refine br_f (rc_cv_ne (by omega)) (xx_dig (Or.inr ⟨c, hc, rfl⟩) ?_)
      unfold wpY_digest
      refine hY _ (fun z => by rw [u1] at z; exact absurd z (by decide)) (fun _ => br_t rfl ⟨25601, ?_⟩)
      have hcl := fun d q hd hq hL h => Lv.2.2.1 d q hd hq hL h
      obtain ⟨r, hr1, hr2⟩ := dg_rank (fun c hc hL => (Is.1 c hc hL).2.2.2.2.2) hcl
      refine dg_loop (c0 := c) (fun x hx h => (Y.2.1 x hx).2 h) Is hr1 hr2 hc hL u3 (fun D => ⟨?_, J _ D⟩) 25600 25601 0 b_digestOf (by omega) (by omega) (fun c hc hL h => by omega)
      unfold xg_d
      rw [if_neg (rc_cv_ge (by omega)), rc_cv_of (by omega), nI_clamp (by omega)]
end
section
/-! ===== holders ===== -/
theorem rc_sm_ext {f : Nat → Nat} {k : Nat} : ∀ m, k ≤ m → (∀ x, k ≤ x → f x = 0) → rc_sm f m = rc_sm f k := by
  intro m
  induction m with
  | zero => intro h _; have : k = 0 := by omega
            rw [this]
  | succ m ih =>
    intro h h0
    by_cases e : k = m + 1
    · rw [e]
    · show rc_sm f m + f m = rc_sm f k
      rw [ih (by omega) h0, h0 m (by omega)]; rfl
theorem rc_sm_two {f : Nat → Nat} : ∀ m, rc_sm f (2 * m) = rc_sm (fun i => f (2 * i) + f (2 * i + 1)) m := by
  intro m
  induction m with
  | zero => rfl
  | succ m ih =>
    show rc_sm f (2 * m) + f (2 * m) + f (2 * m + 1) = rc_sm (fun i => f (2 * i) + f (2 * i + 1)) m + (f (2 * m) + f (2 * m + 1))
    rw [ih]; omega
section
variable {g_cap g_most g_functions g_open g_stored g_scope g_state g_bits g_frames g_steps g_fresh g_reused g_peak g_resultCell g_resultNum g_seen : Int32} {b_firstOf b_arityOf b_maskOf b_kindOf b_numOf b_scopeOf b_aOf b_bOf b_cur b_spare b_varCell b_varNum b_borrowed b_tagOf b_fieldCell b_fieldNum b_marked b_digestOf : Nat → Int32}
theorem yh_126 {post : Int32 → SY → Prop} {N : Nat} {rt : Nat → Bool} {sn : Nat} {a : Nat} (hN : N ≤ 20)
    (hW : ∀ x (Q : Int32 → Prop), x < N * 12 → Q (rc_b (rt x)) → wpY_holds Q (g_cap, g_most, g_functions, g_open, g_stored, g_scope, g_state, g_bits, nI N, g_steps, g_fresh, g_reused, g_peak, g_resultCell, g_resultNum, nI sn, b_firstOf, b_arityOf, b_maskOf, b_kindOf, b_numOf, b_scopeOf, b_aOf, b_bOf, b_cur, b_spare, b_varCell, b_varNum, b_borrowed, b_tagOf, b_fieldCell, b_fieldNum, b_marked, b_digestOf) (nI x))
    (h : post (nI (a + rc_sm (fun x => if ¬ b_varCell x = 0 ∧ b_varNum x = nI sn ∧ rt x = true then 1 else 0) (N * 12))) (g_cap, g_most, g_functions, g_open, g_stored, g_scope, g_state, g_bits, nI N, g_steps, g_fresh, g_reused, g_peak, g_resultCell, g_resultNum, nI sn, b_firstOf, b_arityOf, b_maskOf, b_kindOf, b_numOf, b_scopeOf, b_aOf, b_bOf, b_cur, b_spare, b_varCell, b_varNum, b_borrowed, b_tagOf, b_fieldCell, b_fieldNum, b_marked, b_digestOf)) :
    ∀ (k m x : Nat), x + k = N * 12 → k < m → wY_holders_126 post g_cap g_most g_functions g_open g_stored g_scope g_state g_bits (nI N) g_steps g_fresh g_reused g_peak g_resultCell g_resultNum (nI sn) b_firstOf b_arityOf b_maskOf b_kindOf b_numOf b_scopeOf b_aOf b_bOf b_cur b_spare b_varCell b_varNum b_borrowed b_tagOf b_fieldCell b_fieldNum b_marked b_digestOf m (nI (a + rc_sm (fun x => if ¬ b_varCell x = 0 ∧ b_varNum x = nI sn ∧ rt x = true then 1 else 0) x)) (nI x) := by
  intro k
  induction k with
  | zero =>
    intro m x hx hm
    obtain ⟨m, rfl⟩ : ∃ q, m = q + 1 := ⟨m - 1, by omega⟩
    have : x = N * 12 := by omega
    subst this
    exact br_t (by rw [show (12 : Int32) = nI 12 from rfl, pk_mul]; exact Int32.le_refl _) h
  | succ k ih =>
    intro m x hx hm
    obtain ⟨m, rfl⟩ : ∃ q, m = q + 1 := ⟨m - 1, by omega⟩
    have ihn := ih m (x + 1) (by omega) (by omega)
    have e1 : rc_sm (fun x => if ¬ b_varCell x = 0 ∧ b_varNum x = nI sn ∧ rt x = true then 1 else 0) (x + 1) = rc_sm (fun x => if ¬ b_varCell x = 0 ∧ b_varNum x = nI sn ∧ rt x = true then 1 else 0) x + (if ¬ b_varCell x = 0 ∧ b_varNum x = nI sn ∧ rt x = true then 1 else 0) := rfl
    have skip : ¬ (¬ b_varCell x = 0 ∧ b_varNum x = nI sn ∧ rt x = true) → wY_holders_126 post g_cap g_most g_functions g_open g_stored g_scope g_state g_bits (nI N) g_steps g_fresh g_reused g_peak g_resultCell g_resultNum (nI sn) b_firstOf b_arityOf b_maskOf b_kindOf b_numOf b_scopeOf b_aOf b_bOf b_cur b_spare b_varCell b_varNum b_borrowed b_tagOf b_fieldCell b_fieldNum b_marked b_digestOf m (nI (a + rc_sm (fun x => if ¬ b_varCell x = 0 ∧ b_varNum x = nI sn ∧ rt x = true then 1 else 0) x)) (nI (x + 1)) := fun z => by
      rw [e1, if_neg z] at ihn; exact ihn
    refine br_f (by rw [show (12 : Int32) = nI 12 from rfl, pk_mul]; exact nI_ge (by omega) (by omega)) ⟨vp_in_nI (by omega) (by omega), ?_⟩
    rw [nI_clamp (show x < 2 ^ 31 by omega)]
    refine br_c (fun z => nm_r (nI_1 x) (skip (fun q => q.1 z))) (fun z => ⟨vp_in_nI (by omega) (by omega), br_c (fun w => ?_) (fun w => nm_r (nI_1 x) (skip (fun q => w q.2.1)))⟩)
    refine hW x _ (by omega) ?_
    cases hr : rt x
    · exact br_t rfl (nm_r (nI_1 x) (skip (fun q => by rw [hr] at q; exact absurd q.2.2 (by decide))))
    · refine br_f (by decide) (nm_r (nI_1 _) (nm_r (nI_1 x) ?_))
      rw [e1, if_pos ⟨z, w, hr⟩] at ihn
      exact ihn
theorem yh_70 {post : Int32 → SY → Prop} {N : Nat} {rt : Nat → Bool} {sn : Nat} {a : Nat} (hN : N ≤ 20)
    (hW : ∀ x (Q : Int32 → Prop), x < N * 12 → Q (rc_b (rt x)) → wpY_holds Q (g_cap, g_most, g_functions, g_open, g_stored, g_scope, g_state, g_bits, nI N, g_steps, g_fresh, g_reused, g_peak, g_resultCell, g_resultNum, nI sn, b_firstOf, b_arityOf, b_maskOf, b_kindOf, b_numOf, b_scopeOf, b_aOf, b_bOf, b_cur, b_spare, b_varCell, b_varNum, b_borrowed, b_tagOf, b_fieldCell, b_fieldNum, b_marked, b_digestOf) (nI x))
    (h : post (nI (a + rc_sm (fun x => if ¬ b_marked (x / 2) = 0 ∧ ¬ b_fieldCell x = 0 ∧ b_fieldNum x = nI sn then 1 else 0) 320 + rc_sm (fun x => if ¬ b_varCell x = 0 ∧ b_varNum x = nI sn ∧ rt x = true then 1 else 0) (N * 12))) (g_cap, g_most, g_functions, g_open, g_stored, g_scope, g_state, g_bits, nI N, g_steps, g_fresh, g_reused, g_peak, g_resultCell, g_resultNum, nI sn, b_firstOf, b_arityOf, b_maskOf, b_kindOf, b_numOf, b_scopeOf, b_aOf, b_bOf, b_cur, b_spare, b_varCell, b_varNum, b_borrowed, b_tagOf, b_fieldCell, b_fieldNum, b_marked, b_digestOf)) :
    ∀ (k m x : Nat), x + k = 320 → k < m → wY_holders_70 post g_cap g_most g_functions g_open g_stored g_scope g_state g_bits (nI N) g_steps g_fresh g_reused g_peak g_resultCell g_resultNum (nI sn) b_firstOf b_arityOf b_maskOf b_kindOf b_numOf b_scopeOf b_aOf b_bOf b_cur b_spare b_varCell b_varNum b_borrowed b_tagOf b_fieldCell b_fieldNum b_marked b_digestOf m (nI (a + rc_sm (fun x => if ¬ b_marked (x / 2) = 0 ∧ ¬ b_fieldCell x = 0 ∧ b_fieldNum x = nI sn then 1 else 0) x)) (nI x) := by
  intro k
  induction k with
  | zero =>
    intro m x hx hm
    obtain ⟨m, rfl⟩ : ∃ q, m = q + 1 := ⟨m - 1, by omega⟩
    have : x = 320 := by omega
    subst this
    exact br_t (Int32.le_refl _) ⟨N * 12 + 1, yh_126 hN hW h (N * 12) (N * 12 + 1) 0 (by omega) (by omega)⟩
  | succ k ih =>
    intro m x hx hm
    obtain ⟨m, rfl⟩ : ∃ q, m = q + 1 := ⟨m - 1, by omega⟩
    have ihn := ih m (x + 1) (by omega) (by omega)
    have e1 : rc_sm (fun x => if ¬ b_marked (x / 2) = 0 ∧ ¬ b_fieldCell x = 0 ∧ b_fieldNum x = nI sn then 1 else 0) (x + 1) = rc_sm (fun x => if ¬ b_marked (x / 2) = 0 ∧ ¬ b_fieldCell x = 0 ∧ b_fieldNum x = nI sn then 1 else 0) x + (if ¬ b_marked (x / 2) = 0 ∧ ¬ b_fieldCell x = 0 ∧ b_fieldNum x = nI sn then 1 else 0) := rfl
    have skip : ¬ (¬ b_marked (x / 2) = 0 ∧ ¬ b_fieldCell x = 0 ∧ b_fieldNum x = nI sn) → wY_holders_70 post g_cap g_most g_functions g_open g_stored g_scope g_state g_bits (nI N) g_steps g_fresh g_reused g_peak g_resultCell g_resultNum (nI sn) b_firstOf b_arityOf b_maskOf b_kindOf b_numOf b_scopeOf b_aOf b_bOf b_cur b_spare b_varCell b_varNum b_borrowed b_tagOf b_fieldCell b_fieldNum b_marked b_digestOf m (nI (a + rc_sm (fun x => if ¬ b_marked (x / 2) = 0 ∧ ¬ b_fieldCell x = 0 ∧ b_fieldNum x = nI sn then 1 else 0) x)) (nI (x + 1)) := fun z => by
      rw [e1, if_neg z] at ihn; exact ihn
    refine br_f (nI_ge (b := 320) (by omega) (by omega)) ⟨by decide, ?_⟩
    rw [ym_half (by omega), nI_clamp (show x / 2 < 2 ^ 31 by omega)]
    refine ⟨vp_in_nI (by omega) (by omega), br_c (fun z => nm_r (nI_1 x) (skip (fun q => q.1 z))) (fun z => ⟨vp_in_nI (by omega) (by omega), ?_⟩)⟩
    rw [nI_clamp (show x < 2 ^ 31 by omega)]
    refine br_c (fun w => nm_r (nI_1 x) (skip (fun q => q.2.1 w))) (fun w => ⟨vp_in_nI (by omega) (by omega), br_c (fun y => nm_r (nI_1 _) (nm_r (nI_1 x) ?_)) (fun y => nm_r (nI_1 x) (skip (fun q => y q.2.2)))⟩)
    rw [e1, if_pos ⟨z, w, y⟩] at ihn
    exact ihn
end
theorem i_vc_holders {k : Nat} {u : SX} {v : SY} (I : i_Rel k u v) (hk : k + 5 ≤ 2562) (v1 : Int32) (v2 : Int32) (v3 : Int32) : wpX_holders (fun r => wpY_holders (fun r' v' => r' = r ∧ i_Rel (k + 5) u v') v v1 v2 v3) u v1 v2 v3 := by
  refine zz_el (P := fun u v => wpX_holders (fun r => wpY_holders (fun r' v' => r' = r ∧ i_Rel (k + 5) u v') v v1 v2 v3) u v1 v2 v3) ?_ u v I
  intro f_codeNum f_codeOp f_codeCon f_codeCall f_codeMatch f_codeIfZero f_codeRet f_cellBase f_unseen f_capacity f_depth f_complete f_open f_stored f_scope f_borrowedNow f_pending f_liveCells f_frames f_spareTotal f_state f_borrowing f_reusing f_keeping f_result f_steps f_fresh f_reused f_peak a_arities a_masks a_starts a_codes a_extras a_lefts a_rights a_scopes a_uses a_borrowed a_lends a_others a_frees a_afters a_builds a_pendingAt a_tags a_firsts a_seconds a_digests a_counts a_places a_work a_marks a_variables a_currents a_held a_spareCounts g_bits g_resultCell g_resultNum g_seen b_aOf b_bOf b_spare b_varCell b_varNum b_borrowed b_tagOf b_fieldCell b_fieldNum b_marked b_digestOf F
  have J : ∀ sn mk, i_Rel (k + 5) (f_codeNum, f_codeOp, f_codeCon, f_codeCall, f_codeMatch, f_codeIfZero, f_codeRet, f_cellBase, f_unseen, f_capacity, f_depth, f_complete, f_open, f_stored, f_scope, f_borrowedNow, f_pending, f_liveCells, f_frames, f_spareTotal, f_state, f_borrowing, f_reusing, f_keeping, f_result, f_steps, f_fresh, f_reused, f_peak, a_arities, a_masks, a_starts, a_codes, a_extras, a_lefts, a_rights, a_scopes, a_uses, a_borrowed, a_lends, a_others, a_frees, a_afters, a_builds, a_pendingAt, a_tags, a_firsts, a_seconds, a_digests, a_counts, a_places, a_work, a_marks, a_variables, a_currents, a_held, a_spareCounts) (f_capacity, f_depth, f_complete, f_open, f_stored, f_scope, f_state, g_bits, f_frames, f_steps, f_fresh, f_reused, f_peak, g_resultCell, g_resultNum, sn, a_starts, a_arities, a_masks, a_codes, a_extras, a_scopes, b_aOf, b_bOf, a_currents, b_spare, b_varCell, b_varNum, b_borrowed, b_tagOf, b_fieldCell, b_fieldNum, mk, b_digestOf) := fun sn mk => zz_in F
  obtain ⟨sc, bw, cm, b, st, p, cu, sg, rk, sp, L, n, lv, cp, dp, T, R⟩ := F
  have R0 := R
  obtain ⟨-, r5, r6, -, F, V, B, Q, Is, Y, M, Lv, S, SS⟩ := R
  have hn20 := F.1
  unfold wpX_holders
  rcases sv_see (g_seen := g_seen) (b_marked := b_marked) (b_digestOf := b_digestOf) v1 v2 v3 T.2.2.2.2.1 R0.2.2.2.2 T.2.2.1 T.2.2.2.1 T.2.1 R0.2.2.1 with ⟨hX, hY⟩ | ⟨w, cl, nm, hv, hX, hY⟩
  · refine hX _ (xw_isN (by decide) (br_t rfl ?_))
    unfold wpY_holders
    exact hY _ (fun sn => br_f (by decide) ⟨rfl, J sn _⟩)
  · refine hX _ ?_
    rcases hv with ⟨u1, u2⟩ | ⟨u1, c, hc, hL, u2, u3⟩
    · refine xw_isN (by rw [u2]; exact rc_nv_lt _) (br_t rfl ?_)
      unfold wpY_holders
      exact hY _ (fun _ => br_f (by decide) ⟨rfl, J _ _⟩) (fun z => absurd u1 z)
    · rw [u2]
      have b2 := M.2.2.2.2.2.1
      refine xw_isC hc (br_f (by decide) (br_c (fun hk0 => xw_cellOf hc ⟨vp_in_nI hc (by omega), ?_⟩) (fun hk0 => ?_)))
      · rw [nI_clamp (show c < 2 ^ 31 by omega)]
        unfold wpY_holders
        refine hY _ (fun z => by rw [u1] at z; exact absurd z (by decide)) (fun _ => br_t rfl (br_t (yw_and4.mpr (by rw [b2, decide_eq_true hk0]; rfl)) ?_))
        -- a state of its own
        have hs0 : ¬ f_state = 0 := fun z => by
          have hn0 := SS.2.1 (Or.inl z)
          have := rr_reach (P := fun _ => False) (N := rc_sm rk 160 + 1) (Lv.2.2.2.1 hk0) (fun c hc hL => (Is.1 c hc hL).2.2.2.2.2) (fun c hc _ => by have := rc_sm_ge (f := rk) (x := c) 160 hc; omega) (fun q hq hL h => by
            rcases h with ⟨x, hx, hH, -⟩ | h
            · have := (xr_Hn hH).1; omega
            · unfold xr_E at h
              rw [z, if_neg (by decide)] at h; omega) (fun d hd hL h => h.elim) c hc hL
          exact this
        have hD := hp_dead ((S hs0).1 hk0) hc
        have hs160 : ∀ c, c < 160 → L c = true → sg c < 160 := fun c hc hL => (Is.1 c hc hL).1
        have hsc := hs160 c hc hL
        rw [hD.1]
        rw [u3]
        have hst := T.2.1
        -- the sums
        have eV : rc_sm (fun x => if ¬ b_varCell x = 0 ∧ b_varNum x = nI (sg c) ∧ xr_H n a_held x = true then 1 else 0) (n * 12) = rc_sm (fun x => if xr_H n a_held x = true then rc_d (a_variables x) c else 0) 240 := by
          rw [rc_sm_ext (f := fun x => if xr_H n a_held x = true then rc_d (a_variables x) c else 0) (k := n * 12) 240 (by omega) (fun x hx => if_neg (fun z => by have := (xr_Hn z).1; omega))]
          refine rc_sm_eq (n * 12) (fun x hx => ?_)
          by_cases hH : xr_H n a_held x = true
          · rw [if_pos hH]
            have hvr : rc_vr L sg (a_variables x) (b_varCell x) (b_varNum x) := by
              have h2 := (xr_Hn hH).2
              rw [(F.2 (x / 12) (by omega)).2.2.2, rr_hb (by omega)] at h2
              have := V (x / 12) (x % 12) (by omega) (by omega) (by
                cases q : bt (rr_need a_frees a_afters cu n (x / 12)) (x % 12)
                · rw [q, Bool.false_and, Bool.false_or] at h2
                  rw [h2, Bool.or_true]
                · rfl)
              rw [show x / 12 * 12 + x % 12 = x by omega] at this
              exact this
            have hi := rc_vr_i hvr hc hL hs160 Is.2
            unfold rc_d
            by_cases z : a_variables x = rc_cv c
            · rw [if_pos z, if_pos ⟨(hi.mpr z).1, (hi.mpr z).2, hH⟩]
            · rw [if_neg z, if_neg (fun q => z (hi.mp ⟨q.1, q.2.1⟩))]
          · rw [if_neg hH, if_neg (fun q => hH q.2.2)]
        have eF : ∀ mk : Nat → Int32, (∀ c, c < 160 → mk c = rc_b (ym_G L sg c)) → rc_sm (fun x => if ¬ mk (x / 2) = 0 ∧ ¬ b_fieldCell x = 0 ∧ b_fieldNum x = nI (sg c) then 1 else 0) 320 = rc_sm (fun d => if L d = true then rc_d (a_firsts d) c + rc_d (a_seconds d) c else 0) 160 := by
          intro mk hmk
          rw [show (320 : Nat) = 2 * 160 from rfl, rc_sm_two 160]
          have e1 : rc_sm (fun i => (if ¬ mk (2 * i / 2) = 0 ∧ ¬ b_fieldCell (2 * i) = 0 ∧ b_fieldNum (2 * i) = nI (sg c) then 1 else 0) + (if ¬ mk ((2 * i + 1) / 2) = 0 ∧ ¬ b_fieldCell (2 * i + 1) = 0 ∧ b_fieldNum (2 * i + 1) = nI (sg c) then 1 else 0)) 160 =
              rc_sm (fun c' => if ym_G L sg c' = true then (if ¬ b_fieldCell (2 * c') = 0 ∧ b_fieldNum (2 * c') = nI (sg c) then 1 else 0) + (if ¬ b_fieldCell (2 * c' + 1) = 0 ∧ b_fieldNum (2 * c' + 1) = nI (sg c) then 1 else 0) else 0) 160 := rc_sm_eq 160 (fun i hi => by
            rw [show 2 * i / 2 = i by omega, show (2 * i + 1) / 2 = i by omega, hmk i hi]
            cases q : ym_G L sg i
            · rw [if_neg (fun z => z.1 rfl), if_neg (fun z => z.1 rfl), if_neg Bool.false_ne_true]
            · have ht : ¬ rc_b true = 0 := by decide
              rw [if_pos rfl]
              by_cases z0 : ¬ b_fieldCell (2 * i) = 0 ∧ b_fieldNum (2 * i) = nI (sg c)
              · rw [if_pos ⟨ht, z0⟩, if_pos z0]
                by_cases z1 : ¬ b_fieldCell (2 * i + 1) = 0 ∧ b_fieldNum (2 * i + 1) = nI (sg c)
                · rw [if_pos ⟨ht, z1⟩, if_pos z1]
                · rw [if_neg (fun y => z1 y.2), if_neg z1]
              · rw [if_neg (fun y => z0 y.2), if_neg z0]
                by_cases z1 : ¬ b_fieldCell (2 * i + 1) = 0 ∧ b_fieldNum (2 * i + 1) = nI (sg c)
                · rw [if_pos ⟨ht, z1⟩, if_pos z1]
                · rw [if_neg (fun y => z1 y.2), if_neg z1])
          rw [e1, rc_sm_map (M := ym_G L sg) (L := L) (s := sg) (g := fun c' => (if ¬ b_fieldCell (2 * c') = 0 ∧ b_fieldNum (2 * c') = nI (sg c) then 1 else 0) + (if ¬ b_fieldCell (2 * c' + 1) = 0 ∧ b_fieldNum (2 * c' + 1) = nI (sg c) then 1 else 0)) (fun c hc hL => ⟨hs160 c hc hL, ym_Gs hc hL⟩) Is.2 (fun c' _ h => ym_Gi.mp h)]
          refine rc_sm_eq 160 (fun d hd => ?_)
          by_cases hLd : L d = true
          · rw [if_pos hLd, if_pos hLd]
            obtain ⟨i1, i2, i3, i4, -⟩ := Is.1 d hd hLd
            have h3 := rc_vr_i i3 hc hL hs160 Is.2
            have h4 := rc_vr_i i4 hc hL hs160 Is.2
            unfold rc_d
            by_cases z3 : a_firsts d = rc_cv c
            · rw [if_pos z3, if_pos (h3.mpr z3)]
              by_cases z4 : a_seconds d = rc_cv c
              · rw [if_pos z4, if_pos (h4.mpr z4)]
              · rw [if_neg z4, if_neg (fun q => z4 (h4.mp q))]
            · rw [if_neg z3, if_neg (fun q => z3 (h3.mp q))]
              by_cases z4 : a_seconds d = rc_cv c
              · rw [if_pos z4, if_pos (h4.mpr z4)]
              · rw [if_neg z4, if_neg (fun q => z4 (h4.mp q))]
          · rw [if_neg hLd, if_neg hLd]
        have fin : ∀ mk a, (∀ c, c < 160 → mk c = rc_b (ym_G L sg c)) → a = xr_E f_state f_result c → ∃ m, wY_holders_70 (fun r' v' => r' = nI (hp_K L a_firsts a_seconds a_variables (xr_H n a_held) (xr_E f_state f_result) c) ∧ i_Rel (k + 5) (f_codeNum, f_codeOp, f_codeCon, f_codeCall, f_codeMatch, f_codeIfZero, f_codeRet, f_cellBase, f_unseen, f_capacity, f_depth, f_complete, f_open, f_stored, f_scope, f_borrowedNow, f_pending, f_liveCells, f_frames, f_spareTotal, f_state, f_borrowing, f_reusing, f_keeping, f_result, f_steps, f_fresh, f_reused, f_peak, a_arities, a_masks, a_starts, a_codes, a_extras, a_lefts, a_rights, a_scopes, a_uses, a_borrowed, a_lends, a_others, a_frees, a_afters, a_builds, a_pendingAt, a_tags, a_firsts, a_seconds, a_digests, a_counts, a_places, a_work, a_marks, a_variables, a_currents, a_held, a_spareCounts) v') f_capacity f_depth f_complete f_open f_stored f_scope f_state g_bits f_frames f_steps f_fresh f_reused f_peak g_resultCell g_resultNum (nI (sg c)) a_starts a_arities a_masks a_codes a_extras a_scopes b_aOf b_bOf a_currents b_spare b_varCell b_varNum b_borrowed b_tagOf b_fieldCell b_fieldNum mk b_digestOf m (nI a) 0 := by
          intro mk a hmk ea
          refine ⟨321, ?_⟩
          have J2 := J (nI (sg c)) mk
          rw [hst, r6] at J2 ⊢
          have hend : (fun r' v' => r' = nI (hp_K L a_firsts a_seconds a_variables (xr_H n a_held) (xr_E f_state f_result) c) ∧ i_Rel (k + 5) (f_codeNum, f_codeOp, f_codeCon, f_codeCall, f_codeMatch, f_codeIfZero, f_codeRet, f_cellBase, f_unseen, f_capacity, f_depth, f_complete, f_open, nI st, f_scope, f_borrowedNow, f_pending, f_liveCells, nI n, f_spareTotal, f_state, f_borrowing, f_reusing, f_keeping, f_result, f_steps, f_fresh, f_reused, f_peak, a_arities, a_masks, a_starts, a_codes, a_extras, a_lefts, a_rights, a_scopes, a_uses, a_borrowed, a_lends, a_others, a_frees, a_afters, a_builds, a_pendingAt, a_tags, a_firsts, a_seconds, a_digests, a_counts, a_places, a_work, a_marks, a_variables, a_currents, a_held, a_spareCounts) v') (nI (a + rc_sm (fun x => if ¬ mk (x / 2) = 0 ∧ ¬ b_fieldCell x = 0 ∧ b_fieldNum x = nI (sg c) then 1 else 0) 320 + rc_sm (fun x => if ¬ b_varCell x = 0 ∧ b_varNum x = nI (sg c) ∧ xr_H n a_held x = true then 1 else 0) (n * 12))) (f_capacity, f_depth, f_complete, f_open, nI st, f_scope, f_state, g_bits, nI n, f_steps, f_fresh, f_reused, f_peak, g_resultCell, g_resultNum, nI (sg c), a_starts, a_arities, a_masks, a_codes, a_extras, a_scopes, b_aOf, b_bOf, a_currents, b_spare, b_varCell, b_varNum, b_borrowed, b_tagOf, b_fieldCell, b_fieldNum, mk, b_digestOf) := by
            refine ⟨congrArg nI ?_, J2⟩
            rw [eF mk hmk, eV, ea]
            unfold hp_K
            omega
          exact yh_70 (b_marked := mk) (rt := xr_H n a_held) hn20 (fun x Q' hx hQ => by
            obtain ⟨f, v, hv, rfl⟩ : ∃ f v, v < 12 ∧ x = f * 12 + v := ⟨x / 12, x % 12, by omega, by omega⟩
            refine yr_holds T.2.2.2.2.1 F B M.2.2.2.1 T.2.2.1 T.2.2.2.1 (by omega) hv ?_
            rw [← xr_Hx (n := n) (by omega) hv]; exact hQ) hend 320 321 0 (by omega) (by omega)
        have e0 : ¬ f_state = 2 → (0 : Nat) = xr_E f_state f_result c := fun z => by unfold xr_E; rw [if_neg z]
        have KK := R0.2.2.2.2
        have mkr : ∀ Q' : Int32 → SY → Prop, (∀ mk, (∀ c, c < 160 → mk c = rc_b (ym_G L sg c)) → Q' (nI lv) (f_capacity, f_depth, f_complete, f_open, f_stored, f_scope, f_state, g_bits, f_frames, f_steps, f_fresh, f_reused, f_peak, g_resultCell, g_resultNum, nI (sg c), a_starts, a_arities, a_masks, a_codes, a_extras, a_scopes, b_aOf, b_bOf, a_currents, b_spare, b_varCell, b_varNum, b_borrowed, b_tagOf, b_fieldCell, b_fieldNum, mk, b_digestOf)) → wpY_mark Q' (f_capacity, f_depth, f_complete, f_open, f_stored, f_scope, f_state, g_bits, f_frames, f_steps, f_fresh, f_reused, f_peak, g_resultCell, g_resultNum, nI (sg c), a_starts, a_arities, a_masks, a_codes, a_extras, a_scopes, b_aOf, b_bOf, a_currents, b_spare, b_varCell, b_varNum, b_borrowed, b_tagOf, b_fieldCell, b_fieldNum, b_marked, b_digestOf) 1 := fun Q' hQ => by
          rw [hst, r6] at hQ ⊢
          exact yk_mark (g_seen := nI (sg c)) T.2.2.2.2.1 KK T.2.2.1 T.2.2.2.1 hQ
        refine mkr _ (fun mk hmk => ?_)
        refine br_c (fun s2 => ?_) (fun s2 => fin mk 0 hmk (e0 s2))
        have hvr := SS.2.2.2.1 s2
        have hi := rc_vr_i hvr hc hL hs160 Is.2
        have e2 : xr_E f_state f_result c = if f_result = rc_cv c then 1 else 0 := by unfold xr_E rc_d; rw [if_pos s2]
        refine br_c (fun z => fin mk 0 hmk ?_) (fun z => br_c (fun y => fin mk 1 hmk ?_) (fun y => fin mk 0 hmk ?_))
        · rw [e2, if_neg (fun q => (hi.mpr q).1 z)]
        · rw [e2, if_pos (hi.mp ⟨z, y⟩)]
        · rw [e2, if_neg (fun q => y (hi.mpr q).2)]
      · unfold wpY_holders
        refine hY _ (fun z => by rw [u1] at z; exact absurd z (by decide)) (fun _ => br_t rfl (br_f (fun z => ?_) ⟨rfl, J _ _⟩))
        rw [yw_and4, b2, decide_eq_false hk0] at z
        exact absurd z (by decide)
end
section
/-! ===== reachable ===== -/
def xm_Q (Mk wk : Nat → Int32) (tail : Nat) : Prop :=
  ym_m Mk ∧ tail = ym_n Mk ∧ (∀ c, c < 160 → ¬ Mk c = 0 → ∃ j, j < tail ∧ wk j = nI c) ∧ (∀ j, j < tail → ∃ c, c < 160 ∧ wk j = nI c ∧ ¬ Mk c = 0)
section
variable {f_codeNum f_codeOp f_codeCon f_codeCall f_codeMatch f_codeIfZero f_codeRet : Int32} {f_cellBase f_unseen : Int64} {f_capacity f_depth f_complete f_open f_stored f_scope f_borrowedNow f_pending f_liveCells f_frames f_spareTotal f_state f_borrowing f_reusing f_keeping : Int32} {f_result : Int64} {f_steps f_fresh f_reused f_peak : Int32} {a_arities a_masks a_starts a_codes a_extras a_lefts a_rights a_scopes a_uses a_borrowed a_lends a_others a_frees a_afters a_builds a_pendingAt a_tags : Nat → Int32} {a_firsts a_seconds : Nat → Int64} {a_digests a_counts a_places a_work a_marks : Nat → Int32} {a_variables : Nat → Int64} {a_currents a_held a_spareCounts : Nat → Int32}
theorem xm_mark {post : Int32 → SX → Prop} {Mk wk : Nat → Int32} {tail : Nat} {v : Int64} (hq : xm_Q Mk wk tail) (hv : rc_gv v)
    (hp : ∀ Mk' wk' tail', xm_Q Mk' wk' tail' → (∀ c, ¬ Mk c = 0 → ¬ Mk' c = 0) → (∀ c, c < 160 → v = rc_cv c → ¬ Mk' c = 0) → (∀ c, c < 160 → ¬ Mk' c = 0 → ¬ Mk c = 0 ∨ v = rc_cv c) → (∀ j, j < tail → wk' j = wk j) → tail ≤ tail' → post (nI tail') (f_codeNum, f_codeOp, f_codeCon, f_codeCall, f_codeMatch, f_codeIfZero, f_codeRet, f_cellBase, f_unseen, f_capacity, f_depth, f_complete, f_open, f_stored, f_scope, f_borrowedNow, f_pending, f_liveCells, f_frames, f_spareTotal, f_state, f_borrowing, f_reusing, f_keeping, f_result, f_steps, f_fresh, f_reused, f_peak, a_arities, a_masks, a_starts, a_codes, a_extras, a_lefts, a_rights, a_scopes, a_uses, a_borrowed, a_lends, a_others, a_frees, a_afters, a_builds, a_pendingAt, a_tags, a_firsts, a_seconds, a_digests, a_counts, a_places, wk', Mk', a_variables, a_currents, a_held, a_spareCounts)) :
    wpX_mark post (f_codeNum, f_codeOp, f_codeCon, f_codeCall, f_codeMatch, f_codeIfZero, f_codeRet, f_cellBase, f_unseen, f_capacity, f_depth, f_complete, f_open, f_stored, f_scope, f_borrowedNow, f_pending, f_liveCells, f_frames, f_spareTotal, f_state, f_borrowing, f_reusing, f_keeping, f_result, f_steps, f_fresh, f_reused, f_peak, a_arities, a_masks, a_starts, a_codes, a_extras, a_lefts, a_rights, a_scopes, a_uses, a_borrowed, a_lends, a_others, a_frees, a_afters, a_builds, a_pendingAt, a_tags, a_firsts, a_seconds, a_digests, a_counts, a_places, wk, Mk, a_variables, a_currents, a_held, a_spareCounts) v (nI tail) := by
  unfold wpX_mark
  (try dsimp only)
  rcases hv with hv | ⟨c, hc, rfl⟩
  · exact xw_isN hv (br_t rfl (hp Mk wk tail hq (fun _ h => h) (fun c hc e => absurd hv (by rw [e]; exact rc_cv_ge (by omega))) (fun c _ h => Or.inl h) (fun _ _ => rfl) (Nat.le_refl _)))
  · obtain ⟨q1, q2, q3, q4⟩ := hq
    refine xw_isC hc (br_f (by decide) (xw_cellOf hc ⟨vp_in_nI hc (by omega), ?_⟩))
    rw [nI_clamp (show c < 2 ^ 31 by omega)]
    refine br_c (fun z => ⟨vp_in_nI hc (by omega), nm_r (e' := upd Mk c 1) (by rw [rc_nar1]) ?_⟩) (fun z => hp Mk wk tail ⟨q1, q2, q3, q4⟩ (fun _ h => h) (fun d hd e => by rw [← rc_cv_inj (by omega) (by omega) e]; exact z) (fun c _ h => Or.inl h) (fun _ _ => rfl) (Nat.le_refl _))
    have hn := ym_nu hc z
    have hle := ym_nle (upd Mk c 1)
    refine ⟨vp_in_nI (by omega) (by omega), nm_e ?_⟩
    rw [nI_1, nI_clamp (show tail < 2 ^ 31 by omega)]
    refine hp (upd Mk c 1) (upd wk tail (nI c)) (tail + 1) ⟨ym_mu q1 (Or.inr rfl), by omega, fun d hd h => ?_, fun j hj => ?_⟩ (fun d h => ?_) (fun d hd e => ?_) (fun d hd h => ?_) (fun j hj => pk_un (by omega)) (by omega)
    · by_cases e : d = c
      · exact ⟨tail, by omega, by rw [pk_us, e]⟩
      · rw [pk_un e] at h
        obtain ⟨j, j1, j2⟩ := q3 d hd h
        exact ⟨j, by omega, by rw [pk_un (by omega)]; exact j2⟩
    · by_cases e : j = tail
      · exact ⟨c, hc, by rw [e, pk_us], by rw [pk_us]; decide⟩
      · obtain ⟨d, d1, d2, d3⟩ := q4 j (by omega)
        refine ⟨d, d1, by rw [pk_un e]; exact d2, ?_⟩
        by_cases e2 : d = c
        · rw [e2, pk_us]; decide
        · rw [pk_un e2]; exact d3
    · by_cases e : d = c
      · rw [e, pk_us]; decide
      · rw [pk_un e]; exact h
    · rw [← rc_cv_inj (by omega) (by omega) e, pk_us]; decide
    · by_cases e : d = c
      · rw [e]; exact Or.inr rfl
      · rw [pk_un e] at h; exact Or.inl h
/-- the breadth-first loop -/
theorem xm_109 {post : Int32 → SX → Prop} {P : Nat → Prop} (hg : ∀ d, d < 160 → P d → rc_gv (a_firsts d) ∧ rc_gv (a_seconds d)) (hcl : ∀ d, d < 160 → P d → ∀ q, q < 160 → (a_firsts d = rc_cv q ∨ a_seconds d = rc_cv q) → P q)
    {M0 : Nat → Int32}
    (hp : ∀ Mk wk tail, xm_Q Mk wk tail → (∀ c, ¬ M0 c = 0 → ¬ Mk c = 0) → (∀ c, c < 160 → ¬ Mk c = 0 → P c) → (∀ d, d < 160 → ¬ Mk d = 0 → ∀ q, q < 160 → (a_firsts d = rc_cv q ∨ a_seconds d = rc_cv q) → ¬ Mk q = 0) → post (nI tail) (f_codeNum, f_codeOp, f_codeCon, f_codeCall, f_codeMatch, f_codeIfZero, f_codeRet, f_cellBase, f_unseen, f_capacity, f_depth, f_complete, f_open, f_stored, f_scope, f_borrowedNow, f_pending, f_liveCells, f_frames, f_spareTotal, f_state, f_borrowing, f_reusing, f_keeping, f_result, f_steps, f_fresh, f_reused, f_peak, a_arities, a_masks, a_starts, a_codes, a_extras, a_lefts, a_rights, a_scopes, a_uses, a_borrowed, a_lends, a_others, a_frees, a_afters, a_builds, a_pendingAt, a_tags, a_firsts, a_seconds, a_digests, a_counts, a_places, wk, Mk, a_variables, a_currents, a_held, a_spareCounts)) :
    ∀ (k m h : Nat) (Mk wk : Nat → Int32) (tail : Nat), h + k = 161 → k < m → xm_Q Mk wk tail → (∀ c, ¬ M0 c = 0 → ¬ Mk c = 0) → (∀ c, c < 160 → ¬ Mk c = 0 → P c) →
      (∀ j, j < h → j < tail → ∀ d, d < 160 → wk j = nI d → ∀ q, q < 160 → (a_firsts d = rc_cv q ∨ a_seconds d = rc_cv q) → ¬ Mk q = 0) → wX_reachable_109 post m (nI tail) (nI h) f_codeNum f_codeOp f_codeCon f_codeCall f_codeMatch f_codeIfZero f_codeRet f_cellBase f_unseen f_capacity f_depth f_complete f_open f_stored f_scope f_borrowedNow f_pending f_liveCells f_frames f_spareTotal f_state f_borrowing f_reusing f_keeping f_result f_steps f_fresh f_reused f_peak a_arities a_masks a_starts a_codes a_extras a_lefts a_rights a_scopes a_uses a_borrowed a_lends a_others a_frees a_afters a_builds a_pendingAt a_tags a_firsts a_seconds a_digests a_counts a_places wk Mk a_variables a_currents a_held a_spareCounts := by
  intro k
  induction k with
  | zero =>
    intro m h Mk wk tail hh hm hq h0 hP hc
    obtain ⟨m, rfl⟩ : ∃ q, m = q + 1 := ⟨m - 1, by omega⟩
    have : tail ≤ 160 := by rw [hq.2.1]; exact ym_nle Mk
    refine br_t (nI_le (a := 160) (by omega) (by omega)) (hp Mk wk tail hq h0 hP (fun d hd hM q hq2 e => ?_))
    obtain ⟨j, j1, j2⟩ := hq.2.2.1 d hd hM
    exact hc j (by omega) j1 d hd j2 q hq2 e
  | succ k ih =>
    intro m h Mk wk tail hh hm hq h0 hP hc
    obtain ⟨m, rfl⟩ : ∃ q, m = q + 1 := ⟨m - 1, by omega⟩
    have ht : tail ≤ 160 := by rw [hq.2.1]; exact ym_nle Mk
    have done : tail ≤ h → post (nI tail) (f_codeNum, f_codeOp, f_codeCon, f_codeCall, f_codeMatch, f_codeIfZero, f_codeRet, f_cellBase, f_unseen, f_capacity, f_depth, f_complete, f_open, f_stored, f_scope, f_borrowedNow, f_pending, f_liveCells, f_frames, f_spareTotal, f_state, f_borrowing, f_reusing, f_keeping, f_result, f_steps, f_fresh, f_reused, f_peak, a_arities, a_masks, a_starts, a_codes, a_extras, a_lefts, a_rights, a_scopes, a_uses, a_borrowed, a_lends, a_others, a_frees, a_afters, a_builds, a_pendingAt, a_tags, a_firsts, a_seconds, a_digests, a_counts, a_places, wk, Mk, a_variables, a_currents, a_held, a_spareCounts) := fun hth => hp Mk wk tail hq h0 hP (fun d hd hM q hq2 e => by
      obtain ⟨j, j1, j2⟩ := hq.2.2.1 d hd hM
      exact hc j (by omega) j1 d hd j2 q hq2 e)
    by_cases h160 : 160 ≤ h
    · exact br_t (nI_le (a := 160) h160 (by omega)) (done (by omega))
    · refine br_f (nI_ge (b := 160) (by omega) (by omega)) ?_
      by_cases hth : tail ≤ h
      · exact br_t (nI_le hth (by omega)) (done hth)
      · refine br_f (nI_ge (by omega) (by omega)) ⟨vp_in_nI (by omega) (by omega), ?_⟩
        obtain ⟨d, d1, d2, d3⟩ := hq.2.2.2 h (by omega)
        rw [nI_clamp (show h < 2 ^ 31 by omega)]
        refine nm_r d2 ⟨vp_in_nI d1 (by omega), ?_⟩
        rw [nI_clamp (show d < 2 ^ 31 by omega)]
        have hPd := hP d d1 d3
        refine xm_mark hq (hg d d1 hPd).1 (fun Mk1 wk1 t1 q1 a1 a2 a3 a4 a5 => ⟨vp_in_nI d1 (by omega), ?_⟩)
        refine xm_mark q1 (hg d d1 hPd).2 (fun Mk2 wk2 t2 q2 b1 b2 b3 b4 b5 => nm_r (nI_1 h) ?_)
        refine ih m (h + 1) Mk2 wk2 t2 (by omega) (by omega) q2 (fun c hc0 => b1 c (a1 c (h0 c hc0))) (fun c hc0 hM => ?_) (fun j j1 j2 e he wj q hq2 hch => ?_)
        · rcases b3 c hc0 hM with z | z
          · rcases a3 c hc0 z with w | w
            · exact hP c hc0 w
            · exact hcl d d1 hPd c hc0 (Or.inl w)
          · exact hcl d d1 hPd c hc0 (Or.inr z)
        · have hjt : j < tail := by omega
          rw [b4 j (by omega), a4 j hjt] at wj
          by_cases ej : j = h
          · rw [ej, d2, nI_eq (by omega) (by omega)] at wj
            rw [← wj] at hch
            rcases hch with w | w
            · exact b1 q (a2 q hq2 w)
            · exact b2 q hq2 w
          · exact b1 q (a1 q (hc j (by omega) hjt e he wj q hq2 hch))
/-- one frame's needed variables -/
theorem xm_61 {post : Int32 → SX → Prop} {J : Int32 → Int32 → Int32 → Int32 → Int32 → Int32 → Int32 → Int32 → Int32 → Int64 → Int64 → Int32 → Int32 → Int32 → Int32 → Int32 → Int32 → Int32 → Int32 → Int32 → Int32 → Int32 → Int32 → Int32 → Int32 → Int32 → Int64 → Int32 → Int32 → Int32 → Int32 → (Nat → Int32) → (Nat → Int32) → (Nat → Int32) → (Nat → Int32) → (Nat → Int32) → (Nat → Int32) → (Nat → Int32) → (Nat → Int32) → (Nat → Int32) → (Nat → Int32) → (Nat → Int32) → (Nat → Int32) → (Nat → Int32) → (Nat → Int32) → (Nat → Int32) → (Nat → Int32) → (Nat → Int32) → (Nat → Int64) → (Nat → Int64) → (Nat → Int32) → (Nat → Int32) → (Nat → Int32) → (Nat → Int32) → (Nat → Int32) → (Nat → Int64) → (Nat → Int32) → (Nat → Int32) → (Nat → Int32) → Prop}
    {f : Nat} {x3 : Int32} (hf : f < 20) (hv : ∀ v, v < 12 → bt x3 v = true → rc_gv (a_variables (f * 12 + v))) {M0 : Nat → Int32}
    (hJ : ∀ Mk wk tail, xm_Q Mk wk tail → (∀ c, ¬ M0 c = 0 → ¬ Mk c = 0) → (∀ c, c < 160 → ¬ Mk c = 0 → ¬ M0 c = 0 ∨ ∃ v, v < 12 ∧ bt x3 v = true ∧ a_variables (f * 12 + v) = rc_cv c) → (∀ v c, v < 12 → c < 160 → bt x3 v = true → a_variables (f * 12 + v) = rc_cv c → ¬ Mk c = 0) → J (nI tail) (nI (f + 1)) f_codeNum f_codeOp f_codeCon f_codeCall f_codeMatch f_codeIfZero f_codeRet f_cellBase f_unseen f_capacity f_depth f_complete f_open f_stored f_scope f_borrowedNow f_pending f_liveCells f_frames f_spareTotal f_state f_borrowing f_reusing f_keeping f_result f_steps f_fresh f_reused f_peak a_arities a_masks a_starts a_codes a_extras a_lefts a_rights a_scopes a_uses a_borrowed a_lends a_others a_frees a_afters a_builds a_pendingAt a_tags a_firsts a_seconds a_digests a_counts a_places wk Mk a_variables a_currents a_held a_spareCounts) :
    ∀ (k m i : Nat) (Mk wk : Nat → Int32) (tail : Nat), i + k = 12 → k < m → xm_Q Mk wk tail → (∀ c, ¬ M0 c = 0 → ¬ Mk c = 0) → (∀ c, c < 160 → ¬ Mk c = 0 → ¬ M0 c = 0 ∨ ∃ v, v < 12 ∧ bt x3 v = true ∧ a_variables (f * 12 + v) = rc_cv c) →
      (∀ v c, v < i → c < 160 → bt x3 v = true → a_variables (f * 12 + v) = rc_cv c → ¬ Mk c = 0) → wX_reachable_61 post J (nI f) x3 m (nI tail) (nI i) f_codeNum f_codeOp f_codeCon f_codeCall f_codeMatch f_codeIfZero f_codeRet f_cellBase f_unseen f_capacity f_depth f_complete f_open f_stored f_scope f_borrowedNow f_pending f_liveCells f_frames f_spareTotal f_state f_borrowing f_reusing f_keeping f_result f_steps f_fresh f_reused f_peak a_arities a_masks a_starts a_codes a_extras a_lefts a_rights a_scopes a_uses a_borrowed a_lends a_others a_frees a_afters a_builds a_pendingAt a_tags a_firsts a_seconds a_digests a_counts a_places wk Mk a_variables a_currents a_held a_spareCounts := by
  intro k
  induction k with
  | zero =>
    intro m i Mk wk tail hi hm hq h0 hP hc
    obtain ⟨m, rfl⟩ : ∃ q, m = q + 1 := ⟨m - 1, by omega⟩
    have : i = 12 := by omega
    subst this
    exact br_t (Int32.le_refl _) (nm_r (nI_1 f) (hJ Mk wk tail hq h0 hP hc))
  | succ k ih =>
    intro m i Mk wk tail hi hm hq h0 hP hc
    obtain ⟨m, rfl⟩ : ∃ q, m = q + 1 := ⟨m - 1, by omega⟩
    refine br_f (nI_ge (b := 12) (by omega) (by omega)) ?_
    by_cases hb : bt x3 i = true
    · refine br_f (fun z => by rw [rc_bit x3 (by omega), hb] at z; exact absurd z (by decide)) ?_
      rw [show nI f * 12 = nI (f * 12) from pk_mul f 12, nI_add, nI_clamp (show f * 12 + i < 2 ^ 31 by omega)]
      refine ⟨vp_in_nI (by omega) (by omega), xm_mark hq (hv i (by omega) hb) (fun Mk1 wk1 t1 q1 a1 a2 a3 a4 a5 => nm_r (nI_1 i) ?_)⟩
      refine ih m (i + 1) Mk1 wk1 t1 (by omega) (by omega) q1 (fun c h => a1 c (h0 c h)) (fun c hc0 hM => ?_) (fun v c hv' hc0 hb' e => ?_)
      · rcases a3 c hc0 hM with z | z
        · exact hP c hc0 z
        · exact Or.inr ⟨i, by omega, hb, z⟩
      · by_cases ev : v = i
        · rw [ev] at e; exact a2 c hc0 e
        · exact a1 c (hc v c (by omega) hc0 hb' e)
    · have hb' : bt x3 i = false := by cases h : bt x3 i; rfl; exact absurd h hb
      refine br_t ((rc_bit x3 (by omega)).mpr hb') (nm_r (nI_1 i) ?_)
      refine ih m (i + 1) Mk wk tail (by omega) (by omega) hq h0 hP (fun v c hv' hc0 h e => ?_)
      by_cases ev : v = i
      · rw [ev, hb'] at h; exact absurd h (by decide)
      · exact hc v c (by omega) hc0 h e
end
end
section
section
variable {f_codeNum f_codeOp f_codeCon f_codeCall f_codeMatch f_codeIfZero f_codeRet : Int32} {f_cellBase f_unseen : Int64} {f_capacity f_depth f_complete f_open f_stored f_scope f_borrowedNow f_pending f_liveCells f_frames f_spareTotal f_state f_borrowing f_reusing f_keeping : Int32} {f_result : Int64} {f_steps f_fresh f_reused f_peak : Int32} {a_arities a_masks a_starts a_codes a_extras a_lefts a_rights a_scopes a_uses a_borrowed a_lends a_others a_frees a_afters a_builds a_pendingAt a_tags : Nat → Int32} {a_firsts a_seconds : Nat → Int64} {a_digests a_counts a_places a_work a_marks : Nat → Int32} {a_variables : Nat → Int64} {a_currents a_held a_spareCounts : Nat → Int32}
theorem xm_44 {post : Int32 → SX → Prop} {n : Nat} {cu : Nat → Nat} (hn : n ≤ 20) (hcu : ∀ f, f < n → a_currents f = nI (cu f) ∧ cu f < 96)
    (hv : ∀ f v, f < n → v < 12 → bt (rr_need a_frees a_afters cu n f) v = true → rc_gv (a_variables (f * 12 + v))) {M0 : Nat → Int32}
    (hp : ∀ Mk wk tail, xm_Q Mk wk tail → (∀ c, ¬ M0 c = 0 → ¬ Mk c = 0) → (∀ c, c < 160 → ¬ Mk c = 0 → ¬ M0 c = 0 ∨ ∃ f v, f < n ∧ v < 12 ∧ bt (rr_need a_frees a_afters cu n f) v = true ∧ a_variables (f * 12 + v) = rc_cv c) →
      (∀ f v c, f < n → v < 12 → c < 160 → bt (rr_need a_frees a_afters cu n f) v = true → a_variables (f * 12 + v) = rc_cv c → ¬ Mk c = 0) → ∃ m, wX_reachable_109 post m (nI tail) 0 f_codeNum f_codeOp f_codeCon f_codeCall f_codeMatch f_codeIfZero f_codeRet f_cellBase f_unseen f_capacity f_depth f_complete f_open f_stored f_scope f_borrowedNow f_pending f_liveCells (nI n) f_spareTotal f_state f_borrowing f_reusing f_keeping f_result f_steps f_fresh f_reused f_peak a_arities a_masks a_starts a_codes a_extras a_lefts a_rights a_scopes a_uses a_borrowed a_lends a_others a_frees a_afters a_builds a_pendingAt a_tags a_firsts a_seconds a_digests a_counts a_places wk Mk a_variables a_currents a_held a_spareCounts) :
    ∀ (k m f : Nat) (Mk wk : Nat → Int32) (tail : Nat), f + k = n → k < m → xm_Q Mk wk tail → (∀ c, ¬ M0 c = 0 → ¬ Mk c = 0) → (∀ c, c < 160 → ¬ Mk c = 0 → ¬ M0 c = 0 ∨ ∃ f v, f < n ∧ v < 12 ∧ bt (rr_need a_frees a_afters cu n f) v = true ∧ a_variables (f * 12 + v) = rc_cv c) →
      (∀ g v c, g < f → v < 12 → c < 160 → bt (rr_need a_frees a_afters cu n g) v = true → a_variables (g * 12 + v) = rc_cv c → ¬ Mk c = 0) → wX_reachable_44 post m (nI tail) (nI f) f_codeNum f_codeOp f_codeCon f_codeCall f_codeMatch f_codeIfZero f_codeRet f_cellBase f_unseen f_capacity f_depth f_complete f_open f_stored f_scope f_borrowedNow f_pending f_liveCells (nI n) f_spareTotal f_state f_borrowing f_reusing f_keeping f_result f_steps f_fresh f_reused f_peak a_arities a_masks a_starts a_codes a_extras a_lefts a_rights a_scopes a_uses a_borrowed a_lends a_others a_frees a_afters a_builds a_pendingAt a_tags a_firsts a_seconds a_digests a_counts a_places wk Mk a_variables a_currents a_held a_spareCounts := by
  intro k
  induction k with
  | zero =>
    intro m f Mk wk tail hf hm hq h0 hP hc
    obtain ⟨m, rfl⟩ : ∃ q, m = q + 1 := ⟨m - 1, by omega⟩
    have : f = n := by omega
    subst this
    exact br_t (Int32.le_refl _) (hp Mk wk tail hq h0 hP (fun g v c hg => hc g v c hg))
  | succ k ih =>
    intro m f Mk wk tail hf hm hq h0 hP hc
    obtain ⟨m, rfl⟩ : ∃ q, m = q + 1 := ⟨m - 1, by omega⟩
    have hfn : f < n := by omega
    refine br_f (nI_ge (by omega) (by omega)) (sv_need hfn hn (hcu f hfn).1 (hcu f hfn).2 ⟨13, ?_⟩)
    refine xm_61 (f_frames := nI n) (M0 := Mk) (by omega) (fun v hv' h => hv f v hfn hv' h) (fun Mk1 wk1 t1 q1 a1 a2 a3 => ?_) 12 13 0 Mk wk tail (by omega) (by omega) hq (fun _ h => h) (fun c _ h => Or.inl h) (fun v c hv' => by omega)
    refine ih m (f + 1) Mk1 wk1 t1 (by omega) (by omega) q1 (fun c h => a1 c (h0 c h)) (fun c hc0 hM => ?_) (fun g v c hg hv' hc0 hb e => ?_)
    · rcases a2 c hc0 hM with z | ⟨v, z1, z2, z3⟩
      · exact hP c hc0 z
      · exact Or.inr ⟨f, v, hfn, z1, z2, z3⟩
    · by_cases eg : g = f
      · rw [eg] at hb e
        exact a3 v c hv' hc0 hb e
      · exact a1 c (hc g v c (by omega) hv' hc0 hb e)
theorem xm_2 {post : Int32 → SX → Prop}
    (hp : ∀ Mk : Nat → Int32, (∀ c, c < 160 → Mk c = 0) → (f_state = 2 → wpX_mark (fun r u => match u with | (f_codeNum, f_codeOp, f_codeCon, f_codeCall, f_codeMatch, f_codeIfZero, f_codeRet, f_cellBase, f_unseen, f_capacity, f_depth, f_complete, f_open, f_stored, f_scope, f_borrowedNow, f_pending, f_liveCells, f_frames, f_spareTotal, f_state, f_borrowing, f_reusing, f_keeping, f_result, f_steps, f_fresh, f_reused, f_peak, a_arities, a_masks, a_starts, a_codes, a_extras, a_lefts, a_rights, a_scopes, a_uses, a_borrowed, a_lends, a_others, a_frees, a_afters, a_builds, a_pendingAt, a_tags, a_firsts, a_seconds, a_digests, a_counts, a_places, a_work, a_marks, a_variables, a_currents, a_held, a_spareCounts) => ∃ m, wX_reachable_44 post m r 0 f_codeNum f_codeOp f_codeCon f_codeCall f_codeMatch f_codeIfZero f_codeRet f_cellBase f_unseen f_capacity f_depth f_complete f_open f_stored f_scope f_borrowedNow f_pending f_liveCells f_frames f_spareTotal f_state f_borrowing f_reusing f_keeping f_result f_steps f_fresh f_reused f_peak a_arities a_masks a_starts a_codes a_extras a_lefts a_rights a_scopes a_uses a_borrowed a_lends a_others a_frees a_afters a_builds a_pendingAt a_tags a_firsts a_seconds a_digests a_counts a_places a_work a_marks a_variables a_currents a_held a_spareCounts) (f_codeNum, f_codeOp, f_codeCon, f_codeCall, f_codeMatch, f_codeIfZero, f_codeRet, f_cellBase, f_unseen, f_capacity, f_depth, f_complete, f_open, f_stored, f_scope, f_borrowedNow, f_pending, f_liveCells, f_frames, f_spareTotal, f_state, f_borrowing, f_reusing, f_keeping, f_result, f_steps, f_fresh, f_reused, f_peak, a_arities, a_masks, a_starts, a_codes, a_extras, a_lefts, a_rights, a_scopes, a_uses, a_borrowed, a_lends, a_others, a_frees, a_afters, a_builds, a_pendingAt, a_tags, a_firsts, a_seconds, a_digests, a_counts, a_places, a_work, Mk, a_variables, a_currents, a_held, a_spareCounts) f_result 0) ∧ (¬ f_state = 2 → ∃ m, wX_reachable_44 post m 0 0 f_codeNum f_codeOp f_codeCon f_codeCall f_codeMatch f_codeIfZero f_codeRet f_cellBase f_unseen f_capacity f_depth f_complete f_open f_stored f_scope f_borrowedNow f_pending f_liveCells f_frames f_spareTotal f_state f_borrowing f_reusing f_keeping f_result f_steps f_fresh f_reused f_peak a_arities a_masks a_starts a_codes a_extras a_lefts a_rights a_scopes a_uses a_borrowed a_lends a_others a_frees a_afters a_builds a_pendingAt a_tags a_firsts a_seconds a_digests a_counts a_places a_work Mk a_variables a_currents a_held a_spareCounts)) :
    ∀ (k m i : Nat) (Mk : Nat → Int32), i + k = 160 → k < m → (∀ c, c < i → Mk c = 0) → wX_reachable_2 post f_codeNum f_codeOp f_codeCon f_codeCall f_codeMatch f_codeIfZero f_codeRet f_cellBase f_unseen f_capacity f_depth f_complete f_open f_stored f_scope f_borrowedNow f_pending f_liveCells f_frames f_spareTotal f_state f_borrowing f_reusing f_keeping f_result f_steps f_fresh f_reused f_peak m (nI i) a_arities a_masks a_starts a_codes a_extras a_lefts a_rights a_scopes a_uses a_borrowed a_lends a_others a_frees a_afters a_builds a_pendingAt a_tags a_firsts a_seconds a_digests a_counts a_places a_work Mk a_variables a_currents a_held a_spareCounts := by
  intro k
  induction k with
  | zero =>
    intro m i Mk hi hm h
    obtain ⟨m, rfl⟩ : ∃ q, m = q + 1 := ⟨m - 1, by omega⟩
    have : i = 160 := by omega
    subst this
    exact br_t (Int32.le_refl _) (br_c (hp Mk h).1 (hp Mk h).2)
  | succ k ih =>
    intro m i Mk hi hm h
    obtain ⟨m, rfl⟩ : ∃ q, m = q + 1 := ⟨m - 1, by omega⟩
    refine br_f (nI_ge (b := 160) (by omega) (by omega)) ?_
    rw [nI_clamp (show i < 2 ^ 31 by omega)]
    refine ⟨vp_in_nI (by omega) (by omega), nm_r (e' := upd Mk i 0) (by rw [rc_nar0]) (nm_r (nI_1 i) (ih m (i + 1) _ (by omega) (by omega) (fun c hc => ?_)))⟩
    by_cases e : c = i
    · rw [e, pk_us]
    · rw [pk_un e]; exact h c (by omega)
end
noncomputable def rn_B (P : Nat → Prop) : Nat → Bool := fun c => @decide (P c) (Classical.propDecidable _)
theorem rn_Bi {P : Nat → Prop} {c : Nat} : rn_B P c = true ↔ P c := by
  unfold rn_B; exact @decide_eq_true_iff _ (Classical.propDecidable _)
theorem i_vc_reachable {k : Nat} {u : SX} {v : SY} (I : i_Rel k u v) (hk : k + 5 ≤ 2562) : wpX_reachable (fun r u' => wpY_reachable (fun r' v' => r' = r ∧ i_Rel (k + 5) u' v') v) u := by
  refine zz_el (P := fun u v => wpX_reachable (fun r u' => wpY_reachable (fun r' v' => r' = r ∧ i_Rel (k + 5) u' v') v) u) ?_ u v I
  intro f_codeNum f_codeOp f_codeCon f_codeCall f_codeMatch f_codeIfZero f_codeRet f_cellBase f_unseen f_capacity f_depth f_complete f_open f_stored f_scope f_borrowedNow f_pending f_liveCells f_frames f_spareTotal f_state f_borrowing f_reusing f_keeping f_result f_steps f_fresh f_reused f_peak a_arities a_masks a_starts a_codes a_extras a_lefts a_rights a_scopes a_uses a_borrowed a_lends a_others a_frees a_afters a_builds a_pendingAt a_tags a_firsts a_seconds a_digests a_counts a_places a_work a_marks a_variables a_currents a_held a_spareCounts g_bits g_resultCell g_resultNum g_seen b_aOf b_bOf b_spare b_varCell b_varNum b_borrowed b_tagOf b_fieldCell b_fieldNum b_marked b_digestOf F
  obtain ⟨sc, bw, cm, b, st, p, cu, sg, rk, sp, L, n, lv, cp, dp, T, R⟩ := F
  have T0 := T
  obtain ⟨t1, t2, t3, t4, C, t6⟩ := T
  obtain ⟨r1, r5, r6, P, K⟩ := R
  obtain ⟨F, V, B, Q, Is, Y, M, Lv, S, SS⟩ := K
  have hb96 := C.1
  have hn20 := F.1
  have J : ∀ mk wk ym, i_Rel (k + 5) (f_codeNum, f_codeOp, f_codeCon, f_codeCall, f_codeMatch, f_codeIfZero, f_codeRet, f_cellBase, f_unseen, f_capacity, f_depth, f_complete, f_open, f_stored, f_scope, f_borrowedNow, f_pending, f_liveCells, f_frames, f_spareTotal, f_state, f_borrowing, f_reusing, f_keeping, f_result, f_steps, f_fresh, f_reused, f_peak, a_arities, a_masks, a_starts, a_codes, a_extras, a_lefts, a_rights, a_scopes, a_uses, a_borrowed, a_lends, a_others, a_frees, a_afters, a_builds, a_pendingAt, a_tags, a_firsts, a_seconds, a_digests, a_counts, a_places, wk, mk, a_variables, a_currents, a_held, a_spareCounts) (f_capacity, f_depth, f_complete, f_open, f_stored, f_scope, f_state, g_bits, f_frames, f_steps, f_fresh, f_reused, f_peak, g_resultCell, g_resultNum, g_seen, a_starts, a_arities, a_masks, a_codes, a_extras, a_scopes, b_aOf, b_bOf, a_currents, b_spare, b_varCell, b_varNum, b_borrowed, b_tagOf, b_fieldCell, b_fieldNum, ym, b_digestOf) := fun mk wk ym => zz_in ⟨sc, bw, cm, b, st, p, cu, sg, rk, sp, L, n, lv, cp, dp, T0, r1, r5, r6, P, F, V, B, Q, Is, Y, M, Lv, fun z => hx_w (S z), SS⟩
  have hs160 : ∀ c, c < 160 → L c = true → sg c < 160 := fun c hc hL => (Is.1 c hc hL).1
  obtain ⟨RS, eRS⟩ : ∃ RS : Nat → Prop, RS = rc_rch a_firsts a_seconds (fun q => (f_state = 2 ∧ f_result = rc_cv q) ∨ ∃ f v, f < n ∧ v < 12 ∧ bt (rr_need a_frees a_afters cu n f) v = true ∧ a_variables (f * 12 + v) = rc_cv q) := ⟨_, rfl⟩
  have vis : ∀ f v, f < n → v < 12 → bt (rr_need a_frees a_afters cu n f) v = true → rc_vr L sg (a_variables (f * 12 + v)) (b_varCell (f * 12 + v)) (b_varNum (f * 12 + v)) := fun f v hf hv h => V f v hf hv (by rw [h]; rfl)
  have rsL : ∀ c, RS c → L c = true := fun c h => by
    rw [eRS] at h
    refine h (fun q => L q = true) (fun q hq hr => ?_) (fun d hd hLd q hq hch => Lv.2.2.1 d q hd hq hLd hch)
    rcases hr with ⟨z1, z2⟩ | ⟨f, v, hf, hv, hb, e⟩
    · exact (rc_vr_g (SS.2.2.2.1 z1)).2 q hq z2
    · exact (rc_vr_g (vis f v hf hv hb)).2 q hq e
  have rsR : ∀ q, q < 160 → ((f_state = 2 ∧ f_result = rc_cv q) ∨ ∃ f v, f < n ∧ v < 12 ∧ bt (rr_need a_frees a_afters cu n f) v = true ∧ a_variables (f * 12 + v) = rc_cv q) → RS q := fun q hq h => by
    rw [eRS]; exact fun P' h1 h2 => h1 q hq h
  have rsC : ∀ d, d < 160 → RS d → ∀ q, q < 160 → (a_firsts d = rc_cv q ∨ a_seconds d = rc_cv q) → RS q := fun d hd h q hq hch => by
    rw [eRS] at h ⊢; exact fun P' h1 h2 => h2 d hd (h P' h1 h2) q hq hch
  -- Y
  have hbL : ∀ c, c < 160 → rn_B RS c = true → L c = true := fun c _ h => rsL c (rn_Bi.mp h)
  have cntY := ym_Gn (L := rn_B RS) (sg := sg) (fun c hc h => hs160 c hc (hbL c hc h)) (fun c d hc hd h1 h2 e => Is.2 c d hc hd (hbL c hc h1) (hbL d hd h2) e)
  have goY : ∀ Q' : Int32 → SY → Prop, (∀ mk, Q' (nI (rc_sm (fun c => if rn_B RS c = true then 1 else 0) 160)) (f_capacity, f_depth, f_complete, f_open, f_stored, f_scope, f_state, g_bits, f_frames, f_steps, f_fresh, f_reused, f_peak, g_resultCell, g_resultNum, g_seen, a_starts, a_arities, a_masks, a_codes, a_extras, a_scopes, b_aOf, b_bOf, a_currents, b_spare, b_varCell, b_varNum, b_borrowed, b_tagOf, b_fieldCell, b_fieldNum, mk, b_digestOf)) → wpY_reachable Q' (f_capacity, f_depth, f_complete, f_open, f_stored, f_scope, f_state, g_bits, f_frames, f_steps, f_fresh, f_reused, f_peak, g_resultCell, g_resultNum, g_seen, a_starts, a_arities, a_masks, a_codes, a_extras, a_scopes, b_aOf, b_bOf, a_currents, b_spare, b_varCell, b_varNum, b_borrowed, b_tagOf, b_fieldCell, b_fieldNum, b_marked, b_digestOf) := by
    intro Q' hQ
    unfold wpY_reachable
    rw [← cntY] at hQ
    rw [t2, r6] at hQ ⊢
    refine ym_mark (G := ym_G (rn_B RS) sg) (rt := fun x => bt (rr_need a_frees a_afters cu n (x / 12)) (x % 12)) hn20 (fun mk x Q2 hx hQ2 => ⟨fun _ => ?_, fun z => absurd rfl z⟩) (fun x hx h => (Y.1 x hx).2.1 h) (fun x hx h => (Y.2.1 x hx).2 h) (fun _ h => Y.2.2.2 h) (fun c hc hR => ?_) (fun x hx hG hfc c hc hfn => ?_) (fun P' hP1 hP2 c hc hG => ?_) (fun mk _ => hQ mk)
    · obtain ⟨f, v, hv, rfl⟩ : ∃ f v, v < 12 ∧ x = f * 12 + v := ⟨x / 12, x % 12, by omega, by omega⟩
      refine yr_needed C F t3 t4 (by omega) hv ?_
      (try dsimp only at hQ2)
      rw [show (f * 12 + v) / 12 = f by omega, show (f * 12 + v) % 12 = v by omega] at hQ2
      exact hQ2
    · rcases hR with ⟨h1, -⟩ | ⟨h1, h2, h3⟩ | ⟨x, hx, h1, h2, h3⟩
      · exact absurd rfl h1
      · obtain ⟨d, d1, d2, d3, d4⟩ := rc_vr_c (SS.2.2.2.1 h1) h2
        have := hs160 d d1 d2
        rw [d4, nI_eq (by omega) (by omega)] at h3
        rw [← h3]
        exact ym_Gs d1 (rn_Bi.mpr (rsR d d1 (Or.inl ⟨h1, d3⟩)))
      · have vr := vis (x / 12) (x % 12) (by omega) (by omega) h1
        rw [show x / 12 * 12 + x % 12 = x by omega] at vr
        obtain ⟨d, d1, d2, d3, d4⟩ := rc_vr_c vr h2
        have := hs160 d d1 d2
        rw [d4, nI_eq (by omega) (by omega)] at h3
        rw [← h3]
        exact ym_Gs d1 (rn_Bi.mpr (rsR d d1 (Or.inr ⟨x / 12, x % 12, by omega, by omega, h1, by rw [show x / 12 * 12 + x % 12 = x by omega]; exact d3⟩)))
    · obtain ⟨d, d1, d2, d3⟩ := ym_Gi.mp hG
      have hRS := rn_Bi.mp d2
      obtain ⟨i1, i2, i3, i4, -⟩ := Is.1 d d1 (rsL d hRS)
      have hx2 : x = 2 * sg d ∨ x = 2 * sg d + 1 := by omega
      rcases hx2 with e | e
      · rw [e] at hfc hfn
        obtain ⟨q, q1, q2, q3, q4⟩ := rc_vr_c i3 hfc
        have := hs160 q q1 q2
        rw [q4, nI_eq (by omega) (by omega)] at hfn
        rw [← hfn]; exact ym_Gs q1 (rn_Bi.mpr (rsC d d1 hRS q q1 (Or.inl q3)))
      · rw [e] at hfc hfn
        obtain ⟨q, q1, q2, q3, q4⟩ := rc_vr_c i4 hfc
        have := hs160 q q1 q2
        rw [q4, nI_eq (by omega) (by omega)] at hfn
        rw [← hfn]; exact ym_Gs q1 (rn_Bi.mpr (rsC d d1 hRS q q1 (Or.inr q3)))
    · obtain ⟨d, d1, d2, d3⟩ := ym_Gi.mp hG
      rw [← d3]
      have hRS := rn_Bi.mp d2
      rw [eRS] at hRS
      refine (hRS (fun q => q < 160 ∧ L q = true ∧ P' (sg q)) (fun q hq hr => ?_) (fun e he hPe q hq hch => ?_)).2.2
      · rcases hr with ⟨z1, z2⟩ | ⟨f, v, hf, hv, hb, e⟩
        · have hLq := (rc_vr_g (SS.2.2.2.1 z1)).2 q hq z2
          have := (rc_vr_i (SS.2.2.2.1 z1) hq hLq hs160 Is.2).mpr z2
          exact ⟨hq, hLq, hP2 (sg q) (hs160 q hq hLq) (Or.inr (Or.inl ⟨z1, this.1, this.2⟩))⟩
        · have vr := vis f v hf hv hb
          have hLq := (rc_vr_g vr).2 q hq e
          have := (rc_vr_i vr hq hLq hs160 Is.2).mpr e
          refine ⟨hq, hLq, hP2 (sg q) (hs160 q hq hLq) (Or.inr (Or.inr ⟨f * 12 + v, by omega, ?_, this.1, this.2⟩))⟩
          (try dsimp only)
          rw [show (f * 12 + v) / 12 = f by omega, show (f * 12 + v) % 12 = v by omega]; exact hb
      · obtain ⟨e1, e2, e3⟩ := hPe
        have hLq := Lv.2.2.1 e q he hq e2 hch
        obtain ⟨i1, i2, i3, i4, -⟩ := Is.1 e he e2
        refine ⟨hq, hLq, ?_⟩
        rcases hch with w | w
        · have := (rc_vr_i i3 hq hLq hs160 Is.2).mpr w
          exact hP1 (2 * sg e) (by omega) (by rw [show 2 * sg e / 2 = sg e by omega]; exact e3) this.1 (sg q) (hs160 q hq hLq) this.2
        · have := (rc_vr_i i4 hq hLq hs160 Is.2).mpr w
          exact hP1 (2 * sg e + 1) (by omega) (by rw [show (2 * sg e + 1) / 2 = sg e by omega]; exact e3) this.1 (sg q) (hs160 q hq hLq) this.2
  -- X
  have hgv : ∀ d, d < 160 → RS d → rc_gv (a_firsts d) ∧ rc_gv (a_seconds d) := fun d hd h => Lv.2.2.2.2.2.2 d hd (rsL d h)
  have post' : ∀ Mk wk tail, xm_Q Mk wk tail → (∀ c, c < 160 → (¬ Mk c = 0 ↔ RS c)) → wpY_reachable (fun r' v' => r' = nI tail ∧ i_Rel (k + 5) (f_codeNum, f_codeOp, f_codeCon, f_codeCall, f_codeMatch, f_codeIfZero, f_codeRet, f_cellBase, f_unseen, f_capacity, f_depth, f_complete, f_open, f_stored, f_scope, f_borrowedNow, f_pending, f_liveCells, f_frames, f_spareTotal, f_state, f_borrowing, f_reusing, f_keeping, f_result, f_steps, f_fresh, f_reused, f_peak, a_arities, a_masks, a_starts, a_codes, a_extras, a_lefts, a_rights, a_scopes, a_uses, a_borrowed, a_lends, a_others, a_frees, a_afters, a_builds, a_pendingAt, a_tags, a_firsts, a_seconds, a_digests, a_counts, a_places, wk, Mk, a_variables, a_currents, a_held, a_spareCounts) v') (f_capacity, f_depth, f_complete, f_open, f_stored, f_scope, f_state, g_bits, f_frames, f_steps, f_fresh, f_reused, f_peak, g_resultCell, g_resultNum, g_seen, a_starts, a_arities, a_masks, a_codes, a_extras, a_scopes, b_aOf, b_bOf, a_currents, b_spare, b_varCell, b_varNum, b_borrowed, b_tagOf, b_fieldCell, b_fieldNum, b_marked, b_digestOf) := by
    intro Mk wk tail hq hiff
    refine goY _ (fun mk => ⟨congrArg nI ?_, J Mk wk mk⟩)
    rw [hq.2.1]
    refine rc_sm_eq 160 (fun c hc => ?_)
    by_cases z : RS c
    · rw [if_pos (rn_Bi.mpr z), if_neg ((hiff c hc).mpr z)]
    · rw [if_neg (fun w => z (rn_Bi.mp w))]
      rcases hq.1 c hc with w | w
      · rw [if_pos w]
      · exact absurd ((hiff c hc).mp (by rw [w]; decide)) z
  have q0 : ∀ Mk wk : Nat → Int32, (∀ c, c < 160 → Mk c = 0) → xm_Q Mk wk 0 := fun Mk wk h => ⟨fun c hc => Or.inl (h c hc), by unfold ym_n; exact (rc_sm_0 160 (fun c hc => if_pos (h c hc))).symm, fun c hc hM => absurd (h c hc) hM, fun j hj => by omega⟩
  -- from the marks after the result on
  have main : ∀ M0 wk tail, xm_Q M0 wk tail → (∀ c, c < 160 → ¬ M0 c = 0 → (f_state = 2 ∧ f_result = rc_cv c)) → (f_state = 2 → ∀ c, c < 160 → f_result = rc_cv c → ¬ M0 c = 0) →
      ∃ m, wX_reachable_44 (fun r u' => wpY_reachable (fun r' v' => r' = r ∧ i_Rel (k + 5) u' v') (f_capacity, f_depth, f_complete, f_open, f_stored, f_scope, f_state, g_bits, f_frames, f_steps, f_fresh, f_reused, f_peak, g_resultCell, g_resultNum, g_seen, a_starts, a_arities, a_masks, a_codes, a_extras, a_scopes, b_aOf, b_bOf, a_currents, b_spare, b_varCell, b_varNum, b_borrowed, b_tagOf, b_fieldCell, b_fieldNum, b_marked, b_digestOf)) m (nI tail) 0 f_codeNum f_codeOp f_codeCon f_codeCall f_codeMatch f_codeIfZero f_codeRet f_cellBase f_unseen f_capacity f_depth f_complete f_open f_stored f_scope f_borrowedNow f_pending f_liveCells f_frames f_spareTotal f_state f_borrowing f_reusing f_keeping f_result f_steps f_fresh f_reused f_peak a_arities a_masks a_starts a_codes a_extras a_lefts a_rights a_scopes a_uses a_borrowed a_lends a_others a_frees a_afters a_builds a_pendingAt a_tags a_firsts a_seconds a_digests a_counts a_places wk M0 a_variables a_currents a_held a_spareCounts := by
    intro M0 wk tail hq h1 h2
    refine ⟨n + 1, ?_⟩
    rw [r6] at post' ⊢
    refine xm_44 (M0 := M0) (cu := cu) hn20 (fun f hf => ⟨(F.2 f hf).1, by have := (F.2 f hf).2.1; omega⟩) (fun f v hf hv h => (rc_vr_g (vis f v hf hv h)).1) (fun Mk wk1 t1 q1 a1 a2 a3 => ⟨162, ?_⟩) n (n + 1) 0 M0 wk tail (by omega) (by omega) hq (fun _ h => h) (fun c _ h => Or.inl h) (fun g v c hg => by omega)
    have hroot : ∀ q, q < 160 → ((f_state = 2 ∧ f_result = rc_cv q) ∨ ∃ f v, f < n ∧ v < 12 ∧ bt (rr_need a_frees a_afters cu n f) v = true ∧ a_variables (f * 12 + v) = rc_cv q) → ¬ Mk q = 0 := fun q hq' h => by
      rcases h with ⟨z1, z2⟩ | ⟨f, v, hf, hv, hb, e⟩
      · exact a1 q (h2 z1 q hq' z2)
      · exact a3 f v q hf hv hq' hb e
    refine xm_109 (f_frames := nI n) (P := RS) (M0 := Mk) hgv rsC (fun Mk2 wk2 t2 q2 b1 b2 b3 => post' Mk2 wk2 t2 q2 (fun c hc => ⟨b2 c hc, fun h => ?_⟩)) 161 162 0 Mk wk1 t1 (by omega) (by omega) q1 (fun _ h => h) (fun c hc hM => ?_) (fun j hj => by omega)
    · rw [eRS] at h
      exact h (fun q => ¬ Mk2 q = 0) (fun q hq' hr => b1 q (hroot q hq' hr)) b3
    · rcases a2 c hc hM with z | z
      · exact rsR c hc (Or.inl (h1 c hc z))
      · exact rsR c hc (Or.inr z)
  refine ⟨161, xm_2 (fun Mk hMk => ⟨fun s2 => ?_, fun s2 => ?_⟩) 160 161 0 a_marks (by omega) (by omega) (fun c hc => by omega)⟩
  · refine xm_mark (tail := 0) (wk := a_work) (q0 Mk a_work hMk) (rc_vr_g (SS.2.2.2.1 s2)).1 (fun Mk1 wk1 t1 q1 a1 a2 a3 a4 a5 => main Mk1 wk1 t1 q1 (fun c hc h => ?_) (fun _ => a2))
    rcases a3 c hc h with z | z
    · exact absurd (hMk c hc) z
    · exact ⟨s2, z⟩
  · exact main Mk a_work 0 (q0 Mk a_work hMk) (fun c hc h => absurd (hMk c hc) h) (fun z => absurd z s2)
end
section
/-! ===== feeding: the text grows behind what is complete ===== -/
theorem tx_Wcg {ar mk kd ex lf rt sp us bo ln ot aO bO ar' mk' kd' ex' lf' rt' sp' us' bo' ln' ot' aO' bO' : Nat → Int32} {sc sc' : Nat → Nat} {bw bw' : Nat → Int32} {cm cm' lim lim' i : Nat}
    (W : tx_W ar mk kd ex lf rt sp us bo ln ot aO bO sc bw cm lim i) (hcm : cm ≤ cm') (ear : ∀ g, g < cm → ar' g = ar g) (emk : ∀ g, g < cm → mk' g = mk g)
    (e1 : kd' i = kd i) (e2 : ex' i = ex i) (e3 : lf' i = lf i) (e4 : rt' i = rt i) (e5 : sp' i = sp i) (e6 : us' i = us i) (e7 : bo' i = bo i) (e8 : ln' i = ln i) (e9 : aO' i = aO i) (e10 : bO' i = bO i)
    (s0 : sc' i = sc i) (b0 : bw' i = bw i) (s1 : kd i ≠ 6 → sc' (i + 1) = sc (i + 1) ∧ bw' (i + 1) = bw (i + 1))
    (em : kd i = 4 ∨ kd i = 5 → ∀ m, tx_T kd' (i + 1) m → m ≤ lim' → ot' i = nI m ∧ sc' m = sc' i ∧ bw' m = bw' i) :
    tx_W ar' mk' kd' ex' lf' rt' sp' us' bo' ln' ot' aO' bO' sc' bw' cm' lim' i := by
  obtain ⟨w1, w2, w3, w4, w5, w6, w7, w8, w9, w10, w11, w12⟩ := W
  unfold tx_W
  rw [e1, e2, e3, e4, e5, e6, e7, e8, e9, e10, s0, b0]
  have n6 : ∀ k : Int32, kd i = k → k ≠ 6 → kd i ≠ 6 := fun k h1 h2 h3 => h2 (by rw [← h1, h3])
  refine ⟨w1, w2, w3, w4, w5, w6, w7, fun z => ?_, fun z => ?_, fun z => ?_, fun z => ?_, fun z m hT hm => ?_⟩
  · obtain ⟨g, g1, g2, g3, g4, g5⟩ := w8 z
    refine ⟨g, g1, by omega, g3, ?_, fun v hv => ?_⟩
    · rw [ear g g2]; exact g4
    · rw [emk g g2]; exact g5 v hv
  · have h6 : kd i ≠ 6 := by rcases z with z | z | z | z <;> (rw [z]; decide)
    rw [(s1 h6).1, (s1 h6).2]; exact w9 z
  · have h6 : kd i ≠ 6 := by rw [z]; decide
    rw [(s1 h6).1, (s1 h6).2]; exact w10 z
  · have h6 : kd i ≠ 6 := by rw [z]; decide
    rw [(s1 h6).1, (s1 h6).2]; exact w11 z
  · have := em z m hT hm
    rw [s0, b0] at this; exact this
theorem tx_Acg {kd us fr af bd kd' us' fr' af' bd' : Nat → Int32} {sc sc' : Nat → Nat} {b i : Nat} (A : tx_A kd us fr af bd sc i) (hi : i < b) (T : ∃ e, e ≤ b ∧ tx_T kd i e)
    (e1 : ∀ j, j < b → kd' j = kd j) (e2 : us' i = us i) (e3 : ∀ j, j < b → fr' j = fr j) (e4 : af' i = af i) (e5 : ∀ j, j < b → bd' j = bd j) (s0 : sc' i = sc i) : tx_A kd' us' fr' af' bd' sc' i := by
  obtain ⟨e, he, T⟩ := T
  obtain ⟨a1, a2, a3, a4⟩ := A
  unfold tx_A
  rw [e1 i hi, e2, e3 i hi, e4, e5 i hi, s0]
  refine ⟨a1, a2, fun z m hT => ?_, fun z => ?_⟩
  · have t1 : tx_t kd i = 1 := by rcases z with z | z; exact tx_t4 z; exact tx_t5 z
    obtain ⟨m', hm', T1, T2⟩ := tx_1 t1 T
    have hme : m = m' := tx_uniq hT (tx_cg e1 (by omega) T1)
    subst hme
    have := T1.1
    rw [e3 (i + 1) (by omega), e3 m (by omega), e5 (i + 1) (by omega), e5 m (by omega)]
    exact a3 z m T1
  · obtain ⟨n4, n5, n6⟩ := tx_w0 z
    have T1 := tx_0 (tx_t0 n4 n5 n6) T
    have := T1.1
    rw [e3 (i + 1) (by omega), e5 (i + 1) (by omega)]
    exact a4 z
theorem ct_cg {ar mk sa kd ex lf rt sp us bo ln ot fr af bd aO bO ar' mk' sa' kd' ex' lf' rt' sp' us' bo' ln' ot' fr' af' bd' aO' bO' : Nat → Int32} {sc sc' : Nat → Nat} {bw bw' : Nat → Int32} {cm b : Nat}
    (C : ct_C ar mk sa kd ex lf rt sp us bo ln ot fr af bd aO bO sc bw cm b) (ear : ∀ g, g < cm → ar' g = ar g) (emk : ∀ g, g < cm → mk' g = mk g) (esa : ∀ g, g < cm → sa' g = sa g)
    (e1 : ∀ i, i < b → kd' i = kd i) (e2 : ∀ i, i < b → ex' i = ex i) (e3 : ∀ i, i < b → lf' i = lf i) (e4 : ∀ i, i < b → rt' i = rt i) (e5 : ∀ i, i < b → sp' i = sp i) (e6 : ∀ i, i < b → us' i = us i) (e7 : ∀ i, i < b → bo' i = bo i) (e8 : ∀ i, i < b → ln' i = ln i) (e9 : ∀ i, i < b → ot' i = ot i)
    (e10 : ∀ i, i < b → fr' i = fr i) (e11 : ∀ i, i < b → af' i = af i) (e12 : ∀ i, i < b → bd' i = bd i) (e13 : ∀ i, i < b → aO' i = aO i) (e14 : ∀ i, i < b → bO' i = bO i) (s0 : ∀ i, i < b → sc' i = sc i) (b0 : ∀ i, i < b → bw' i = bw i) :
    ct_C ar' mk' sa' kd' ex' lf' rt' sp' us' bo' ln' ot' fr' af' bd' aO' bO' sc' bw' cm b := by
  have C0 := C
  obtain ⟨c1, c2, c3, c4, c5, c6⟩ := C
  refine ⟨c1, c2, fun i hi => ?_, fun i hi => ?_, fun i hi => tx_Acg (c5 i hi) hi (c3 i hi) e1 (e6 i hi) e10 (e11 i hi) e12 (s0 i hi), fun g hg => ?_⟩
  · obtain ⟨e, he, T⟩ := c3 i hi
    exact ⟨e, he, tx_cg e1 he T⟩
  · refine tx_Wcg (c4 i hi) (Nat.le_refl _) ear emk (e1 i hi) (e2 i hi) (e3 i hi) (e4 i hi) (e5 i hi) (e6 i hi) (e7 i hi) (e8 i hi) (e13 i hi) (e14 i hi) (s0 i hi) (b0 i hi) (fun h6 => ?_) (fun z m hT hm => ?_)
    · have hi1 : i + 1 < b := by
        obtain ⟨e, he, T⟩ := c3 i hi
        have h1 := T.1
        rcases Nat.lt_or_ge (i + 1) b with z | z
        · exact z
        · have : e = i + 1 := by omega
          subst this
          exact absurd (tx_last T) h6
      exact ⟨s0 _ hi1, b0 _ hi1⟩
    · obtain ⟨e, m', he, hm', T, T1, T2, h1, eo, es, eb⟩ := ct_br C0 hi z
      have hme : m = m' := tx_uniq hT (tx_cg e1 (by omega) T1)
      subst hme
      rw [e9 i hi, s0 m hm', s0 i hi, b0 m hm', b0 i hi]
      exact ⟨eo, es, eb⟩
  · obtain ⟨s, h1, h2, h3, h4, h5⟩ := c6 g hg
    exact ⟨s, h1, by rw [esa g hg]; exact h2, by rw [ear g hg, s0 s h1]; exact h3, by rw [s0 s h1]; exact h4, by rw [emk g hg, b0 s h1]; exact h5⟩
section
variable {f_codeNum f_codeOp f_codeCon f_codeCall f_codeMatch f_codeIfZero f_codeRet : Int32} {f_cellBase f_unseen : Int64} {f_capacity f_depth f_complete f_open f_stored f_scope f_borrowedNow f_pending f_liveCells f_frames f_spareTotal f_state f_borrowing f_reusing f_keeping : Int32} {f_result : Int64} {f_steps f_fresh f_reused f_peak : Int32} {a_arities a_masks a_starts a_codes a_extras a_lefts a_rights a_scopes a_uses a_borrowed a_lends a_others a_frees a_afters a_builds a_pendingAt a_tags : Nat → Int32} {a_firsts a_seconds : Nat → Int64} {a_digests a_counts a_places a_work a_marks : Nat → Int32} {a_variables : Nat → Int64} {a_currents a_held a_spareCounts : Nat → Int32} {g_bits g_resultCell g_resultNum g_seen : Int32} {b_aOf b_bOf b_spare b_varCell b_varNum b_borrowed b_tagOf b_fieldCell b_fieldNum b_marked b_digestOf : Nat → Int32}
variable {sc cu sg rk sp : Nat → Nat} {bw : Nat → Int32} {L : Nat → Bool} {cm b n lv st cp dp p : Nat}
/-- the run doesn't look at what is fed -/
theorem rr_Rt {kd' bo' ln' fr' af' : Nat → Int32} {sc' : Nat → Nat} {b' : Nat} (R : rr_R f_capacity f_depth f_liveCells f_frames f_spareTotal a_spareCounts b_spare f_state f_borrowing f_reusing f_keeping f_result f_fresh a_codes a_borrowed a_lends a_frees a_afters a_tags a_firsts a_seconds a_digests a_counts a_places a_work a_variables a_currents a_held g_bits g_resultCell g_resultNum b_varCell b_varNum b_borrowed b_tagOf b_fieldCell b_fieldNum sc cu sg rk sp L b n lv cp dp) (hb : b ≤ b') (e1 : ∀ i, i < b → kd' i = a_codes i) (e2 : ∀ i, i < b → bo' i = a_borrowed i) (e3 : ∀ i, i < b → ln' i = a_lends i) (e4 : ∀ i, i < b → fr' i = a_frees i) (e5 : ∀ i, i < b → af' i = a_afters i) (e6 : ∀ i, i < b → sc' i = sc i) :
    rr_R f_capacity f_depth f_liveCells f_frames f_spareTotal a_spareCounts b_spare f_state f_borrowing f_reusing f_keeping f_result f_fresh kd' bo' ln' fr' af' a_tags a_firsts a_seconds a_digests a_counts a_places a_work a_variables a_currents a_held g_bits g_resultCell g_resultNum b_varCell b_varNum b_borrowed b_tagOf b_fieldCell b_fieldNum sc' cu sg rk sp L b' n lv cp dp := by
  obtain ⟨r1, r5, r6, P, F, V, B, Q, I, Y, M, Lv, S, SS⟩ := R
  have en : ∀ f, f < n → rr_need fr' af' cu n f = rr_need a_frees a_afters cu n f := fun f hf => by
    unfold rr_need
    rw [e4 _ (F.2 f hf).2.1, e5 _ (F.2 f hf).2.1]
  have el : ∀ f, f < n → rr_lent f_borrowing ln' cu n f = rr_lent f_borrowing a_lends cu n f := fun f hf => by
    unfold rr_lent
    rw [e3 _ (F.2 f hf).2.1]
  refine ⟨r1, r5, r6, P, ⟨F.1, fun f hf => ?_⟩, fun f v hf hv h => ?_, fun f v hf hv => ?_, fun hb0 f v c hf hv hc h1 h2 h3 => ?_, I, Y, M, Lv, S, SS⟩
  · obtain ⟨f1, f2, f3, f4⟩ := F.2 f hf
    refine ⟨f1, by omega, fun z => by rw [e1 _ f2]; exact f3 z, ?_⟩
    rw [f4]
    unfold rr_hold
    rw [e2 _ f2, e3 _ f2, e4 _ f2, e5 _ f2]
  · rw [en f hf, el f hf] at h
    exact V f v hf hv h
  · have f2 := (F.2 f hf).2.1
    rw [e6 _ f2] at hv
    rw [e2 _ f2]
    exact B f v hf hv
  · rw [en f hf] at h1
    rw [e2 _ (F.2 f hf).2.1] at h2
    exact Q hb0 f v c hf hv hc h1 h2 h3
/-- a row is put down, not a ret -/
theorem tr_store {k e l r u nl aN bN : Int32} {ns : Nat} {nb : Int32} {p' : Nat} {pa' : Nat → Int32} (T : tr_T f_complete f_open f_stored f_scope f_borrowedNow f_pending a_arities a_masks a_starts a_codes a_extras a_lefts a_rights a_scopes a_uses a_borrowed a_lends a_others a_frees a_afters a_builds b_aOf b_bOf a_pendingAt sc bw cm b st p) (ho : ¬ f_open = 0) (hst : st < 96) (hk6 : k ≠ 6)
    (W : tx_W a_arities a_masks (upd a_codes st k) (upd a_extras st e) (upd a_lefts st l) (upd a_rights st r) (upd a_scopes st (nI (sc st))) (upd a_uses st u) (upd a_borrowed st (bw st)) (upd a_lends st nl) (upd a_others st 0) (upd b_aOf st aN) (upd b_bOf st bN) (fun j => if j = st + 1 then ns else sc j) (fun j => if j = st + 1 then nb else bw j) (cm + 1) (st + 1) st)
    (hns : ns ≤ 12) (hnb : ∀ v, v < 32 → bt nb v = true → v < ns)
    (hp0 : ¬ (k = 4 ∨ k = 5) → p' = p ∧ pa' = a_pendingAt) (hp1 : k = 4 ∨ k = 5 → p' = p + 1 ∧ pa' = upd a_pendingAt p (nI st) ∧ p < 8) :
    tr_T f_complete 1 (nI (st + 1)) (nI ns) nb (nI p') a_arities a_masks a_starts (upd a_codes st k) (upd a_extras st e) (upd a_lefts st l) (upd a_rights st r) (upd a_scopes st (nI (sc st))) (upd a_uses st u) (upd a_borrowed st (bw st)) (upd a_lends st nl) (upd a_others st 0) a_frees a_afters a_builds (upd b_aOf st aN) (upd b_bOf st bN) pa' (fun j => if j = st + 1 then ns else sc j) (fun j => if j = st + 1 then nb else bw j) cm b (st + 1) p' := by
  obtain ⟨t1, t2, t3, t4, C, t6⟩ := T
  obtain ⟨o1, O⟩ := t6.resolve_left (fun z => ho z.1)
  obtain ⟨c1, c2, c3, c4, c5, c6, c7, c8, c9, c10, c11, c12, c13⟩ := O
  have un : ∀ (A : Nat → Int32) (x : Int32) (i : Nat), i < st → upd A st x i = A i := fun A x i hi => pk_un (by omega)
  have sn : ∀ i, i ≤ st → (fun j => if j = st + 1 then ns else sc j) i = sc i := fun i hi => if_neg (by omega)
  have bn : ∀ i, i ≤ st → (fun j => if j = st + 1 then nb else bw j) i = bw i := fun i hi => if_neg (by omega)
  have ts : ∀ i, i ≤ st → tx_s (upd a_codes st k) i = tx_s a_codes i := fun i hi => tx_scg i (fun j hj => pk_un (by omega))
  have ts1 : tx_s (upd a_codes st k) (st + 1) = tx_s a_codes st + tx_t (upd a_codes st k) st := by rw [tx_ss, ts st (Nat.le_refl _)]
  have ht0 : 0 ≤ tx_t (upd a_codes st k) st := by
    rcases Int.lt_or_le (tx_t (upd a_codes st k) st) 0 with z | z
    · have := tx_t6' z
      rw [pk_us] at this; exact absurd this hk6
    · exact z
  refine ⟨t1, rfl, by omega, by omega, ?_, Or.inr ⟨rfl, c1, c2, ?_, by (try dsimp only); rw [if_pos rfl]; exact hns, ?_, fun v hv h => ?_, rfl, ?_, ?_, fun i hi1 hi2 => ?_, fun i hi1 hi2 => ?_, ?_, fun j hj => ?_⟩⟩
  · exact ct_cg C (fun _ _ => rfl) (fun _ _ => rfl) (fun _ _ => rfl) (fun i hi => un _ _ i (by omega)) (fun i hi => un _ _ i (by omega)) (fun i hi => un _ _ i (by omega)) (fun i hi => un _ _ i (by omega)) (fun i hi => un _ _ i (by omega)) (fun i hi => un _ _ i (by omega)) (fun i hi => un _ _ i (by omega)) (fun i hi => un _ _ i (by omega)) (fun i hi => un _ _ i (by omega)) (fun _ _ => rfl) (fun _ _ => rfl) (fun _ _ => rfl) (fun i hi => un _ _ i (by omega)) (fun i hi => un _ _ i (by omega)) (fun i hi => sn i (by omega)) (fun i hi => bn i (by omega))
  · (try dsimp only); rw [if_pos rfl]
  · (try dsimp only); rw [if_pos rfl]
  · (try dsimp only at h)
    rw [if_pos rfl] at h
    (try dsimp only)
    rw [if_pos rfl]; exact hnb v hv h
  · by_cases z : k = 4 ∨ k = 5
    · obtain ⟨z1, z2, z3⟩ := hp1 z; omega
    · rw [(hp0 z).1]; exact c8
  · rw [sn b t3, bn b t3]; exact c9
  · by_cases ei : i = st
    · rw [ei]; exact W
    · refine tx_Wcg (c10 i hi1 (by omega)) (Nat.le_refl _) (fun _ _ => rfl) (fun _ _ => rfl) (un _ _ i (by omega)) (un _ _ i (by omega)) (un _ _ i (by omega)) (un _ _ i (by omega)) (un _ _ i (by omega)) (un _ _ i (by omega)) (un _ _ i (by omega)) (un _ _ i (by omega)) (un _ _ i (by omega)) (un _ _ i (by omega)) (sn i (by omega)) (bn i (by omega)) (fun _ => ⟨sn _ (by omega), bn _ (by omega)⟩) (fun z m hT hm => ?_)
      have hms : m ≤ st := by
        rcases Nat.lt_or_ge st m with w | w
        · have : m = st + 1 := by omega
          subst this
          have := tx_last hT
          rw [pk_us] at this; exact absurd this hk6
        · exact w
      have T2 := tx_cg (kd := upd a_codes st k) (kd' := a_codes) (n := st) (fun j hj => (un _ _ j hj).symm) hms hT
      obtain ⟨q1, q2, q3⟩ := (c10 i hi1 (by omega)).2.2.2.2.2.2.2.2.2.2.2 z m T2 hms
      exact ⟨(un _ _ i (by omega)).trans q1, (sn m hms).trans (q2.trans (sn i (by omega)).symm), (bn m hms).trans (q3.trans (bn i (by omega)).symm)⟩
  · rw [ts b t3]
    by_cases ei : i = st + 1
    · rw [ei, ts1]
      have := c11 st t3 (Nat.le_refl _); omega
    · rw [ts i (by omega)]; exact c11 i hi1 (by omega)
  · rw [ts1, ts b t3]
    by_cases z : k = 4 ∨ k = 5
    · have : tx_t (upd a_codes st k) st = 1 := by
        rcases z with z | z
        · exact tx_t4 (by rw [pk_us]; exact z)
        · exact tx_t5 (by rw [pk_us]; exact z)
      rw [this]
      obtain ⟨z1, z2, z3⟩ := hp1 z; omega
    · have : tx_t (upd a_codes st k) st = 0 := tx_t0 (by rw [pk_us]; exact fun y => z (Or.inl y)) (by rw [pk_us]; exact fun y => z (Or.inr y)) (by rw [pk_us]; exact hk6)
      rw [this, (hp0 z).1]; omega
  · have old : j < p → ∃ q, a_pendingAt j = nI q ∧ b ≤ q ∧ q < st + 1 ∧ (upd a_codes st k q = 4 ∨ upd a_codes st k q = 5) ∧ tx_s (upd a_codes st k) q = tx_s (upd a_codes st k) b + j ∧ ∀ i, q < i → i ≤ st + 1 → tx_s (upd a_codes st k) q + 1 ≤ tx_s (upd a_codes st k) i := fun hj' => by
      obtain ⟨q, q1, q2, q3, q4, q5, q6⟩ := c13 j hj'
      refine ⟨q, q1, q2, by omega, by rw [un _ _ q q3]; exact q4, by rw [ts q (by omega), ts b t3]; exact q5, fun i hi1 hi2 => ?_⟩
      rw [ts q (by omega)]
      by_cases ei : i = st + 1
      · rw [ei, ts1]
        have := q6 st q3 (Nat.le_refl _); omega
      · rw [ts i (by omega)]; exact q6 i hi1 (by omega)
    by_cases z : k = 4 ∨ k = 5
    · obtain ⟨z1, z2, z3⟩ := hp1 z
      rw [z2]
      by_cases ej : j = p
      · have h1 : tx_t (upd a_codes st k) st = 1 := by
          rcases z with z | z
          · exact tx_t4 (by rw [pk_us]; exact z)
          · exact tx_t5 (by rw [pk_us]; exact z)
        refine ⟨st, by rw [ej, pk_us], t3, by omega, by rw [pk_us]; exact z, by rw [ts st (Nat.le_refl _), ts b t3, ej]; omega, fun i hi1 hi2 => ?_⟩
        have : i = st + 1 := by omega
        rw [this, ts1, ts st (Nat.le_refl _), h1]; omega
      · rw [pk_un ej]; exact old (by omega)
    · rw [(hp0 z).2]; exact old (by rw [(hp0 z).1] at hj; exact hj)
end
end
section
theorem tx_Wnew {ar mk kd ex lf rt sp us bo ln ot aO bO : Nat → Int32} {sc sc' : Nat → Nat} {bw bw' : Nat → Int32} {cm st : Nat} {k e l r u nl o aN bN : Int32}
    (hk : k = 0 ∨ k = 1 ∨ k = 2 ∨ k = 3 ∨ k = 4 ∨ k = 5 ∨ k = 6) (s0 : sc' st = sc st) (b0 : bw' st = bw st) (h12 : sc st ≤ 12) (hbw : ∀ v, v < 32 → bt (bw st) v = true → v < sc st)
    (ha : (aN = -1 ∧ l = 0) ∨ ∃ a, a < sc st ∧ aN = nI a ∧ l = nI a) (hb : (bN = -1 ∧ r = 0) ∨ ∃ b, b < sc st ∧ bN = nI b ∧ r = nI b) (hu : ∀ v, v < 32 → (bt u v = true ↔ (aN = nI v ∨ bN = nI v)))
    (h6 : k ≠ 0 → k ≠ 3 → aN ≠ -1) (h7 : k = 1 ∨ k = 2 → bN ≠ -1)
    (h8 : k = 3 → ∃ f, f < 6 ∧ f < cm ∧ e = nI f ∧ (ar f = 0 ∧ aN = -1 ∧ bN = -1 ∨ ar f = 1 ∧ aN ≠ -1 ∧ bN = -1 ∨ ar f = 2 ∧ aN ≠ -1 ∧ bN ≠ -1) ∧
      (∀ v, v < 32 → (bt nl v = true ↔ (bt (bw st) v = false ∧ (aN = nI v ∧ bt (mk f) 0 = true ∨ bN = nI v ∧ bt (mk f) 1 = true)))))
    (h9 : k = 0 ∨ k = 1 ∨ k = 2 ∨ k = 3 → sc' (st + 1) = sc st + 1 ∧ sc' (st + 1) ≤ 12 ∧ bw' (st + 1) = bw st)
    (h10 : k = 4 → sc' (st + 1) = sc st + 2 ∧ sc' (st + 1) ≤ 12 ∧ ∀ v, v < 32 → bt (bw' (st + 1)) v = (bt (bw st) v || ((decide (v = sc st) || decide (v = sc st + 1)) && bt (bw st) l.toNatClampNeg)))
    (h11 : k = 5 → sc' (st + 1) = sc st ∧ bw' (st + 1) = bw st) :
    tx_W ar mk (upd kd st k) (upd ex st e) (upd lf st l) (upd rt st r) (upd sp st (nI (sc st))) (upd us st u) (upd bo st (bw st)) (upd ln st nl) (upd ot st o) (upd aO st aN) (upd bO st bN) sc' bw' cm (st + 1) st := by
  unfold tx_W
  rw [pk_us, pk_us, pk_us, pk_us, pk_us, pk_us, pk_us, pk_us, pk_us, pk_us, pk_us, s0, b0]
  refine ⟨hk, ⟨rfl, rfl, h12, hbw⟩, ha, hb, hu, h6, h7, h8, h9, h10, h11, fun _ m hT hm => ?_⟩
  have := hT.1
  omega
section
variable {f_codeNum f_codeOp f_codeCon f_codeCall f_codeMatch f_codeIfZero f_codeRet : Int32} {f_cellBase f_unseen : Int64} {f_capacity f_depth f_complete f_open f_stored f_scope f_borrowedNow f_pending f_liveCells f_frames f_spareTotal f_state f_borrowing f_reusing f_keeping : Int32} {f_result : Int64} {f_steps f_fresh f_reused f_peak : Int32} {a_arities a_masks a_starts a_codes a_extras a_lefts a_rights a_scopes a_uses a_borrowed a_lends a_others a_frees a_afters a_builds a_pendingAt a_tags : Nat → Int32} {a_firsts a_seconds : Nat → Int64} {a_digests a_counts a_places a_work a_marks : Nat → Int32} {a_variables : Nat → Int64} {a_currents a_held a_spareCounts : Nat → Int32}
theorem xf_store {post : Int32 → SX → Prop} {st : Nat} {p0 p1 p2 p3 p4 : Int32} (hst : st < 96)
    (h : post (nI st) (f_codeNum, f_codeOp, f_codeCon, f_codeCall, f_codeMatch, f_codeIfZero, f_codeRet, f_cellBase, f_unseen, f_capacity, f_depth, f_complete, f_open, nI (st + 1), f_scope, f_borrowedNow, f_pending, f_liveCells, f_frames, f_spareTotal, f_state, f_borrowing, f_reusing, f_keeping, f_result, f_steps, f_fresh, f_reused, f_peak, a_arities, a_masks, a_starts, upd a_codes st p0, upd a_extras st p1, upd a_lefts st p2, upd a_rights st p3, upd a_scopes st f_scope, upd a_uses st p4, upd a_borrowed st f_borrowedNow, upd a_lends st 0, upd a_others st 0, a_frees, a_afters, a_builds, a_pendingAt, a_tags, a_firsts, a_seconds, a_digests, a_counts, a_places, a_work, a_marks, a_variables, a_currents, a_held, a_spareCounts)) :
    wpX_store post (f_codeNum, f_codeOp, f_codeCon, f_codeCall, f_codeMatch, f_codeIfZero, f_codeRet, f_cellBase, f_unseen, f_capacity, f_depth, f_complete, f_open, nI st, f_scope, f_borrowedNow, f_pending, f_liveCells, f_frames, f_spareTotal, f_state, f_borrowing, f_reusing, f_keeping, f_result, f_steps, f_fresh, f_reused, f_peak, a_arities, a_masks, a_starts, a_codes, a_extras, a_lefts, a_rights, a_scopes, a_uses, a_borrowed, a_lends, a_others, a_frees, a_afters, a_builds, a_pendingAt, a_tags, a_firsts, a_seconds, a_digests, a_counts, a_places, a_work, a_marks, a_variables, a_currents, a_held, a_spareCounts) p0 p1 p2 p3 p4 := by
  unfold wpX_store
  (try dsimp only)
  rw [nI_clamp (show st < 2 ^ 31 by omega)]
  have hi : vp_in (nI st) 96 := vp_in_nI hst (by omega)
  exact ⟨hi, nm_e ⟨hi, nm_e ⟨hi, nm_e ⟨hi, nm_e ⟨hi, nm_e ⟨hi, nm_e ⟨hi, nm_e ⟨hi, nm_e ⟨hi, nm_e (nm_r (nI_1 st) h)⟩⟩⟩⟩⟩⟩⟩⟩⟩
theorem xf_refuse {post : Int32 → Prop} {st : Nat} (hst : st ≤ 96) (h0 : f_open = 0 → post (-1)) (h1 : ¬ f_open = 0 → st = 96 → post (-3)) (h2 : ¬ f_open = 0 → st < 96 → post 0) : wpX_refuse post (f_codeNum, f_codeOp, f_codeCon, f_codeCall, f_codeMatch, f_codeIfZero, f_codeRet, f_cellBase, f_unseen, f_capacity, f_depth, f_complete, f_open, nI st, f_scope, f_borrowedNow, f_pending, f_liveCells, f_frames, f_spareTotal, f_state, f_borrowing, f_reusing, f_keeping, f_result, f_steps, f_fresh, f_reused, f_peak, a_arities, a_masks, a_starts, a_codes, a_extras, a_lefts, a_rights, a_scopes, a_uses, a_borrowed, a_lends, a_others, a_frees, a_afters, a_builds, a_pendingAt, a_tags, a_firsts, a_seconds, a_digests, a_counts, a_places, a_work, a_marks, a_variables, a_currents, a_held, a_spareCounts) :=
  br_c h0 (fun ho => pk_lt st 96 (fun z => h2 ho z) (fun z => h1 ho (by omega)))
theorem xf_in {post : Int32 → Prop} {a : Int32} (h0 : (a < 0 ∨ ¬ a < f_scope) → post 0) (h1 : ¬ a < 0 → a < f_scope → post 1) : wpX_inScope post (f_codeNum, f_codeOp, f_codeCon, f_codeCall, f_codeMatch, f_codeIfZero, f_codeRet, f_cellBase, f_unseen, f_capacity, f_depth, f_complete, f_open, f_stored, f_scope, f_borrowedNow, f_pending, f_liveCells, f_frames, f_spareTotal, f_state, f_borrowing, f_reusing, f_keeping, f_result, f_steps, f_fresh, f_reused, f_peak, a_arities, a_masks, a_starts, a_codes, a_extras, a_lefts, a_rights, a_scopes, a_uses, a_borrowed, a_lends, a_others, a_frees, a_afters, a_builds, a_pendingAt, a_tags, a_firsts, a_seconds, a_digests, a_counts, a_places, a_work, a_marks, a_variables, a_currents, a_held, a_spareCounts) a :=
  br_c (fun z => h0 (Or.inl z)) (fun z => br_c (fun w => h0 (Or.inr (Int32.not_lt.mpr w))) (fun w => h1 z (Int32.not_le.mp w)))
end
section
variable {g_cap g_most g_functions g_open g_stored g_scope g_state g_bits g_frames g_steps g_fresh g_reused g_peak g_resultCell g_resultNum g_seen : Int32} {b_firstOf b_arityOf b_maskOf b_kindOf b_numOf b_scopeOf b_aOf b_bOf b_cur b_spare b_varCell b_varNum b_borrowed b_tagOf b_fieldCell b_fieldNum b_marked b_digestOf : Nat → Int32}
variable {k e lim a b us : Int32}
theorem yf_37 {post : Int32 → SY → Prop} {st : Nat} (ho : ¬ g_open = 0) (hst : st < 96) (hk : k = 0 ∨ (¬ e < 0 ∧ e ≤ lim)) (h : wY_feed_37 post k e a b us g_cap g_most g_functions g_open (nI st) g_scope g_state g_bits g_frames g_steps g_fresh g_reused g_peak g_resultCell g_resultNum g_seen b_firstOf b_arityOf b_maskOf b_kindOf b_numOf b_scopeOf b_aOf b_bOf b_cur b_spare b_varCell b_varNum b_borrowed b_tagOf b_fieldCell b_fieldNum b_marked b_digestOf) : wpY_feed post (g_cap, g_most, g_functions, g_open, nI st, g_scope, g_state, g_bits, g_frames, g_steps, g_fresh, g_reused, g_peak, g_resultCell, g_resultNum, g_seen, b_firstOf, b_arityOf, b_maskOf, b_kindOf, b_numOf, b_scopeOf, b_aOf, b_bOf, b_cur, b_spare, b_varCell, b_varNum, b_borrowed, b_tagOf, b_fieldCell, b_fieldNum, b_marked, b_digestOf) k e lim a b us := by
  refine br_f ho (br_f (fun z => ?_) (br_c (fun _ => h) (fun z => ?_)))
  · rw [show (96 : Int32) = nI 96 from rfl, nI_eq (by omega) (by omega)] at z; omega
  · obtain ⟨h1, h2⟩ := hk.resolve_left z
    exact br_f h1 (br_t h2 h)
theorem yf_closed {post : Int32 → SY → Prop} (ho : g_open = 0) (h : post (-1) (g_cap, g_most, g_functions, g_open, g_stored, g_scope, g_state, g_bits, g_frames, g_steps, g_fresh, g_reused, g_peak, g_resultCell, g_resultNum, g_seen, b_firstOf, b_arityOf, b_maskOf, b_kindOf, b_numOf, b_scopeOf, b_aOf, b_bOf, b_cur, b_spare, b_varCell, b_varNum, b_borrowed, b_tagOf, b_fieldCell, b_fieldNum, b_marked, b_digestOf)) : wpY_feed post (g_cap, g_most, g_functions, g_open, g_stored, g_scope, g_state, g_bits, g_frames, g_steps, g_fresh, g_reused, g_peak, g_resultCell, g_resultNum, g_seen, b_firstOf, b_arityOf, b_maskOf, b_kindOf, b_numOf, b_scopeOf, b_aOf, b_bOf, b_cur, b_spare, b_varCell, b_varNum, b_borrowed, b_tagOf, b_fieldCell, b_fieldNum, b_marked, b_digestOf) k e lim a b us := br_t ho h
theorem yf_room {post : Int32 → SY → Prop} (ho : ¬ g_open = 0) (h : post (-3) (g_cap, g_most, g_functions, g_open, nI 96, g_scope, g_state, g_bits, g_frames, g_steps, g_fresh, g_reused, g_peak, g_resultCell, g_resultNum, g_seen, b_firstOf, b_arityOf, b_maskOf, b_kindOf, b_numOf, b_scopeOf, b_aOf, b_bOf, b_cur, b_spare, b_varCell, b_varNum, b_borrowed, b_tagOf, b_fieldCell, b_fieldNum, b_marked, b_digestOf)) : wpY_feed post (g_cap, g_most, g_functions, g_open, nI 96, g_scope, g_state, g_bits, g_frames, g_steps, g_fresh, g_reused, g_peak, g_resultCell, g_resultNum, g_seen, b_firstOf, b_arityOf, b_maskOf, b_kindOf, b_numOf, b_scopeOf, b_aOf, b_bOf, b_cur, b_spare, b_varCell, b_varNum, b_borrowed, b_tagOf, b_fieldCell, b_fieldNum, b_marked, b_digestOf) k e lim a b us := br_f ho (br_t rfl h)
theorem yf_badn {post : Int32 → SY → Prop} {st : Nat} (ho : ¬ g_open = 0) (hst : st < 96) (hk : ¬ k = 0) (hn : e < 0 ∨ ¬ e ≤ lim) (h : post (-4) (g_cap, g_most, g_functions, g_open, nI st, g_scope, g_state, g_bits, g_frames, g_steps, g_fresh, g_reused, g_peak, g_resultCell, g_resultNum, g_seen, b_firstOf, b_arityOf, b_maskOf, b_kindOf, b_numOf, b_scopeOf, b_aOf, b_bOf, b_cur, b_spare, b_varCell, b_varNum, b_borrowed, b_tagOf, b_fieldCell, b_fieldNum, b_marked, b_digestOf)) : wpY_feed post (g_cap, g_most, g_functions, g_open, nI st, g_scope, g_state, g_bits, g_frames, g_steps, g_fresh, g_reused, g_peak, g_resultCell, g_resultNum, g_seen, b_firstOf, b_arityOf, b_maskOf, b_kindOf, b_numOf, b_scopeOf, b_aOf, b_bOf, b_cur, b_spare, b_varCell, b_varNum, b_borrowed, b_tagOf, b_fieldCell, b_fieldNum, b_marked, b_digestOf) k e lim a b us := by
  refine br_f ho (br_f (fun z => ?_) (br_f hk (br_c (fun _ => h) (fun z => br_f (hn.resolve_left z) h))))
  rw [show (96 : Int32) = nI 96 from rfl, nI_eq (by omega) (by omega)] at z; omega
theorem yf_60 {post : Int32 → SY → Prop} (ha : us < 1 ∨ (¬ us < 1 ∧ ¬ a < 0 ∧ a < g_scope)) (h : wY_feed_60 post k e a b us g_cap g_most g_functions g_open g_stored g_scope g_state g_bits g_frames g_steps g_fresh g_reused g_peak g_resultCell g_resultNum g_seen b_firstOf b_arityOf b_maskOf b_kindOf b_numOf b_scopeOf b_aOf b_bOf b_cur b_spare b_varCell b_varNum b_borrowed b_tagOf b_fieldCell b_fieldNum b_marked b_digestOf) : wY_feed_37 post k e a b us g_cap g_most g_functions g_open g_stored g_scope g_state g_bits g_frames g_steps g_fresh g_reused g_peak g_resultCell g_resultNum g_seen b_firstOf b_arityOf b_maskOf b_kindOf b_numOf b_scopeOf b_aOf b_bOf b_cur b_spare b_varCell b_varNum b_borrowed b_tagOf b_fieldCell b_fieldNum b_marked b_digestOf := by
  unfold wY_feed_37
  rcases ha with z | ⟨z, z1, z2⟩
  · exact br_t z h
  · exact br_f z (br_f z1 (br_t z2 h))
theorem yf_bada {post : Int32 → SY → Prop} (hu : ¬ us < 1) (ha : a < 0 ∨ ¬ a < g_scope) (h : post (-5) (g_cap, g_most, g_functions, g_open, g_stored, g_scope, g_state, g_bits, g_frames, g_steps, g_fresh, g_reused, g_peak, g_resultCell, g_resultNum, g_seen, b_firstOf, b_arityOf, b_maskOf, b_kindOf, b_numOf, b_scopeOf, b_aOf, b_bOf, b_cur, b_spare, b_varCell, b_varNum, b_borrowed, b_tagOf, b_fieldCell, b_fieldNum, b_marked, b_digestOf)) : wY_feed_37 post k e a b us g_cap g_most g_functions g_open g_stored g_scope g_state g_bits g_frames g_steps g_fresh g_reused g_peak g_resultCell g_resultNum g_seen b_firstOf b_arityOf b_maskOf b_kindOf b_numOf b_scopeOf b_aOf b_bOf b_cur b_spare b_varCell b_varNum b_borrowed b_tagOf b_fieldCell b_fieldNum b_marked b_digestOf := by
  unfold wY_feed_37
  exact br_f hu (br_c (fun _ => h) (fun z => br_f (ha.resolve_left z) h))
theorem yf_83 {post : Int32 → SY → Prop} (hb : ¬ us = 2 ∨ (us = 2 ∧ ¬ b < 0 ∧ b < g_scope)) (h : wY_feed_83 post k e a b us g_cap g_most g_functions g_open g_stored g_scope g_state g_bits g_frames g_steps g_fresh g_reused g_peak g_resultCell g_resultNum g_seen b_firstOf b_arityOf b_maskOf b_kindOf b_numOf b_scopeOf b_aOf b_bOf b_cur b_spare b_varCell b_varNum b_borrowed b_tagOf b_fieldCell b_fieldNum b_marked b_digestOf) : wY_feed_60 post k e a b us g_cap g_most g_functions g_open g_stored g_scope g_state g_bits g_frames g_steps g_fresh g_reused g_peak g_resultCell g_resultNum g_seen b_firstOf b_arityOf b_maskOf b_kindOf b_numOf b_scopeOf b_aOf b_bOf b_cur b_spare b_varCell b_varNum b_borrowed b_tagOf b_fieldCell b_fieldNum b_marked b_digestOf := by
  unfold wY_feed_60
  rcases hb with z | ⟨z, z1, z2⟩
  · exact br_f z h
  · exact br_t z (br_f z1 (br_t z2 h))
theorem yf_badb {post : Int32 → SY → Prop} (hu : us = 2) (hb : b < 0 ∨ ¬ b < g_scope) (h : post (-5) (g_cap, g_most, g_functions, g_open, g_stored, g_scope, g_state, g_bits, g_frames, g_steps, g_fresh, g_reused, g_peak, g_resultCell, g_resultNum, g_seen, b_firstOf, b_arityOf, b_maskOf, b_kindOf, b_numOf, b_scopeOf, b_aOf, b_bOf, b_cur, b_spare, b_varCell, b_varNum, b_borrowed, b_tagOf, b_fieldCell, b_fieldNum, b_marked, b_digestOf)) : wY_feed_60 post k e a b us g_cap g_most g_functions g_open g_stored g_scope g_state g_bits g_frames g_steps g_fresh g_reused g_peak g_resultCell g_resultNum g_seen b_firstOf b_arityOf b_maskOf b_kindOf b_numOf b_scopeOf b_aOf b_bOf b_cur b_spare b_varCell b_varNum b_borrowed b_tagOf b_fieldCell b_fieldNum b_marked b_digestOf := by
  unfold wY_feed_60
  exact br_t hu (br_c (fun _ => h) (fun z => br_f (hb.resolve_left z) h))
theorem yf_108 {post : Int32 → SY → Prop} {up : Nat} (hu : (k = 4 → up = 2) ∧ (k = 5 ∨ k = 6 → up = 0) ∧ (¬ (k = 4 ∨ k = 5 ∨ k = 6) → up = 1)) (h : wY_feed_108 post k e a b us (nI up) g_cap g_most g_functions g_open g_stored g_scope g_state g_bits g_frames g_steps g_fresh g_reused g_peak g_resultCell g_resultNum g_seen b_firstOf b_arityOf b_maskOf b_kindOf b_numOf b_scopeOf b_aOf b_bOf b_cur b_spare b_varCell b_varNum b_borrowed b_tagOf b_fieldCell b_fieldNum b_marked b_digestOf) : wY_feed_83 post k e a b us g_cap g_most g_functions g_open g_stored g_scope g_state g_bits g_frames g_steps g_fresh g_reused g_peak g_resultCell g_resultNum g_seen b_firstOf b_arityOf b_maskOf b_kindOf b_numOf b_scopeOf b_aOf b_bOf b_cur b_spare b_varCell b_varNum b_borrowed b_tagOf b_fieldCell b_fieldNum b_marked b_digestOf := by
  unfold wY_feed_83
  refine br_c (fun z => ?_) (fun z4 => br_c (fun z => ?_) (fun z5 => br_c (fun z => ?_) (fun z6 => ?_)))
  · rw [hu.1 z] at h; exact h
  · rw [hu.2.1 (Or.inl z)] at h
    unfold wY_feed_103; exact h
  · rw [hu.2.1 (Or.inr z)] at h
    unfold wY_feed_103; exact h
  · rw [hu.2.2 (fun w => w.elim z4 (fun w => w.elim z5 z6))] at h; exact h
theorem yf_many {post : Int32 → SY → Prop} {d up : Nat} (hd : 12 < d + up) (hd2 : d ≤ 100) (hu2 : up ≤ 2) (h : post (-6) (g_cap, g_most, g_functions, g_open, g_stored, nI d, g_state, g_bits, g_frames, g_steps, g_fresh, g_reused, g_peak, g_resultCell, g_resultNum, g_seen, b_firstOf, b_arityOf, b_maskOf, b_kindOf, b_numOf, b_scopeOf, b_aOf, b_bOf, b_cur, b_spare, b_varCell, b_varNum, b_borrowed, b_tagOf, b_fieldCell, b_fieldNum, b_marked, b_digestOf)) : wY_feed_108 post k e a b us (nI up) g_cap g_most g_functions g_open g_stored (nI d) g_state g_bits g_frames g_steps g_fresh g_reused g_peak g_resultCell g_resultNum g_seen b_firstOf b_arityOf b_maskOf b_kindOf b_numOf b_scopeOf b_aOf b_bOf b_cur b_spare b_varCell b_varNum b_borrowed b_tagOf b_fieldCell b_fieldNum b_marked b_digestOf := by
  unfold wY_feed_108
  rw [nI_add]
  exact br_f (nI_ge (a := 12) (by omega) (by omega)) h
theorem yf_152 {post : Int32 → SY → Prop} {st d up : Nat} {aN bN : Int32} (hst : st < 96) (eaN : aN = if us < 1 then -1 else a) (ebN : bN = if us = 2 then b else -1)
    (h : post (nI d) (g_cap, g_most, g_functions, g_open, nI (st + 1), nI (d + up), g_state, g_bits, g_frames, g_steps, g_fresh, g_reused, g_peak, g_resultCell, g_resultNum, g_seen, b_firstOf, b_arityOf, b_maskOf, upd b_kindOf st k, upd b_numOf st e, upd b_scopeOf st (nI d), upd b_aOf st aN, upd b_bOf st bN, b_cur, b_spare, b_varCell, b_varNum, b_borrowed, b_tagOf, b_fieldCell, b_fieldNum, b_marked, b_digestOf)) : wY_feed_152 post k e a b us (nI up) g_cap g_most g_functions g_open (nI st) (nI d) g_state g_bits g_frames g_steps g_fresh g_reused g_peak g_resultCell g_resultNum g_seen b_firstOf b_arityOf b_maskOf b_kindOf b_numOf b_scopeOf b_aOf b_bOf b_cur b_spare b_varCell b_varNum b_borrowed b_tagOf b_fieldCell b_fieldNum b_marked b_digestOf := by
  have hi : vp_in (nI st) 96 := vp_in_nI hst (by omega)
  have g226 : ∀ z0, z0 = bN → wY_feed_226 post (nI up) z0 (nI st) g_cap g_most g_functions g_open (nI st) (nI d) g_state g_bits g_frames g_steps g_fresh g_reused g_peak g_resultCell g_resultNum g_seen b_firstOf b_arityOf b_maskOf (upd b_kindOf st k) (upd b_numOf st e) (upd b_scopeOf st (nI d)) (upd b_aOf st aN) b_bOf b_cur b_spare b_varCell b_varNum b_borrowed b_tagOf b_fieldCell b_fieldNum b_marked b_digestOf := by
    intro z0 e0
    unfold wY_feed_226
    rw [nI_clamp (show st < 2 ^ 31 by omega), e0]
    refine ⟨hi, nm_e (nm_r (nI_1 st) (nm_r (nI_add d up) ?_))⟩
    rw [pk_sub (by omega), Nat.add_sub_cancel]
    exact h
  have g205 : ∀ z0, z0 = aN → wY_feed_205 post b us (nI up) z0 (nI st) g_cap g_most g_functions g_open (nI st) (nI d) g_state g_bits g_frames g_steps g_fresh g_reused g_peak g_resultCell g_resultNum g_seen b_firstOf b_arityOf b_maskOf (upd b_kindOf st k) (upd b_numOf st e) (upd b_scopeOf st (nI d)) b_aOf b_bOf b_cur b_spare b_varCell b_varNum b_borrowed b_tagOf b_fieldCell b_fieldNum b_marked b_digestOf := by
    intro z0 e0
    unfold wY_feed_205
    rw [nI_clamp (show st < 2 ^ 31 by omega), e0]
    exact ⟨hi, nm_e (br_c (fun z => g226 _ (by rw [ebN, if_pos z])) (fun z => g226 _ (by rw [ebN, if_neg z])))⟩
  unfold wY_feed_152
  rw [nI_clamp (show st < 2 ^ 31 by omega)]
  exact ⟨hi, nm_e ⟨hi, nm_e ⟨hi, nm_e (br_c (fun z => g205 _ (by rw [eaN, if_pos z])) (fun z => g205 _ (by rw [eaN, if_neg z])))⟩⟩⟩
theorem yf_ok {post : Int32 → SY → Prop} {st d up cm b0 p : Nat} {aN bN : Int32} (ho : ¬ g_open = 0) (hst : st < 96) (hd : d + up ≤ 12) (hcm : cm < 6) (hb0 : b_firstOf cm = nI b0) (hbs : b0 ≤ st) (hO : ∀ i, b0 ≤ i → i ≤ st → tx_s b_kindOf b0 ≤ tx_s b_kindOf i) (hp : (p : Int) = tx_s b_kindOf st - tx_s b_kindOf b0) (hp8 : p ≤ 8)
    (h8 : k = 4 ∨ k = 5 → p ≠ 8) (eaN : aN = if us < 1 then -1 else a) (ebN : bN = if us = 2 then b else -1)
    (h : post (nI d) (g_cap, g_most, nI cm, g_open, nI (st + 1), nI (d + up), g_state, g_bits, g_frames, g_steps, g_fresh, g_reused, g_peak, g_resultCell, g_resultNum, g_seen, b_firstOf, b_arityOf, b_maskOf, upd b_kindOf st k, upd b_numOf st e, upd b_scopeOf st (nI d), upd b_aOf st aN, upd b_bOf st bN, b_cur, b_spare, b_varCell, b_varNum, b_borrowed, b_tagOf, b_fieldCell, b_fieldNum, b_marked, b_digestOf)) : wY_feed_108 post k e a b us (nI up) g_cap g_most (nI cm) g_open (nI st) (nI d) g_state g_bits g_frames g_steps g_fresh g_reused g_peak g_resultCell g_resultNum g_seen b_firstOf b_arityOf b_maskOf b_kindOf b_numOf b_scopeOf b_aOf b_bOf b_cur b_spare b_varCell b_varNum b_borrowed b_tagOf b_fieldCell b_fieldNum b_marked b_digestOf := by
  have g := yf_152 (post := post) (k := k) (e := e) (a := a) (b := b) (us := us) (g_functions := nI cm) hst eaN ebN h
  unfold wY_feed_108
  rw [nI_add]
  refine br_t (nI_le (b := 12) hd (by omega)) (yw_prO ho hcm hb0 hbs (by omega) hO hp (br_f (by decide) (br_f (by decide) (br_f (by decide) (br_t rfl ?_)))))
  have g142 : k = 4 ∨ k = 5 → wY_feed_142 post k e a b us (nI up) (nI p) g_cap g_most (nI cm) g_open (nI st) (nI d) g_state g_bits g_frames g_steps g_fresh g_reused g_peak g_resultCell g_resultNum g_seen b_firstOf b_arityOf b_maskOf b_kindOf b_numOf b_scopeOf b_aOf b_bOf b_cur b_spare b_varCell b_varNum b_borrowed b_tagOf b_fieldCell b_fieldNum b_marked b_digestOf := fun z => by
    unfold wY_feed_142
    exact br_f (fun w => by rw [show (8 : Int32) = nI 8 from rfl, nI_eq (by omega) (by omega)] at w; exact h8 z w) g
  exact br_c (fun z => g142 (Or.inl z)) (fun _ => br_c (fun z => g142 (Or.inr z)) (fun _ => g))
theorem yf_deep {post : Int32 → SY → Prop} {st d up cm b0 : Nat} (ho : ¬ g_open = 0) (hst : st < 96) (hd : d + up ≤ 12) (hcm : cm < 6) (hb0 : b_firstOf cm = nI b0) (hbs : b0 ≤ st) (hO : ∀ i, b0 ≤ i → i ≤ st → tx_s b_kindOf b0 ≤ tx_s b_kindOf i) (hp : (8 : Int) = tx_s b_kindOf st - tx_s b_kindOf b0)
    (h8 : k = 4 ∨ k = 5) (h : post (-7) (g_cap, g_most, nI cm, g_open, nI st, nI d, g_state, g_bits, g_frames, g_steps, g_fresh, g_reused, g_peak, g_resultCell, g_resultNum, g_seen, b_firstOf, b_arityOf, b_maskOf, b_kindOf, b_numOf, b_scopeOf, b_aOf, b_bOf, b_cur, b_spare, b_varCell, b_varNum, b_borrowed, b_tagOf, b_fieldCell, b_fieldNum, b_marked, b_digestOf)) : wY_feed_108 post k e a b us (nI up) g_cap g_most (nI cm) g_open (nI st) (nI d) g_state g_bits g_frames g_steps g_fresh g_reused g_peak g_resultCell g_resultNum g_seen b_firstOf b_arityOf b_maskOf b_kindOf b_numOf b_scopeOf b_aOf b_bOf b_cur b_spare b_varCell b_varNum b_borrowed b_tagOf b_fieldCell b_fieldNum b_marked b_digestOf := by
  unfold wY_feed_108
  rw [nI_add]
  refine br_t (nI_le (b := 12) hd (by omega)) (yw_prO (p := 8) ho hcm hb0 hbs (by omega) hO hp (br_f (by decide) (br_f (by decide) (br_f (by decide) (br_t rfl ?_)))))
  have g142 : wY_feed_142 post k e a b us (nI up) (nI 8) g_cap g_most (nI cm) g_open (nI st) (nI d) g_state g_bits g_frames g_steps g_fresh g_reused g_peak g_resultCell g_resultNum g_seen b_firstOf b_arityOf b_maskOf b_kindOf b_numOf b_scopeOf b_aOf b_bOf b_cur b_spare b_varCell b_varNum b_borrowed b_tagOf b_fieldCell b_fieldNum b_marked b_digestOf := by
    unfold wY_feed_142
    exact br_t rfl h
  exact br_c (fun z => g142) (fun z => br_t (h8.resolve_left z) g142)
end
end
section
theorem i_vc_num {k : Nat} {u : SX} {v : SY} (I : i_Rel k u v) (hk : k + 5 ≤ 2562) (v1 : Int32) : wpX_num (fun r u' => wpY_num (fun r' v' => r' = r ∧ i_Rel (k + 5) u' v') v v1) u v1 := by
  refine zz_el (P := fun u v => wpX_num (fun r u' => wpY_num (fun r' v' => r' = r ∧ i_Rel (k + 5) u' v') v v1) u v1) ?_ u v I
  intro f_codeNum f_codeOp f_codeCon f_codeCall f_codeMatch f_codeIfZero f_codeRet f_cellBase f_unseen f_capacity f_depth f_complete f_open f_stored f_scope f_borrowedNow f_pending f_liveCells f_frames f_spareTotal f_state f_borrowing f_reusing f_keeping f_result f_steps f_fresh f_reused f_peak a_arities a_masks a_starts a_codes a_extras a_lefts a_rights a_scopes a_uses a_borrowed a_lends a_others a_frees a_afters a_builds a_pendingAt a_tags a_firsts a_seconds a_digests a_counts a_places a_work a_marks a_variables a_currents a_held a_spareCounts g_bits g_resultCell g_resultNum g_seen b_aOf b_bOf b_spare b_varCell b_varNum b_borrowed b_tagOf b_fieldCell b_fieldNum b_marked b_digestOf F
  have J : i_Rel (k + 5) (f_codeNum, f_codeOp, f_codeCon, f_codeCall, f_codeMatch, f_codeIfZero, f_codeRet, f_cellBase, f_unseen, f_capacity, f_depth, f_complete, f_open, f_stored, f_scope, f_borrowedNow, f_pending, f_liveCells, f_frames, f_spareTotal, f_state, f_borrowing, f_reusing, f_keeping, f_result, f_steps, f_fresh, f_reused, f_peak, a_arities, a_masks, a_starts, a_codes, a_extras, a_lefts, a_rights, a_scopes, a_uses, a_borrowed, a_lends, a_others, a_frees, a_afters, a_builds, a_pendingAt, a_tags, a_firsts, a_seconds, a_digests, a_counts, a_places, a_work, a_marks, a_variables, a_currents, a_held, a_spareCounts) (f_capacity, f_depth, f_complete, f_open, f_stored, f_scope, f_state, g_bits, f_frames, f_steps, f_fresh, f_reused, f_peak, g_resultCell, g_resultNum, g_seen, a_starts, a_arities, a_masks, a_codes, a_extras, a_scopes, b_aOf, b_bOf, a_currents, b_spare, b_varCell, b_varNum, b_borrowed, b_tagOf, b_fieldCell, b_fieldNum, b_marked, b_digestOf) := zz_in F
  obtain ⟨sc, bw, cm, b, st, p, cu, sg, rk, sp, L, n, lv, cp, dp, T, R⟩ := F
  have T0 := T
  obtain ⟨t1, t2, t3, t4, C, t6⟩ := T
  subst t1 t2
  unfold wpX_num
  refine xf_refuse t4 (fun ho => br_f (by decide) ?_) (fun ho h96 => br_f (by decide) ?_) (fun ho hst => br_t rfl ?_)
  · unfold wpY_num
    exact yf_closed ho ⟨rfl, J⟩
  · subst h96
    unfold wpY_num
    exact yf_room ho ⟨rfl, J⟩

  obtain ⟨o1, O⟩ := t6.resolve_left (fun z => ho z.1)
  have ⟨c1, c2, c3, c4, c5, c6, c7, c8, c9, c10, c11, c12, c13⟩ := O
  subst o1 c3 c5 c7

  have done : ∀ (kk e l r u nl aN bN : Int32) (ns : Nat) (nb : Int32) (p' : Nat) (pa' : Nat → Int32), kk ≠ 6 → st < 96 →
      tx_W a_arities a_masks (upd a_codes st kk) (upd a_extras st e) (upd a_lefts st l) (upd a_rights st r) (upd a_scopes st (nI (sc st))) (upd a_uses st u) (upd a_borrowed st (bw st)) (upd a_lends st nl) (upd a_others st 0) (upd b_aOf st aN) (upd b_bOf st bN) (fun j => if j = st + 1 then ns else sc j) (fun j => if j = st + 1 then nb else bw j) (cm + 1) (st + 1) st →
      ns ≤ 12 → (∀ v, v < 32 → bt nb v = true → v < ns) → (¬ (kk = 4 ∨ kk = 5) → p' = p ∧ pa' = a_pendingAt) → (kk = 4 ∨ kk = 5 → p' = p + 1 ∧ pa' = upd a_pendingAt p (nI st) ∧ p < 8) →
      i_Rel (k + 5) (f_codeNum, f_codeOp, f_codeCon, f_codeCall, f_codeMatch, f_codeIfZero, f_codeRet, f_cellBase, f_unseen, f_capacity, f_depth, nI cm, 1, nI (st + 1), nI ns, nb, nI p', f_liveCells, f_frames, f_spareTotal, f_state, f_borrowing, f_reusing, f_keeping, f_result, f_steps, f_fresh, f_reused, f_peak, a_arities, a_masks, a_starts, upd a_codes st kk, upd a_extras st e, upd a_lefts st l, upd a_rights st r, upd a_scopes st (nI (sc st)), upd a_uses st u, upd a_borrowed st (bw st), upd a_lends st nl, upd a_others st 0, a_frees, a_afters, a_builds, pa', a_tags, a_firsts, a_seconds, a_digests, a_counts, a_places, a_work, a_marks, a_variables, a_currents, a_held, a_spareCounts) (f_capacity, f_depth, nI cm, 1, nI (st + 1), nI ns, f_state, g_bits, f_frames, f_steps, f_fresh, f_reused, f_peak, g_resultCell, g_resultNum, g_seen, a_starts, a_arities, a_masks, upd a_codes st kk, upd a_extras st e, upd a_scopes st (nI (sc st)), upd b_aOf st aN, upd b_bOf st bN, a_currents, b_spare, b_varCell, b_varNum, b_borrowed, b_tagOf, b_fieldCell, b_fieldNum, b_marked, b_digestOf) := by
    intro kk e l r u nl aN bN ns nb p' pa' h6 hst W hns hnb hp0 hp1
    refine zz_in ⟨_, _, cm, b, st + 1, p', cu, sg, rk, sp, L, n, lv, cp, dp, tr_store T0 (by decide) hst h6 W hns hnb hp0 hp1, rr_Rt R (Nat.le_refl _) (fun i hi => pk_un (by omega)) (fun i hi => pk_un (by omega)) (fun i hi => pk_un (by omega)) (fun _ _ => rfl) (fun _ _ => rfl) (fun i hi => if_neg (by omega))⟩

  refine pk_lt (sc st) 12 (fun z => xf_store hst ?_) (fun z => ?_)
  · unfold wpX_bind
    refine nm_r (nI_1 (sc st)) ?_
    unfold wpY_num
    refine yf_37 (by decide) hst (Or.inl rfl) (yf_60 (Or.inl (by decide)) (yf_83 (Or.inl (by decide)) (yf_108 (up := 1) ⟨fun z => absurd z (by decide), fun z => z.elim (fun z => absurd z (by decide)) (fun z => absurd z (by decide)), fun _ => rfl⟩ (yf_ok (aN := -1) (bN := -1) (by decide) hst (by omega) c1 c2 t3 c11 c12 c8 (fun z => z.elim (fun z => absurd z (by decide)) (fun z => absurd z (by decide))) rfl rfl ⟨rfl, ?_⟩))))
    refine done 0 v1 0 0 0 0 (-1) (-1) (sc st + 1) (bw st) p a_pendingAt (by decide) hst (tx_Wnew (Or.inl rfl) (if_neg (by omega)) (if_neg (by omega)) c4 c6 (Or.inl ⟨rfl, rfl⟩) (Or.inl ⟨rfl, rfl⟩) (fun v hv => ?_) (fun z => absurd rfl z) (fun z => z.elim (fun z => absurd z (by decide)) (fun z => absurd z (by decide))) (fun z => absurd z (by decide)) (fun _ => ⟨if_pos rfl, by (try dsimp only); rw [if_pos rfl]; omega, if_pos rfl⟩) (fun z => absurd z (by decide)) (fun z => absurd z (by decide))) (by omega) (fun v hv h => by have := c6 v hv h; omega) (fun _ => ⟨rfl, rfl⟩) (fun z => z.elim (fun z => absurd z (by decide)) (fun z => absurd z (by decide)))
    rw [b_0]
    exact ⟨fun z => absurd z (by decide), fun z => z.elim (fun z => absurd z (rr_m1 (by omega))) (fun z => absurd z (rr_m1 (by omega)))⟩
  · unfold wpY_num
    exact yf_37 (by decide) hst (Or.inl rfl) (yf_60 (Or.inl (by decide)) (yf_83 (Or.inl (by decide)) (yf_108 (up := 1) ⟨fun z => absurd z (by decide), fun z => z.elim (fun z => absurd z (by decide)) (fun z => absurd z (by decide)), fun _ => rfl⟩ (yf_many (by omega) (by omega) (by omega) ⟨rfl, J⟩))))
theorem i_vc_op {k : Nat} {u : SX} {v : SY} (I : i_Rel k u v) (hk : k + 5 ≤ 2562) (v1 : Int32) (v2 : Int32) (v3 : Int32) : wpX_op (fun r u' => wpY_op (fun r' v' => r' = r ∧ i_Rel (k + 5) u' v') v v1 v2 v3) u v1 v2 v3 := by
  refine zz_el (P := fun u v => wpX_op (fun r u' => wpY_op (fun r' v' => r' = r ∧ i_Rel (k + 5) u' v') v v1 v2 v3) u v1 v2 v3) ?_ u v I
  intro f_codeNum f_codeOp f_codeCon f_codeCall f_codeMatch f_codeIfZero f_codeRet f_cellBase f_unseen f_capacity f_depth f_complete f_open f_stored f_scope f_borrowedNow f_pending f_liveCells f_frames f_spareTotal f_state f_borrowing f_reusing f_keeping f_result f_steps f_fresh f_reused f_peak a_arities a_masks a_starts a_codes a_extras a_lefts a_rights a_scopes a_uses a_borrowed a_lends a_others a_frees a_afters a_builds a_pendingAt a_tags a_firsts a_seconds a_digests a_counts a_places a_work a_marks a_variables a_currents a_held a_spareCounts g_bits g_resultCell g_resultNum g_seen b_aOf b_bOf b_spare b_varCell b_varNum b_borrowed b_tagOf b_fieldCell b_fieldNum b_marked b_digestOf F
  have J : i_Rel (k + 5) (f_codeNum, f_codeOp, f_codeCon, f_codeCall, f_codeMatch, f_codeIfZero, f_codeRet, f_cellBase, f_unseen, f_capacity, f_depth, f_complete, f_open, f_stored, f_scope, f_borrowedNow, f_pending, f_liveCells, f_frames, f_spareTotal, f_state, f_borrowing, f_reusing, f_keeping, f_result, f_steps, f_fresh, f_reused, f_peak, a_arities, a_masks, a_starts, a_codes, a_extras, a_lefts, a_rights, a_scopes, a_uses, a_borrowed, a_lends, a_others, a_frees, a_afters, a_builds, a_pendingAt, a_tags, a_firsts, a_seconds, a_digests, a_counts, a_places, a_work, a_marks, a_variables, a_currents, a_held, a_spareCounts) (f_capacity, f_depth, f_complete, f_open, f_stored, f_scope, f_state, g_bits, f_frames, f_steps, f_fresh, f_reused, f_peak, g_resultCell, g_resultNum, g_seen, a_starts, a_arities, a_masks, a_codes, a_extras, a_scopes, b_aOf, b_bOf, a_currents, b_spare, b_varCell, b_varNum, b_borrowed, b_tagOf, b_fieldCell, b_fieldNum, b_marked, b_digestOf) := zz_in F
  obtain ⟨sc, bw, cm, b, st, p, cu, sg, rk, sp, L, n, lv, cp, dp, T, R⟩ := F
  have T0 := T
  obtain ⟨t1, t2, t3, t4, C, t6⟩ := T
  subst t1 t2
  unfold wpX_op wpX_feedPair
  refine xf_refuse t4 (fun ho => br_f (by decide) ?_) (fun ho h96 => br_f (by decide) ?_) (fun ho hst => br_t rfl ?_)
  · unfold wpY_op
    exact yf_closed ho ⟨rfl, J⟩
  · subst h96
    unfold wpY_op
    exact yf_room ho ⟨rfl, J⟩

  obtain ⟨o1, O⟩ := t6.resolve_left (fun z => ho z.1)
  have ⟨c1, c2, c3, c4, c5, c6, c7, c8, c9, c10, c11, c12, c13⟩ := O
  subst o1 c3 c5 c7

  have done : ∀ (kk e l r u nl aN bN : Int32) (ns : Nat) (nb : Int32) (p' : Nat) (pa' : Nat → Int32), kk ≠ 6 → st < 96 →
      tx_W a_arities a_masks (upd a_codes st kk) (upd a_extras st e) (upd a_lefts st l) (upd a_rights st r) (upd a_scopes st (nI (sc st))) (upd a_uses st u) (upd a_borrowed st (bw st)) (upd a_lends st nl) (upd a_others st 0) (upd b_aOf st aN) (upd b_bOf st bN) (fun j => if j = st + 1 then ns else sc j) (fun j => if j = st + 1 then nb else bw j) (cm + 1) (st + 1) st →
      ns ≤ 12 → (∀ v, v < 32 → bt nb v = true → v < ns) → (¬ (kk = 4 ∨ kk = 5) → p' = p ∧ pa' = a_pendingAt) → (kk = 4 ∨ kk = 5 → p' = p + 1 ∧ pa' = upd a_pendingAt p (nI st) ∧ p < 8) →
      i_Rel (k + 5) (f_codeNum, f_codeOp, f_codeCon, f_codeCall, f_codeMatch, f_codeIfZero, f_codeRet, f_cellBase, f_unseen, f_capacity, f_depth, nI cm, 1, nI (st + 1), nI ns, nb, nI p', f_liveCells, f_frames, f_spareTotal, f_state, f_borrowing, f_reusing, f_keeping, f_result, f_steps, f_fresh, f_reused, f_peak, a_arities, a_masks, a_starts, upd a_codes st kk, upd a_extras st e, upd a_lefts st l, upd a_rights st r, upd a_scopes st (nI (sc st)), upd a_uses st u, upd a_borrowed st (bw st), upd a_lends st nl, upd a_others st 0, a_frees, a_afters, a_builds, pa', a_tags, a_firsts, a_seconds, a_digests, a_counts, a_places, a_work, a_marks, a_variables, a_currents, a_held, a_spareCounts) (f_capacity, f_depth, nI cm, 1, nI (st + 1), nI ns, f_state, g_bits, f_frames, f_steps, f_fresh, f_reused, f_peak, g_resultCell, g_resultNum, g_seen, a_starts, a_arities, a_masks, upd a_codes st kk, upd a_extras st e, upd a_scopes st (nI (sc st)), upd b_aOf st aN, upd b_bOf st bN, a_currents, b_spare, b_varCell, b_varNum, b_borrowed, b_tagOf, b_fieldCell, b_fieldNum, b_marked, b_digestOf) := by
    intro kk e l r u nl aN bN ns nb p' pa' h6 hst W hns hnb hp0 hp1
    refine zz_in ⟨_, _, cm, b, st + 1, p', cu, sg, rk, sp, L, n, lv, cp, dp, tr_store T0 (by decide) hst h6 W hns hnb hp0 hp1, rr_Rt R (Nat.le_refl _) (fun i hi => pk_un (by omega)) (fun i hi => pk_un (by omega)) (fun i hi => pk_un (by omega)) (fun _ _ => rfl) (fun _ _ => rfl) (fun i hi => if_neg (by omega))⟩

  have up1 : ((1 : Int32) = 4 → 1 = 2) ∧ ((1 : Int32) = 5 ∨ (1 : Int32) = 6 → 1 = 0) ∧ (¬ ((1 : Int32) = 4 ∨ (1 : Int32) = 5 ∨ (1 : Int32) = 6) → 1 = 1) := ⟨fun z => absurd z (by decide), fun z => z.elim (fun z => absurd z (by decide)) (fun z => absurd z (by decide)), fun _ => rfl⟩
  have badn : (v1 < 0 ∨ ¬ v1 ≤ 4) → wpY_op (fun r' v' => r' = -4 ∧ i_Rel (k + 5) (f_codeNum, f_codeOp, f_codeCon, f_codeCall, f_codeMatch, f_codeIfZero, f_codeRet, f_cellBase, f_unseen, f_capacity, f_depth, nI cm, 1, nI st, nI (sc st), bw st, nI p, f_liveCells, f_frames, f_spareTotal, f_state, f_borrowing, f_reusing, f_keeping, f_result, f_steps, f_fresh, f_reused, f_peak, a_arities, a_masks, a_starts, a_codes, a_extras, a_lefts, a_rights, a_scopes, a_uses, a_borrowed, a_lends, a_others, a_frees, a_afters, a_builds, a_pendingAt, a_tags, a_firsts, a_seconds, a_digests, a_counts, a_places, a_work, a_marks, a_variables, a_currents, a_held, a_spareCounts) v') (f_capacity, f_depth, nI cm, 1, nI st, nI (sc st), f_state, g_bits, f_frames, f_steps, f_fresh, f_reused, f_peak, g_resultCell, g_resultNum, g_seen, a_starts, a_arities, a_masks, a_codes, a_extras, a_scopes, b_aOf, b_bOf, a_currents, b_spare, b_varCell, b_varNum, b_borrowed, b_tagOf, b_fieldCell, b_fieldNum, b_marked, b_digestOf) v1 v2 v3 := fun z => by
    unfold wpY_op
    exact yf_badn (by decide) hst (by decide) z ⟨rfl, J⟩
  refine br_c (fun n0 => badn (Or.inl n0)) (fun n0 => br_c (fun n1 => ?_) (fun n1 => badn (Or.inr n1)))
  refine xf_in (fun ha => br_t rfl ?_) (fun a0 a1 => br_f (by decide) (xf_in (fun hb => br_t rfl ?_) (fun b0 b1 => br_f (by decide) (pk_lt (sc st) 12 (fun z => xf_store hst ?_) (fun z => ?_)))))
  · unfold wpY_op
    exact yf_37 (by decide) hst (Or.inr ⟨n0, n1⟩) (yf_bada (by decide) ha ⟨rfl, J⟩)
  · unfold wpY_op
    exact yf_37 (by decide) hst (Or.inr ⟨n0, n1⟩) (yf_60 (Or.inr ⟨by decide, a0, a1⟩) (yf_badb rfl hb ⟨rfl, J⟩))
  · unfold wpX_bind
    refine nm_r (nI_1 (sc st)) ?_
    unfold wpY_op
    refine yf_37 (by decide) hst (Or.inr ⟨n0, n1⟩) (yf_60 (Or.inr ⟨by decide, a0, a1⟩) (yf_83 (Or.inr ⟨rfl, b0, b1⟩) (yf_108 (up := 1) up1 (yf_ok (aN := v2) (bN := v3) (by decide) hst (by omega) c1 c2 t3 c11 c12 c8 (fun z => z.elim (fun z => absurd z (by decide)) (fun z => absurd z (by decide))) rfl rfl ⟨rfl, ?_⟩))))
    obtain ⟨ja, hja, rfl⟩ := nI_of a0
    obtain ⟨jb, hjb, rfl⟩ := nI_of b0
    rw [nI_ltI hja (by omega)] at a1
    rw [nI_ltI hjb (by omega)] at b1
    refine done 1 v1 (nI ja) (nI jb) _ 0 (nI ja) (nI jb) (sc st + 1) (bw st) p a_pendingAt (by decide) hst (tx_Wnew (by decide) (if_neg (by omega)) (if_neg (by omega)) c4 c6 (Or.inr ⟨ja, a1, rfl, rfl⟩) (Or.inr ⟨jb, b1, rfl, rfl⟩) (fun v hv => ?_) (fun _ _ z => rr_m1 hja z.symm) (fun _ z => rr_m1 hjb z.symm) (fun z => absurd z (by decide)) (fun _ => ⟨if_pos rfl, by (try dsimp only); rw [if_pos rfl]; omega, if_pos rfl⟩) (fun z => absurd z (by decide)) (fun z => absurd z (by decide))) (by omega) (fun v hv h => by have := c6 v hv h; omega) (fun _ => ⟨rfl, rfl⟩) (fun z => z.elim (fun z => absurd z (by decide)) (fun z => absurd z (by decide)))
    rw [b_or, Bool.or_eq_true, rc_bit1 (by omega) hv, rc_bit1 (by omega) hv, decide_eq_true_iff, decide_eq_true_iff, nI_eq hja (by omega), nI_eq hjb (by omega)]
    exact ⟨fun z => z.elim (fun z => Or.inl z.symm) (fun z => Or.inr z.symm), fun z => z.elim (fun z => Or.inl z.symm) (fun z => Or.inr z.symm)⟩
  · unfold wpY_op
    exact yf_37 (by decide) hst (Or.inr ⟨n0, n1⟩) (yf_60 (Or.inr ⟨by decide, a0, a1⟩) (yf_83 (Or.inr ⟨rfl, b0, b1⟩) (yf_108 (up := 1) up1 (yf_many (by omega) (by omega) (by omega) ⟨rfl, J⟩))))
theorem i_vc_con {k : Nat} {u : SX} {v : SY} (I : i_Rel k u v) (hk : k + 5 ≤ 2562) (v1 : Int32) (v2 : Int32) (v3 : Int32) : wpX_con (fun r u' => wpY_con (fun r' v' => r' = r ∧ i_Rel (k + 5) u' v') v v1 v2 v3) u v1 v2 v3 := by
  refine zz_el (P := fun u v => wpX_con (fun r u' => wpY_con (fun r' v' => r' = r ∧ i_Rel (k + 5) u' v') v v1 v2 v3) u v1 v2 v3) ?_ u v I
  intro f_codeNum f_codeOp f_codeCon f_codeCall f_codeMatch f_codeIfZero f_codeRet f_cellBase f_unseen f_capacity f_depth f_complete f_open f_stored f_scope f_borrowedNow f_pending f_liveCells f_frames f_spareTotal f_state f_borrowing f_reusing f_keeping f_result f_steps f_fresh f_reused f_peak a_arities a_masks a_starts a_codes a_extras a_lefts a_rights a_scopes a_uses a_borrowed a_lends a_others a_frees a_afters a_builds a_pendingAt a_tags a_firsts a_seconds a_digests a_counts a_places a_work a_marks a_variables a_currents a_held a_spareCounts g_bits g_resultCell g_resultNum g_seen b_aOf b_bOf b_spare b_varCell b_varNum b_borrowed b_tagOf b_fieldCell b_fieldNum b_marked b_digestOf F
  have J : i_Rel (k + 5) (f_codeNum, f_codeOp, f_codeCon, f_codeCall, f_codeMatch, f_codeIfZero, f_codeRet, f_cellBase, f_unseen, f_capacity, f_depth, f_complete, f_open, f_stored, f_scope, f_borrowedNow, f_pending, f_liveCells, f_frames, f_spareTotal, f_state, f_borrowing, f_reusing, f_keeping, f_result, f_steps, f_fresh, f_reused, f_peak, a_arities, a_masks, a_starts, a_codes, a_extras, a_lefts, a_rights, a_scopes, a_uses, a_borrowed, a_lends, a_others, a_frees, a_afters, a_builds, a_pendingAt, a_tags, a_firsts, a_seconds, a_digests, a_counts, a_places, a_work, a_marks, a_variables, a_currents, a_held, a_spareCounts) (f_capacity, f_depth, f_complete, f_open, f_stored, f_scope, f_state, g_bits, f_frames, f_steps, f_fresh, f_reused, f_peak, g_resultCell, g_resultNum, g_seen, a_starts, a_arities, a_masks, a_codes, a_extras, a_scopes, b_aOf, b_bOf, a_currents, b_spare, b_varCell, b_varNum, b_borrowed, b_tagOf, b_fieldCell, b_fieldNum, b_marked, b_digestOf) := zz_in F
  obtain ⟨sc, bw, cm, b, st, p, cu, sg, rk, sp, L, n, lv, cp, dp, T, R⟩ := F
  have T0 := T
  obtain ⟨t1, t2, t3, t4, C, t6⟩ := T
  subst t1 t2
  unfold wpX_con wpX_feedPair
  refine xf_refuse t4 (fun ho => br_f (by decide) ?_) (fun ho h96 => br_f (by decide) ?_) (fun ho hst => br_t rfl ?_)
  · unfold wpY_con
    exact yf_closed ho ⟨rfl, J⟩
  · subst h96
    unfold wpY_con
    exact yf_room ho ⟨rfl, J⟩

  obtain ⟨o1, O⟩ := t6.resolve_left (fun z => ho z.1)
  have ⟨c1, c2, c3, c4, c5, c6, c7, c8, c9, c10, c11, c12, c13⟩ := O
  subst o1 c3 c5 c7

  have done : ∀ (kk e l r u nl aN bN : Int32) (ns : Nat) (nb : Int32) (p' : Nat) (pa' : Nat → Int32), kk ≠ 6 → st < 96 →
      tx_W a_arities a_masks (upd a_codes st kk) (upd a_extras st e) (upd a_lefts st l) (upd a_rights st r) (upd a_scopes st (nI (sc st))) (upd a_uses st u) (upd a_borrowed st (bw st)) (upd a_lends st nl) (upd a_others st 0) (upd b_aOf st aN) (upd b_bOf st bN) (fun j => if j = st + 1 then ns else sc j) (fun j => if j = st + 1 then nb else bw j) (cm + 1) (st + 1) st →
      ns ≤ 12 → (∀ v, v < 32 → bt nb v = true → v < ns) → (¬ (kk = 4 ∨ kk = 5) → p' = p ∧ pa' = a_pendingAt) → (kk = 4 ∨ kk = 5 → p' = p + 1 ∧ pa' = upd a_pendingAt p (nI st) ∧ p < 8) →
      i_Rel (k + 5) (f_codeNum, f_codeOp, f_codeCon, f_codeCall, f_codeMatch, f_codeIfZero, f_codeRet, f_cellBase, f_unseen, f_capacity, f_depth, nI cm, 1, nI (st + 1), nI ns, nb, nI p', f_liveCells, f_frames, f_spareTotal, f_state, f_borrowing, f_reusing, f_keeping, f_result, f_steps, f_fresh, f_reused, f_peak, a_arities, a_masks, a_starts, upd a_codes st kk, upd a_extras st e, upd a_lefts st l, upd a_rights st r, upd a_scopes st (nI (sc st)), upd a_uses st u, upd a_borrowed st (bw st), upd a_lends st nl, upd a_others st 0, a_frees, a_afters, a_builds, pa', a_tags, a_firsts, a_seconds, a_digests, a_counts, a_places, a_work, a_marks, a_variables, a_currents, a_held, a_spareCounts) (f_capacity, f_depth, nI cm, 1, nI (st + 1), nI ns, f_state, g_bits, f_frames, f_steps, f_fresh, f_reused, f_peak, g_resultCell, g_resultNum, g_seen, a_starts, a_arities, a_masks, upd a_codes st kk, upd a_extras st e, upd a_scopes st (nI (sc st)), upd b_aOf st aN, upd b_bOf st bN, a_currents, b_spare, b_varCell, b_varNum, b_borrowed, b_tagOf, b_fieldCell, b_fieldNum, b_marked, b_digestOf) := by
    intro kk e l r u nl aN bN ns nb p' pa' h6 hst W hns hnb hp0 hp1
    refine zz_in ⟨_, _, cm, b, st + 1, p', cu, sg, rk, sp, L, n, lv, cp, dp, tr_store T0 (by decide) hst h6 W hns hnb hp0 hp1, rr_Rt R (Nat.le_refl _) (fun i hi => pk_un (by omega)) (fun i hi => pk_un (by omega)) (fun i hi => pk_un (by omega)) (fun _ _ => rfl) (fun _ _ => rfl) (fun i hi => if_neg (by omega))⟩

  have up1 : ((2 : Int32) = 4 → 1 = 2) ∧ ((2 : Int32) = 5 ∨ (2 : Int32) = 6 → 1 = 0) ∧ (¬ ((2 : Int32) = 4 ∨ (2 : Int32) = 5 ∨ (2 : Int32) = 6) → 1 = 1) := ⟨fun z => absurd z (by decide), fun z => z.elim (fun z => absurd z (by decide)) (fun z => absurd z (by decide)), fun _ => rfl⟩
  have badn : (v1 < 0 ∨ ¬ v1 ≤ 7) → wpY_con (fun r' v' => r' = -4 ∧ i_Rel (k + 5) (f_codeNum, f_codeOp, f_codeCon, f_codeCall, f_codeMatch, f_codeIfZero, f_codeRet, f_cellBase, f_unseen, f_capacity, f_depth, nI cm, 1, nI st, nI (sc st), bw st, nI p, f_liveCells, f_frames, f_spareTotal, f_state, f_borrowing, f_reusing, f_keeping, f_result, f_steps, f_fresh, f_reused, f_peak, a_arities, a_masks, a_starts, a_codes, a_extras, a_lefts, a_rights, a_scopes, a_uses, a_borrowed, a_lends, a_others, a_frees, a_afters, a_builds, a_pendingAt, a_tags, a_firsts, a_seconds, a_digests, a_counts, a_places, a_work, a_marks, a_variables, a_currents, a_held, a_spareCounts) v') (f_capacity, f_depth, nI cm, 1, nI st, nI (sc st), f_state, g_bits, f_frames, f_steps, f_fresh, f_reused, f_peak, g_resultCell, g_resultNum, g_seen, a_starts, a_arities, a_masks, a_codes, a_extras, a_scopes, b_aOf, b_bOf, a_currents, b_spare, b_varCell, b_varNum, b_borrowed, b_tagOf, b_fieldCell, b_fieldNum, b_marked, b_digestOf) v1 v2 v3 := fun z => by
    unfold wpY_con
    exact yf_badn (by decide) hst (by decide) z ⟨rfl, J⟩
  refine br_c (fun n0 => badn (Or.inl n0)) (fun n0 => br_c (fun n1 => ?_) (fun n1 => badn (Or.inr n1)))
  refine xf_in (fun ha => br_t rfl ?_) (fun a0 a1 => br_f (by decide) (xf_in (fun hb => br_t rfl ?_) (fun b0 b1 => br_f (by decide) (pk_lt (sc st) 12 (fun z => xf_store hst ?_) (fun z => ?_)))))
  · unfold wpY_con
    exact yf_37 (by decide) hst (Or.inr ⟨n0, n1⟩) (yf_bada (by decide) ha ⟨rfl, J⟩)
  · unfold wpY_con
    exact yf_37 (by decide) hst (Or.inr ⟨n0, n1⟩) (yf_60 (Or.inr ⟨by decide, a0, a1⟩) (yf_badb rfl hb ⟨rfl, J⟩))
  · unfold wpX_bind
    refine nm_r (nI_1 (sc st)) ?_
    unfold wpY_con
    refine yf_37 (by decide) hst (Or.inr ⟨n0, n1⟩) (yf_60 (Or.inr ⟨by decide, a0, a1⟩) (yf_83 (Or.inr ⟨rfl, b0, b1⟩) (yf_108 (up := 1) up1 (yf_ok (aN := v2) (bN := v3) (by decide) hst (by omega) c1 c2 t3 c11 c12 c8 (fun z => z.elim (fun z => absurd z (by decide)) (fun z => absurd z (by decide))) rfl rfl ⟨rfl, ?_⟩))))
    obtain ⟨ja, hja, rfl⟩ := nI_of a0
    obtain ⟨jb, hjb, rfl⟩ := nI_of b0
    rw [nI_ltI hja (by omega)] at a1
    rw [nI_ltI hjb (by omega)] at b1
    refine done 2 v1 (nI ja) (nI jb) _ 0 (nI ja) (nI jb) (sc st + 1) (bw st) p a_pendingAt (by decide) hst (tx_Wnew (by decide) (if_neg (by omega)) (if_neg (by omega)) c4 c6 (Or.inr ⟨ja, a1, rfl, rfl⟩) (Or.inr ⟨jb, b1, rfl, rfl⟩) (fun v hv => ?_) (fun _ _ z => rr_m1 hja z.symm) (fun _ z => rr_m1 hjb z.symm) (fun z => absurd z (by decide)) (fun _ => ⟨if_pos rfl, by (try dsimp only); rw [if_pos rfl]; omega, if_pos rfl⟩) (fun z => absurd z (by decide)) (fun z => absurd z (by decide))) (by omega) (fun v hv h => by have := c6 v hv h; omega) (fun _ => ⟨rfl, rfl⟩) (fun z => z.elim (fun z => absurd z (by decide)) (fun z => absurd z (by decide)))
    rw [b_or, Bool.or_eq_true, rc_bit1 (by omega) hv, rc_bit1 (by omega) hv, decide_eq_true_iff, decide_eq_true_iff, nI_eq hja (by omega), nI_eq hjb (by omega)]
    exact ⟨fun z => z.elim (fun z => Or.inl z.symm) (fun z => Or.inr z.symm), fun z => z.elim (fun z => Or.inl z.symm) (fun z => Or.inr z.symm)⟩
  · unfold wpY_con
    exact yf_37 (by decide) hst (Or.inr ⟨n0, n1⟩) (yf_60 (Or.inr ⟨by decide, a0, a1⟩) (yf_83 (Or.inr ⟨rfl, b0, b1⟩) (yf_108 (up := 1) up1 (yf_many (by omega) (by omega) (by omega) ⟨rfl, J⟩))))
end
section
theorem i_vc_match {k : Nat} {u : SX} {v : SY} (I : i_Rel k u v) (hk : k + 5 ≤ 2562) (v1 : Int32) (v2 : Int32) : wpX_match (fun r u' => wpY_match (fun r' v' => r' = r ∧ i_Rel (k + 5) u' v') v v1 v2) u v1 v2 := by
  refine zz_el (P := fun u v => wpX_match (fun r u' => wpY_match (fun r' v' => r' = r ∧ i_Rel (k + 5) u' v') v v1 v2) u v1 v2) ?_ u v I
  intro f_codeNum f_codeOp f_codeCon f_codeCall f_codeMatch f_codeIfZero f_codeRet f_cellBase f_unseen f_capacity f_depth f_complete f_open f_stored f_scope f_borrowedNow f_pending f_liveCells f_frames f_spareTotal f_state f_borrowing f_reusing f_keeping f_result f_steps f_fresh f_reused f_peak a_arities a_masks a_starts a_codes a_extras a_lefts a_rights a_scopes a_uses a_borrowed a_lends a_others a_frees a_afters a_builds a_pendingAt a_tags a_firsts a_seconds a_digests a_counts a_places a_work a_marks a_variables a_currents a_held a_spareCounts g_bits g_resultCell g_resultNum g_seen b_aOf b_bOf b_spare b_varCell b_varNum b_borrowed b_tagOf b_fieldCell b_fieldNum b_marked b_digestOf F
  have J : i_Rel (k + 5) (f_codeNum, f_codeOp, f_codeCon, f_codeCall, f_codeMatch, f_codeIfZero, f_codeRet, f_cellBase, f_unseen, f_capacity, f_depth, f_complete, f_open, f_stored, f_scope, f_borrowedNow, f_pending, f_liveCells, f_frames, f_spareTotal, f_state, f_borrowing, f_reusing, f_keeping, f_result, f_steps, f_fresh, f_reused, f_peak, a_arities, a_masks, a_starts, a_codes, a_extras, a_lefts, a_rights, a_scopes, a_uses, a_borrowed, a_lends, a_others, a_frees, a_afters, a_builds, a_pendingAt, a_tags, a_firsts, a_seconds, a_digests, a_counts, a_places, a_work, a_marks, a_variables, a_currents, a_held, a_spareCounts) (f_capacity, f_depth, f_complete, f_open, f_stored, f_scope, f_state, g_bits, f_frames, f_steps, f_fresh, f_reused, f_peak, g_resultCell, g_resultNum, g_seen, a_starts, a_arities, a_masks, a_codes, a_extras, a_scopes, b_aOf, b_bOf, a_currents, b_spare, b_varCell, b_varNum, b_borrowed, b_tagOf, b_fieldCell, b_fieldNum, b_marked, b_digestOf) := zz_in F
  obtain ⟨sc, bw, cm, b, st, p, cu, sg, rk, sp, L, n, lv, cp, dp, T, R⟩ := F
  have T0 := T
  obtain ⟨t1, t2, t3, t4, C, t6⟩ := T
  subst t1 t2
  unfold wpX_match
  refine xf_refuse t4 (fun ho => br_f (by decide) ?_) (fun ho h96 => br_f (by decide) ?_) (fun ho hst => br_t rfl ?_)
  · unfold wpY_match
    exact yf_closed ho ⟨rfl, J⟩
  · subst h96
    unfold wpY_match
    exact yf_room ho ⟨rfl, J⟩

  obtain ⟨o1, O⟩ := t6.resolve_left (fun z => ho z.1)
  have ⟨c1, c2, c3, c4, c5, c6, c7, c8, c9, c10, c11, c12, c13⟩ := O
  subst o1 c3 c5 c7

  have done : ∀ (kk e l r u nl aN bN : Int32) (ns : Nat) (nb : Int32) (p' : Nat) (pa' : Nat → Int32), kk ≠ 6 → st < 96 →
      tx_W a_arities a_masks (upd a_codes st kk) (upd a_extras st e) (upd a_lefts st l) (upd a_rights st r) (upd a_scopes st (nI (sc st))) (upd a_uses st u) (upd a_borrowed st (bw st)) (upd a_lends st nl) (upd a_others st 0) (upd b_aOf st aN) (upd b_bOf st bN) (fun j => if j = st + 1 then ns else sc j) (fun j => if j = st + 1 then nb else bw j) (cm + 1) (st + 1) st →
      ns ≤ 12 → (∀ v, v < 32 → bt nb v = true → v < ns) → (¬ (kk = 4 ∨ kk = 5) → p' = p ∧ pa' = a_pendingAt) → (kk = 4 ∨ kk = 5 → p' = p + 1 ∧ pa' = upd a_pendingAt p (nI st) ∧ p < 8) →
      i_Rel (k + 5) (f_codeNum, f_codeOp, f_codeCon, f_codeCall, f_codeMatch, f_codeIfZero, f_codeRet, f_cellBase, f_unseen, f_capacity, f_depth, nI cm, 1, nI (st + 1), nI ns, nb, nI p', f_liveCells, f_frames, f_spareTotal, f_state, f_borrowing, f_reusing, f_keeping, f_result, f_steps, f_fresh, f_reused, f_peak, a_arities, a_masks, a_starts, upd a_codes st kk, upd a_extras st e, upd a_lefts st l, upd a_rights st r, upd a_scopes st (nI (sc st)), upd a_uses st u, upd a_borrowed st (bw st), upd a_lends st nl, upd a_others st 0, a_frees, a_afters, a_builds, pa', a_tags, a_firsts, a_seconds, a_digests, a_counts, a_places, a_work, a_marks, a_variables, a_currents, a_held, a_spareCounts) (f_capacity, f_depth, nI cm, 1, nI (st + 1), nI ns, f_state, g_bits, f_frames, f_steps, f_fresh, f_reused, f_peak, g_resultCell, g_resultNum, g_seen, a_starts, a_arities, a_masks, upd a_codes st kk, upd a_extras st e, upd a_scopes st (nI (sc st)), upd b_aOf st aN, upd b_bOf st bN, a_currents, b_spare, b_varCell, b_varNum, b_borrowed, b_tagOf, b_fieldCell, b_fieldNum, b_marked, b_digestOf) := by
    intro kk e l r u nl aN bN ns nb p' pa' h6 hst W hns hnb hp0 hp1
    refine zz_in ⟨_, _, cm, b, st + 1, p', cu, sg, rk, sp, L, n, lv, cp, dp, tr_store T0 (by decide) hst h6 W hns hnb hp0 hp1, rr_Rt R (Nat.le_refl _) (fun i hi => pk_un (by omega)) (fun i hi => pk_un (by omega)) (fun i hi => pk_un (by omega)) (fun _ _ => rfl) (fun _ _ => rfl) (fun i hi => if_neg (by omega))⟩

  have up2 : ((4 : Int32) = 4 → 2 = 2) ∧ ((4 : Int32) = 5 ∨ (4 : Int32) = 6 → 2 = 0) ∧ (¬ ((4 : Int32) = 4 ∨ (4 : Int32) = 5 ∨ (4 : Int32) = 6) → 2 = 1) := ⟨fun _ => rfl, fun z => z.elim (fun z => absurd z (by decide)) (fun z => absurd z (by decide)), fun z => absurd (Or.inl rfl) z⟩
  have badn : (v2 < 0 ∨ ¬ v2 ≤ 7) → wpY_match (fun r' v' => r' = -4 ∧ i_Rel (k + 5) (f_codeNum, f_codeOp, f_codeCon, f_codeCall, f_codeMatch, f_codeIfZero, f_codeRet, f_cellBase, f_unseen, f_capacity, f_depth, nI cm, 1, nI st, nI (sc st), bw st, nI p, f_liveCells, f_frames, f_spareTotal, f_state, f_borrowing, f_reusing, f_keeping, f_result, f_steps, f_fresh, f_reused, f_peak, a_arities, a_masks, a_starts, a_codes, a_extras, a_lefts, a_rights, a_scopes, a_uses, a_borrowed, a_lends, a_others, a_frees, a_afters, a_builds, a_pendingAt, a_tags, a_firsts, a_seconds, a_digests, a_counts, a_places, a_work, a_marks, a_variables, a_currents, a_held, a_spareCounts) v') (f_capacity, f_depth, nI cm, 1, nI st, nI (sc st), f_state, g_bits, f_frames, f_steps, f_fresh, f_reused, f_peak, g_resultCell, g_resultNum, g_seen, a_starts, a_arities, a_masks, a_codes, a_extras, a_scopes, b_aOf, b_bOf, a_currents, b_spare, b_varCell, b_varNum, b_borrowed, b_tagOf, b_fieldCell, b_fieldNum, b_marked, b_digestOf) v1 v2 := fun z => by
    unfold wpY_match
    exact yf_badn (by decide) hst (by decide) z ⟨rfl, J⟩
  refine br_c (fun n0 => badn (Or.inl n0)) (fun n0 => br_c (fun n1 => ?_) (fun n1 => badn (Or.inr n1)))
  refine xf_in (fun ha => br_t rfl ?_) (fun a0 a1 => br_f (by decide) (pk_le (sc st + 2) 12 (fun z => pk_lt p 8 (fun z8 => xf_store hst ?_) (fun z8 => ?_)) (fun z => ?_) (nI_add (sc st) 2)))
  · unfold wpY_match
    exact yf_37 (by decide) hst (Or.inr ⟨n0, n1⟩) (yf_bada (by decide) ha ⟨rfl, J⟩)
  · (try dsimp only)
    rw [nI_clamp (show p < 2 ^ 31 by omega)]
    refine ⟨vp_in_nI z8 (by omega), nm_e (nm_r (nI_1 p) ?_)⟩
    obtain ⟨ja, hja, rfl⟩ := nI_of a0
    have a1' := a1
    rw [nI_ltI hja (by omega)] at a1'
    have goY : ∀ (nb : Int32), (∀ v, v < 32 → bt nb v = (bt (bw st) v || ((decide (v = sc st) || decide (v = sc st + 1)) && bt (bw st) ja))) → wpY_match (fun r' v' => r' = nI (sc st) ∧ i_Rel (k + 5) (f_codeNum, f_codeOp, f_codeCon, f_codeCall, f_codeMatch, f_codeIfZero, f_codeRet, f_cellBase, f_unseen, f_capacity, f_depth, nI cm, 1, nI (st + 1), nI (sc st + 2), nb, nI (p + 1), f_liveCells, f_frames, f_spareTotal, f_state, f_borrowing, f_reusing, f_keeping, f_result, f_steps, f_fresh, f_reused, f_peak, a_arities, a_masks, a_starts, upd a_codes st 4, upd a_extras st v2, upd a_lefts st (nI ja), upd a_rights st 0, upd a_scopes st (nI (sc st)), upd a_uses st ((1 : Int32) <<< (nI ja &&& 31)), upd a_borrowed st (bw st), upd a_lends st 0, upd a_others st 0, a_frees, a_afters, a_builds, upd a_pendingAt p (nI st), a_tags, a_firsts, a_seconds, a_digests, a_counts, a_places, a_work, a_marks, a_variables, a_currents, a_held, a_spareCounts) v') (f_capacity, f_depth, nI cm, 1, nI st, nI (sc st), f_state, g_bits, f_frames, f_steps, f_fresh, f_reused, f_peak, g_resultCell, g_resultNum, g_seen, a_starts, a_arities, a_masks, a_codes, a_extras, a_scopes, b_aOf, b_bOf, a_currents, b_spare, b_varCell, b_varNum, b_borrowed, b_tagOf, b_fieldCell, b_fieldNum, b_marked, b_digestOf) (nI ja) v2 := by
      intro nb hnb
      unfold wpY_match
      refine yf_37 (by decide) hst (Or.inr ⟨n0, n1⟩) (yf_60 (Or.inr ⟨by decide, a0, a1⟩) (yf_83 (Or.inl (by decide)) (yf_108 (up := 2) up2 (yf_ok (aN := nI ja) (bN := -1) (by decide) hst (by omega) c1 c2 t3 c11 c12 c8 (fun _ => by omega) rfl rfl ⟨rfl, ?_⟩))))
      refine done 4 v2 (nI ja) 0 _ 0 (nI ja) (-1) (sc st + 2) nb (p + 1) _ (by decide) hst (tx_Wnew (by decide) (if_neg (by omega)) (if_neg (by omega)) c4 c6 (Or.inr ⟨ja, a1', rfl, rfl⟩) (Or.inl ⟨rfl, rfl⟩) (fun v hv => ?_) (fun _ _ z => rr_m1 hja z.symm) (fun z => z.elim (fun z => absurd z (by decide)) (fun z => absurd z (by decide))) (fun z => absurd z (by decide)) (fun z => absurd z (by decide)) (fun _ => ⟨if_pos rfl, by (try dsimp only); rw [if_pos rfl]; omega, fun v hv => by (try dsimp only); rw [if_pos rfl, nI_clamp hja]; exact hnb v hv⟩) (fun z => absurd z (by decide))) (by omega) (fun v hv h => ?_) (fun z => absurd (Or.inl rfl) z) (fun _ => ⟨rfl, rfl, z8⟩)
      · rw [rc_bit1 (by omega) hv, decide_eq_true_iff, nI_eq hja (by omega)]
        exact ⟨fun z => Or.inl z.symm, fun z => z.elim (fun z => z.symm) (fun z => absurd z (rr_m1 (by omega)))⟩
      · rw [hnb v hv, Bool.or_eq_true, Bool.and_eq_true, Bool.or_eq_true, decide_eq_true_iff, decide_eq_true_iff] at h
        rcases h with h | ⟨h, -⟩
        · have := c6 v hv h; omega
        · omega
    refine br_c (fun w => nm_r (nI_add (sc st) 2) (goY _ (fun v hv => ?_))) (fun w => nm_e (nm_r (nI_add (sc st) 2) (goY _ (fun v hv => ?_))))
    · rw [rc_bit _ (by omega)] at w
      rw [w, Bool.and_false, Bool.or_false]
    · have w' : bt (bw st) ja = true := by
        cases q : bt (bw st) ja
        · exact absurd ((rc_bit (bw st) (by omega)).mpr q) w
        · rfl
      rw [b_or, rc_bit3 (by omega) hv, w', Bool.and_true]
  · unfold wpY_match
    have hp8 : p = 8 := by omega
    subst hp8
    exact yf_37 (by decide) hst (Or.inr ⟨n0, n1⟩) (yf_60 (Or.inr ⟨by decide, a0, a1⟩) (yf_83 (Or.inl (by decide)) (yf_108 (up := 2) up2 (yf_deep (by decide) hst (by omega) c1 c2 t3 c11 c12 (Or.inl rfl) ⟨rfl, J⟩))))
  · unfold wpY_match
    exact yf_37 (by decide) hst (Or.inr ⟨n0, n1⟩) (yf_60 (Or.inr ⟨by decide, a0, a1⟩) (yf_83 (Or.inl (by decide)) (yf_108 (up := 2) up2 (yf_many (by omega) (by omega) (by omega) ⟨rfl, J⟩))))
theorem i_vc_ifZero {k : Nat} {u : SX} {v : SY} (I : i_Rel k u v) (hk : k + 5 ≤ 2562) (v1 : Int32) : wpX_ifZero (fun r u' => wpY_ifZero (fun r' v' => r' = r ∧ i_Rel (k + 5) u' v') v v1) u v1 := by
  refine zz_el (P := fun u v => wpX_ifZero (fun r u' => wpY_ifZero (fun r' v' => r' = r ∧ i_Rel (k + 5) u' v') v v1) u v1) ?_ u v I
  intro f_codeNum f_codeOp f_codeCon f_codeCall f_codeMatch f_codeIfZero f_codeRet f_cellBase f_unseen f_capacity f_depth f_complete f_open f_stored f_scope f_borrowedNow f_pending f_liveCells f_frames f_spareTotal f_state f_borrowing f_reusing f_keeping f_result f_steps f_fresh f_reused f_peak a_arities a_masks a_starts a_codes a_extras a_lefts a_rights a_scopes a_uses a_borrowed a_lends a_others a_frees a_afters a_builds a_pendingAt a_tags a_firsts a_seconds a_digests a_counts a_places a_work a_marks a_variables a_currents a_held a_spareCounts g_bits g_resultCell g_resultNum g_seen b_aOf b_bOf b_spare b_varCell b_varNum b_borrowed b_tagOf b_fieldCell b_fieldNum b_marked b_digestOf F
  have J : i_Rel (k + 5) (f_codeNum, f_codeOp, f_codeCon, f_codeCall, f_codeMatch, f_codeIfZero, f_codeRet, f_cellBase, f_unseen, f_capacity, f_depth, f_complete, f_open, f_stored, f_scope, f_borrowedNow, f_pending, f_liveCells, f_frames, f_spareTotal, f_state, f_borrowing, f_reusing, f_keeping, f_result, f_steps, f_fresh, f_reused, f_peak, a_arities, a_masks, a_starts, a_codes, a_extras, a_lefts, a_rights, a_scopes, a_uses, a_borrowed, a_lends, a_others, a_frees, a_afters, a_builds, a_pendingAt, a_tags, a_firsts, a_seconds, a_digests, a_counts, a_places, a_work, a_marks, a_variables, a_currents, a_held, a_spareCounts) (f_capacity, f_depth, f_complete, f_open, f_stored, f_scope, f_state, g_bits, f_frames, f_steps, f_fresh, f_reused, f_peak, g_resultCell, g_resultNum, g_seen, a_starts, a_arities, a_masks, a_codes, a_extras, a_scopes, b_aOf, b_bOf, a_currents, b_spare, b_varCell, b_varNum, b_borrowed, b_tagOf, b_fieldCell, b_fieldNum, b_marked, b_digestOf) := zz_in F
  obtain ⟨sc, bw, cm, b, st, p, cu, sg, rk, sp, L, n, lv, cp, dp, T, R⟩ := F
  have T0 := T
  obtain ⟨t1, t2, t3, t4, C, t6⟩ := T
  subst t1 t2
  unfold wpX_ifZero
  refine xf_refuse t4 (fun ho => br_f (by decide) ?_) (fun ho h96 => br_f (by decide) ?_) (fun ho hst => br_t rfl ?_)
  · unfold wpY_ifZero
    exact yf_closed ho ⟨rfl, J⟩
  · subst h96
    unfold wpY_ifZero
    exact yf_room ho ⟨rfl, J⟩

  obtain ⟨o1, O⟩ := t6.resolve_left (fun z => ho z.1)
  have ⟨c1, c2, c3, c4, c5, c6, c7, c8, c9, c10, c11, c12, c13⟩ := O
  subst o1 c3 c5 c7

  have done : ∀ (kk e l r u nl aN bN : Int32) (ns : Nat) (nb : Int32) (p' : Nat) (pa' : Nat → Int32), kk ≠ 6 → st < 96 →
      tx_W a_arities a_masks (upd a_codes st kk) (upd a_extras st e) (upd a_lefts st l) (upd a_rights st r) (upd a_scopes st (nI (sc st))) (upd a_uses st u) (upd a_borrowed st (bw st)) (upd a_lends st nl) (upd a_others st 0) (upd b_aOf st aN) (upd b_bOf st bN) (fun j => if j = st + 1 then ns else sc j) (fun j => if j = st + 1 then nb else bw j) (cm + 1) (st + 1) st →
      ns ≤ 12 → (∀ v, v < 32 → bt nb v = true → v < ns) → (¬ (kk = 4 ∨ kk = 5) → p' = p ∧ pa' = a_pendingAt) → (kk = 4 ∨ kk = 5 → p' = p + 1 ∧ pa' = upd a_pendingAt p (nI st) ∧ p < 8) →
      i_Rel (k + 5) (f_codeNum, f_codeOp, f_codeCon, f_codeCall, f_codeMatch, f_codeIfZero, f_codeRet, f_cellBase, f_unseen, f_capacity, f_depth, nI cm, 1, nI (st + 1), nI ns, nb, nI p', f_liveCells, f_frames, f_spareTotal, f_state, f_borrowing, f_reusing, f_keeping, f_result, f_steps, f_fresh, f_reused, f_peak, a_arities, a_masks, a_starts, upd a_codes st kk, upd a_extras st e, upd a_lefts st l, upd a_rights st r, upd a_scopes st (nI (sc st)), upd a_uses st u, upd a_borrowed st (bw st), upd a_lends st nl, upd a_others st 0, a_frees, a_afters, a_builds, pa', a_tags, a_firsts, a_seconds, a_digests, a_counts, a_places, a_work, a_marks, a_variables, a_currents, a_held, a_spareCounts) (f_capacity, f_depth, nI cm, 1, nI (st + 1), nI ns, f_state, g_bits, f_frames, f_steps, f_fresh, f_reused, f_peak, g_resultCell, g_resultNum, g_seen, a_starts, a_arities, a_masks, upd a_codes st kk, upd a_extras st e, upd a_scopes st (nI (sc st)), upd b_aOf st aN, upd b_bOf st bN, a_currents, b_spare, b_varCell, b_varNum, b_borrowed, b_tagOf, b_fieldCell, b_fieldNum, b_marked, b_digestOf) := by
    intro kk e l r u nl aN bN ns nb p' pa' h6 hst W hns hnb hp0 hp1
    refine zz_in ⟨_, _, cm, b, st + 1, p', cu, sg, rk, sp, L, n, lv, cp, dp, tr_store T0 (by decide) hst h6 W hns hnb hp0 hp1, rr_Rt R (Nat.le_refl _) (fun i hi => pk_un (by omega)) (fun i hi => pk_un (by omega)) (fun i hi => pk_un (by omega)) (fun _ _ => rfl) (fun _ _ => rfl) (fun i hi => if_neg (by omega))⟩

  have up0 : ((5 : Int32) = 4 → 0 = 2) ∧ ((5 : Int32) = 5 ∨ (5 : Int32) = 6 → 0 = 0) ∧ (¬ ((5 : Int32) = 4 ∨ (5 : Int32) = 5 ∨ (5 : Int32) = 6) → 0 = 1) := ⟨fun z => absurd z (by decide), fun _ => rfl, fun z => absurd (Or.inr (Or.inl rfl)) z⟩
  have n01 : (5 : Int32) = 0 ∨ (¬ (0 : Int32) < 0 ∧ (0 : Int32) ≤ 0) := Or.inr ⟨by decide, by decide⟩
  refine xf_in (fun ha => br_t rfl ?_) (fun a0 a1 => br_f (by decide) (pk_lt p 8 (fun z8 => xf_store hst ?_) (fun z8 => ?_)))
  · unfold wpY_ifZero
    exact yf_37 (by decide) hst n01 (yf_bada (by decide) ha ⟨rfl, J⟩)
  · (try dsimp only)
    rw [nI_clamp (show p < 2 ^ 31 by omega)]
    refine ⟨vp_in_nI z8 (by omega), nm_e (nm_r (nI_1 p) ?_)⟩
    obtain ⟨ja, hja, rfl⟩ := nI_of a0
    have a1' := a1
    rw [nI_ltI hja (by omega)] at a1'
    unfold wpY_ifZero
    refine yf_37 (by decide) hst n01 (yf_60 (Or.inr ⟨by decide, a0, a1⟩) (yf_83 (Or.inl (by decide)) (yf_108 (up := 0) up0 (yf_ok (aN := nI ja) (bN := -1) (by decide) hst (by omega) c1 c2 t3 c11 c12 c8 (fun _ => by omega) rfl rfl ⟨rfl, ?_⟩))))
    refine done 5 0 (nI ja) 0 _ 0 (nI ja) (-1) (sc st) (bw st) (p + 1) _ (by decide) hst (tx_Wnew (by decide) (if_neg (by omega)) (if_neg (by omega)) c4 c6 (Or.inr ⟨ja, a1', rfl, rfl⟩) (Or.inl ⟨rfl, rfl⟩) (fun v hv => ?_) (fun _ _ z => rr_m1 hja z.symm) (fun z => z.elim (fun z => absurd z (by decide)) (fun z => absurd z (by decide))) (fun z => absurd z (by decide)) (fun z => absurd z (by decide)) (fun z => absurd z (by decide)) (fun _ => ⟨if_pos rfl, if_pos rfl⟩)) (by omega) c6 (fun z => absurd (Or.inr rfl) z) (fun _ => ⟨rfl, rfl, z8⟩)
    rw [rc_bit1 (by omega) hv, decide_eq_true_iff, nI_eq hja (by omega)]
    exact ⟨fun z => Or.inl z.symm, fun z => z.elim (fun z => z.symm) (fun z => absurd z (rr_m1 (by omega)))⟩
  · unfold wpY_ifZero
    have hp8 : p = 8 := by omega
    subst hp8
    exact yf_37 (by decide) hst n01 (yf_60 (Or.inr ⟨by decide, a0, a1⟩) (yf_83 (Or.inl (by decide)) (yf_108 (up := 0) up0 (yf_deep (by decide) hst (by omega) c1 c2 t3 c11 c12 (Or.inr rfl) ⟨rfl, J⟩))))
end
section
theorem pk_uu {f : Nat → Int32} {k : Nat} {x y : Int32} : upd (upd f k x) k y = upd f k y := by
  funext j
  unfold upd
  split <;> rfl
theorem i_vc_call {k : Nat} {u : SX} {v : SY} (I : i_Rel k u v) (hk : k + 5 ≤ 2562) (v1 : Int32) (v2 : Int32) (v3 : Int32) : wpX_call (fun r u' => wpY_call (fun r' v' => r' = r ∧ i_Rel (k + 5) u' v') v v1 v2 v3) u v1 v2 v3 := by
  refine zz_el (P := fun u v => wpX_call (fun r u' => wpY_call (fun r' v' => r' = r ∧ i_Rel (k + 5) u' v') v v1 v2 v3) u v1 v2 v3) ?_ u v I
  intro f_codeNum f_codeOp f_codeCon f_codeCall f_codeMatch f_codeIfZero f_codeRet f_cellBase f_unseen f_capacity f_depth f_complete f_open f_stored f_scope f_borrowedNow f_pending f_liveCells f_frames f_spareTotal f_state f_borrowing f_reusing f_keeping f_result f_steps f_fresh f_reused f_peak a_arities a_masks a_starts a_codes a_extras a_lefts a_rights a_scopes a_uses a_borrowed a_lends a_others a_frees a_afters a_builds a_pendingAt a_tags a_firsts a_seconds a_digests a_counts a_places a_work a_marks a_variables a_currents a_held a_spareCounts g_bits g_resultCell g_resultNum g_seen b_aOf b_bOf b_spare b_varCell b_varNum b_borrowed b_tagOf b_fieldCell b_fieldNum b_marked b_digestOf F
  have J : i_Rel (k + 5) (f_codeNum, f_codeOp, f_codeCon, f_codeCall, f_codeMatch, f_codeIfZero, f_codeRet, f_cellBase, f_unseen, f_capacity, f_depth, f_complete, f_open, f_stored, f_scope, f_borrowedNow, f_pending, f_liveCells, f_frames, f_spareTotal, f_state, f_borrowing, f_reusing, f_keeping, f_result, f_steps, f_fresh, f_reused, f_peak, a_arities, a_masks, a_starts, a_codes, a_extras, a_lefts, a_rights, a_scopes, a_uses, a_borrowed, a_lends, a_others, a_frees, a_afters, a_builds, a_pendingAt, a_tags, a_firsts, a_seconds, a_digests, a_counts, a_places, a_work, a_marks, a_variables, a_currents, a_held, a_spareCounts) (f_capacity, f_depth, f_complete, f_open, f_stored, f_scope, f_state, g_bits, f_frames, f_steps, f_fresh, f_reused, f_peak, g_resultCell, g_resultNum, g_seen, a_starts, a_arities, a_masks, a_codes, a_extras, a_scopes, b_aOf, b_bOf, a_currents, b_spare, b_varCell, b_varNum, b_borrowed, b_tagOf, b_fieldCell, b_fieldNum, b_marked, b_digestOf) := zz_in F
  obtain ⟨sc, bw, cm, b, st, p, cu, sg, rk, sp, L, n, lv, cp, dp, T, R⟩ := F
  have T0 := T
  obtain ⟨t1, t2, t3, t4, C, t6⟩ := T
  subst t1 t2
  unfold wpX_call
  have yc : ∀ (Q : Int32 → SY → Prop), (∀ us : Int32, (v1 < 0 ∨ ¬ v1 < 6 → us = 0) → (¬ v1 < 0 → v1 < 6 → us = a_arities v1.toNatClampNeg) → wpY_feed (fun r u => match u with | (g_cap, g_most, g_functions, g_open, g_stored, g_scope, g_state, g_bits, g_frames, g_steps, g_fresh, g_reused, g_peak, g_resultCell, g_resultNum, g_seen, b_firstOf, b_arityOf, b_maskOf, b_kindOf, b_numOf, b_scopeOf, b_aOf, b_bOf, b_cur, b_spare, b_varCell, b_varNum, b_borrowed, b_tagOf, b_fieldCell, b_fieldNum, b_marked, b_digestOf) => Q r (g_cap, g_most, g_functions, g_open, g_stored, g_scope, g_state, g_bits, g_frames, g_steps, g_fresh, g_reused, g_peak, g_resultCell, g_resultNum, g_seen, b_firstOf, b_arityOf, b_maskOf, b_kindOf, b_numOf, b_scopeOf, b_aOf, b_bOf, b_cur, b_spare, b_varCell, b_varNum, b_borrowed, b_tagOf, b_fieldCell, b_fieldNum, b_marked, b_digestOf)) (f_capacity, f_depth, nI cm, f_open, nI st, f_scope, f_state, g_bits, f_frames, f_steps, f_fresh, f_reused, f_peak, g_resultCell, g_resultNum, g_seen, a_starts, a_arities, a_masks, a_codes, a_extras, a_scopes, b_aOf, b_bOf, a_currents, b_spare, b_varCell, b_varNum, b_borrowed, b_tagOf, b_fieldCell, b_fieldNum, b_marked, b_digestOf) 3 v1 (nI cm) v2 v3 us) → wpY_call Q (f_capacity, f_depth, nI cm, f_open, nI st, f_scope, f_state, g_bits, f_frames, f_steps, f_fresh, f_reused, f_peak, g_resultCell, g_resultNum, g_seen, a_starts, a_arities, a_masks, a_codes, a_extras, a_scopes, b_aOf, b_bOf, a_currents, b_spare, b_varCell, b_varNum, b_borrowed, b_tagOf, b_fieldCell, b_fieldNum, b_marked, b_digestOf) v1 v2 v3 := by
    intro Q h
    unfold wpY_call
    refine br_c (fun z => ?_) (fun z => br_c (fun w => ⟨?_, ?_⟩) (fun w => ?_))
    · unfold wY_call_10 wY_call_20
      exact h 0 (fun _ => rfl) (fun q => absurd z q)
    · obtain ⟨j, hj, rfl⟩ := nI_of z
      rw [show (6 : Int32) = nI 6 from rfl, nI_ltI hj (by omega)] at w
      exact vp_in_nI w (by omega)
    · unfold wY_call_20
      exact h _ (fun q => q.elim (fun q => absurd q z) (fun q => absurd w q)) (fun _ _ => rfl)
    · unfold wY_call_10 wY_call_20
      exact h 0 (fun _ => rfl) (fun _ q => absurd q w)
  refine xf_refuse t4 (fun ho => br_f (by decide) ?_) (fun ho h96 => br_f (by decide) ?_) (fun ho hst => br_t rfl ?_)
  · exact yc _ (fun us _ _ => yf_closed ho ⟨rfl, J⟩)
  · subst h96
    exact yc _ (fun us _ _ => yf_room ho ⟨rfl, J⟩)

  obtain ⟨o1, O⟩ := t6.resolve_left (fun z => ho z.1)
  have ⟨c1, c2, c3, c4, c5, c6, c7, c8, c9, c10, c11, c12, c13⟩ := O
  subst o1 c3 c5 c7

  have done : ∀ (kk e l r u nl aN bN : Int32) (ns : Nat) (nb : Int32) (p' : Nat) (pa' : Nat → Int32), kk ≠ 6 → st < 96 →
      tx_W a_arities a_masks (upd a_codes st kk) (upd a_extras st e) (upd a_lefts st l) (upd a_rights st r) (upd a_scopes st (nI (sc st))) (upd a_uses st u) (upd a_borrowed st (bw st)) (upd a_lends st nl) (upd a_others st 0) (upd b_aOf st aN) (upd b_bOf st bN) (fun j => if j = st + 1 then ns else sc j) (fun j => if j = st + 1 then nb else bw j) (cm + 1) (st + 1) st →
      ns ≤ 12 → (∀ v, v < 32 → bt nb v = true → v < ns) → (¬ (kk = 4 ∨ kk = 5) → p' = p ∧ pa' = a_pendingAt) → (kk = 4 ∨ kk = 5 → p' = p + 1 ∧ pa' = upd a_pendingAt p (nI st) ∧ p < 8) →
      i_Rel (k + 5) (f_codeNum, f_codeOp, f_codeCon, f_codeCall, f_codeMatch, f_codeIfZero, f_codeRet, f_cellBase, f_unseen, f_capacity, f_depth, nI cm, 1, nI (st + 1), nI ns, nb, nI p', f_liveCells, f_frames, f_spareTotal, f_state, f_borrowing, f_reusing, f_keeping, f_result, f_steps, f_fresh, f_reused, f_peak, a_arities, a_masks, a_starts, upd a_codes st kk, upd a_extras st e, upd a_lefts st l, upd a_rights st r, upd a_scopes st (nI (sc st)), upd a_uses st u, upd a_borrowed st (bw st), upd a_lends st nl, upd a_others st 0, a_frees, a_afters, a_builds, pa', a_tags, a_firsts, a_seconds, a_digests, a_counts, a_places, a_work, a_marks, a_variables, a_currents, a_held, a_spareCounts) (f_capacity, f_depth, nI cm, 1, nI (st + 1), nI ns, f_state, g_bits, f_frames, f_steps, f_fresh, f_reused, f_peak, g_resultCell, g_resultNum, g_seen, a_starts, a_arities, a_masks, upd a_codes st kk, upd a_extras st e, upd a_scopes st (nI (sc st)), upd b_aOf st aN, upd b_bOf st bN, a_currents, b_spare, b_varCell, b_varNum, b_borrowed, b_tagOf, b_fieldCell, b_fieldNum, b_marked, b_digestOf) := by
    intro kk e l r u nl aN bN ns nb p' pa' h6 hst W hns hnb hp0 hp1
    refine zz_in ⟨_, _, cm, b, st + 1, p', cu, sg, rk, sp, L, n, lv, cp, dp, tr_store T0 (by decide) hst h6 W hns hnb hp0 hp1, rr_Rt R (Nat.le_refl _) (fun i hi => pk_un (by omega)) (fun i hi => pk_un (by omega)) (fun i hi => pk_un (by omega)) (fun _ _ => rfl) (fun _ _ => rfl) (fun i hi => if_neg (by omega))⟩

  refine br_c (fun n0 => yc _ (fun us _ _ => yf_badn (by decide) hst (by decide) (Or.inl n0) ⟨rfl, J⟩)) (fun n0 => br_c (fun n1 => ?_) (fun n1 => yc _ (fun us _ _ => yf_badn (by decide) hst (by decide) (Or.inr n1) ⟨rfl, J⟩)))
  obtain ⟨g, hg31, rfl⟩ := nI_of n0
  have hgc : g ≤ cm := by rw [nI_leI hg31 (by omega)] at n1; exact n1
  have hg6 : g < 6 := by omega
  have n6 : nI g < (6 : Int32) := nI_lt (b := 6) hg6 (by omega)
  obtain ⟨ar, ear, har⟩ : ∃ ar, a_arities g = nI ar ∧ ar ≤ 2 := by
    by_cases z : g = cm
    · rw [z]; exact ⟨sc b, c9.1, c9.2.1⟩
    · obtain ⟨s, h1, h2, h3, h4, h5⟩ := C.2.2.2.2.2 g (by omega)
      exact ⟨sc s, h3, h4⟩
  have yc2 : ∀ (Q : Int32 → SY → Prop), wpY_feed (fun r u => match u with | (g_cap, g_most, g_functions, g_open, g_stored, g_scope, g_state, g_bits, g_frames, g_steps, g_fresh, g_reused, g_peak, g_resultCell, g_resultNum, g_seen, b_firstOf, b_arityOf, b_maskOf, b_kindOf, b_numOf, b_scopeOf, b_aOf, b_bOf, b_cur, b_spare, b_varCell, b_varNum, b_borrowed, b_tagOf, b_fieldCell, b_fieldNum, b_marked, b_digestOf) => Q r (g_cap, g_most, g_functions, g_open, g_stored, g_scope, g_state, g_bits, g_frames, g_steps, g_fresh, g_reused, g_peak, g_resultCell, g_resultNum, g_seen, b_firstOf, b_arityOf, b_maskOf, b_kindOf, b_numOf, b_scopeOf, b_aOf, b_bOf, b_cur, b_spare, b_varCell, b_varNum, b_borrowed, b_tagOf, b_fieldCell, b_fieldNum, b_marked, b_digestOf)) (f_capacity, f_depth, nI cm, 1, nI st, nI (sc st), f_state, g_bits, f_frames, f_steps, f_fresh, f_reused, f_peak, g_resultCell, g_resultNum, g_seen, a_starts, a_arities, a_masks, a_codes, a_extras, a_scopes, b_aOf, b_bOf, a_currents, b_spare, b_varCell, b_varNum, b_borrowed, b_tagOf, b_fieldCell, b_fieldNum, b_marked, b_digestOf) 3 (nI g) (nI cm) v2 v3 (nI ar) → wpY_call Q (f_capacity, f_depth, nI cm, 1, nI st, nI (sc st), f_state, g_bits, f_frames, f_steps, f_fresh, f_reused, f_peak, g_resultCell, g_resultNum, g_seen, a_starts, a_arities, a_masks, a_codes, a_extras, a_scopes, b_aOf, b_bOf, a_currents, b_spare, b_varCell, b_varNum, b_borrowed, b_tagOf, b_fieldCell, b_fieldNum, b_marked, b_digestOf) (nI g) v2 v3 := fun Q h => yc Q (fun us _ e => by
    have := e n0 n6
    rw [nI_clamp hg31, ear] at this
    rw [this]; exact h)
  clear yc
  rw [nI_clamp hg31]
  have numok : (3 : Int32) = 0 ∨ (¬ nI g < 0 ∧ nI g ≤ nI cm) := Or.inr ⟨n0, n1⟩
  have up1 : ((3 : Int32) = 4 → 1 = 2) ∧ ((3 : Int32) = 5 ∨ (3 : Int32) = 6 → 1 = 0) ∧ (¬ ((3 : Int32) = 4 ∨ (3 : Int32) = 5 ∨ (3 : Int32) = 6) → 1 = 1) := ⟨fun z => absurd z (by decide), fun z => z.elim (fun z => absurd z (by decide)) (fun z => absurd z (by decide)), fun _ => rfl⟩
  -- behind all checks
  have e167 : ∀ (l r u n9 aN bN : Int32), (aN = if nI ar < 1 then -1 else v2) → (bN = if nI ar = 2 then v3 else -1) → (nI ar < 1 ∨ (¬ nI ar < 1 ∧ ¬ v2 < 0 ∧ v2 < nI (sc st))) → (¬ nI ar = 2 ∨ (nI ar = 2 ∧ ¬ v3 < 0 ∧ v3 < nI (sc st))) → sc st < 12 →
      ((aN = -1 ∧ l = 0) ∨ ∃ a, a < sc st ∧ aN = nI a ∧ l = nI a) → ((bN = -1 ∧ r = 0) ∨ ∃ b, b < sc st ∧ bN = nI b ∧ r = nI b) → (∀ v, v < 32 → (bt u v = true ↔ (aN = nI v ∨ bN = nI v))) →
      (a_arities g = 0 ∧ aN = -1 ∧ bN = -1 ∨ a_arities g = 1 ∧ aN ≠ -1 ∧ bN = -1 ∨ a_arities g = 2 ∧ aN ≠ -1 ∧ bN ≠ -1) → (∀ v, v < 32 → (bt n9 v = true ↔ (aN = nI v ∧ bt (a_masks g) 0 = true ∨ bN = nI v ∧ bt (a_masks g) 1 = true))) →
      wX_call_167 (fun r u' => wpY_call (fun r' v' => r' = r ∧ i_Rel (k + 5) u' v') (f_capacity, f_depth, nI cm, 1, nI st, nI (sc st), f_state, g_bits, f_frames, f_steps, f_fresh, f_reused, f_peak, g_resultCell, g_resultNum, g_seen, a_starts, a_arities, a_masks, a_codes, a_extras, a_scopes, b_aOf, b_bOf, a_currents, b_spare, b_varCell, b_varNum, b_borrowed, b_tagOf, b_fieldCell, b_fieldNum, b_marked, b_digestOf) (nI g) v2 v3) (nI g) l r u n9 f_codeNum f_codeOp f_codeCon f_codeCall f_codeMatch f_codeIfZero f_codeRet f_cellBase f_unseen f_capacity f_depth (nI cm) 1 (nI st) (nI (sc st)) (bw st) (nI p) f_liveCells f_frames f_spareTotal f_state f_borrowing f_reusing f_keeping f_result f_steps f_fresh f_reused f_peak a_arities a_masks a_starts a_codes a_extras a_lefts a_rights a_scopes a_uses a_borrowed a_lends a_others a_frees a_afters a_builds a_pendingAt a_tags a_firsts a_seconds a_digests a_counts a_places a_work a_marks a_variables a_currents a_held a_spareCounts := by
    intro l r u n9 aN bN eaN ebN haok hbok hd hl hr hu har3 hn9
    unfold wX_call_167
    refine xf_store hst ?_
    (try dsimp only)
    rw [nI_clamp (show st < 2 ^ 31 by omega), pk_uu]
    refine ⟨vp_in_nI hst (by omega), nm_e ?_⟩
    unfold wpX_bind
    refine nm_r (nI_1 (sc st)) (yc2 _ (yf_37 (by decide) hst numok (yf_60 haok (yf_83 hbok (yf_108 (up := 1) up1 (yf_ok (aN := aN) (bN := bN) (by decide) hst (by omega) c1 c2 t3 c11 c12 c8 (fun z => z.elim (fun z => absurd z (by decide)) (fun z => absurd z (by decide))) eaN ebN ⟨rfl, ?_⟩))))))
    refine done 3 (nI g) l r u (n9 &&& (bw st ^^^ (-1))) aN bN (sc st + 1) (bw st) p a_pendingAt (by decide) hst (tx_Wnew (by decide) (if_neg (by omega)) (if_neg (by omega)) c4 c6 hl hr hu (fun _ z => absurd rfl z) (fun z => z.elim (fun z => absurd z (by decide)) (fun z => absurd z (by decide))) (fun _ => ⟨g, hg6, by omega, rfl, har3, fun v hv => ?_⟩) (fun _ => ⟨if_pos rfl, by (try dsimp only); rw [if_pos rfl]; omega, if_pos rfl⟩) (fun z => absurd z (by decide)) (fun z => absurd z (by decide))) (by omega) (fun v hv h => by have := c6 v hv h; omega) (fun _ => ⟨rfl, rfl⟩) (fun z => z.elim (fun z => absurd z (by decide)) (fun z => absurd z (by decide)))
    rw [b_and, rc_not _ hv, Bool.and_eq_true, hn9 v hv, Bool.not_eq_true']
    exact ⟨fun z => ⟨z.2, z.1⟩, fun z => ⟨z.2, z.1⟩⟩
  have many : (nI ar < 1 ∨ (¬ nI ar < 1 ∧ ¬ v2 < 0 ∧ v2 < nI (sc st))) → (¬ nI ar = 2 ∨ (nI ar = 2 ∧ ¬ v3 < 0 ∧ v3 < nI (sc st))) → 12 ≤ sc st → wpY_call (fun r' v' => r' = -6 ∧ i_Rel (k + 5) (f_codeNum, f_codeOp, f_codeCon, f_codeCall, f_codeMatch, f_codeIfZero, f_codeRet, f_cellBase, f_unseen, f_capacity, f_depth, nI cm, 1, nI st, nI (sc st), bw st, nI p, f_liveCells, f_frames, f_spareTotal, f_state, f_borrowing, f_reusing, f_keeping, f_result, f_steps, f_fresh, f_reused, f_peak, a_arities, a_masks, a_starts, a_codes, a_extras, a_lefts, a_rights, a_scopes, a_uses, a_borrowed, a_lends, a_others, a_frees, a_afters, a_builds, a_pendingAt, a_tags, a_firsts, a_seconds, a_digests, a_counts, a_places, a_work, a_marks, a_variables, a_currents, a_held, a_spareCounts) v') (f_capacity, f_depth, nI cm, 1, nI st, nI (sc st), f_state, g_bits, f_frames, f_steps, f_fresh, f_reused, f_peak, g_resultCell, g_resultNum, g_seen, a_starts, a_arities, a_masks, a_codes, a_extras, a_scopes, b_aOf, b_bOf, a_currents, b_spare, b_varCell, b_varNum, b_borrowed, b_tagOf, b_fieldCell, b_fieldNum, b_marked, b_digestOf) (nI g) v2 v3 := fun ha hb h12 =>
    yc2 _ (yf_37 (by decide) hst numok (yf_60 ha (yf_83 hb (yf_108 (up := 1) up1 (yf_many (by omega) (by omega) (by omega) ⟨rfl, J⟩)))))
  have tt : ∀ {x : Int32} {i : Nat}, ¬ bt x i = false → bt x i = true := fun {x i} h => by
    cases q : bt x i
    · exact absurd q h
    · rfl
  refine ⟨vp_in_nI hg6 (by omega), nm_r ear ?_⟩
  have hcase : ar = 0 ∨ ar = 1 ∨ ar = 2 := by omega
  rcases hcase with rfl | rfl | rfl
  · -- no operand
    refine br_t (by decide) ?_
    unfold wX_call_54
    refine br_f (by decide) ?_
    unfold wX_call_71
    refine pk_lt (sc st) 12 (fun z => br_t (by decide) ?_) (fun z => many (Or.inl (by decide)) (Or.inl (by decide)) z)
    unfold wX_call_131
    refine br_f (by decide) ?_
    refine e167 0 0 0 0 (-1) (-1) rfl rfl (Or.inl (by decide)) (Or.inl (by decide)) z (Or.inl ⟨rfl, rfl⟩) (Or.inl ⟨rfl, rfl⟩) (fun v hv => ?_) (Or.inl ⟨ear, rfl, rfl⟩) (fun v hv => ?_)
    · rw [b_0]
      exact ⟨fun z => absurd z (by decide), fun z => z.elim (fun z => absurd z (rr_m1 (by omega))) (fun z => absurd z (rr_m1 (by omega)))⟩
    · rw [b_0]
      exact ⟨fun z => absurd z (by decide), fun z => z.elim (fun z => absurd z.1 (rr_m1 (by omega))) (fun z => absurd z.1 (rr_m1 (by omega)))⟩
  · -- one
    refine br_f (by decide) (xf_in (fun ha => br_t rfl ?_) (fun a0 a1 => br_f (by decide) ?_))
    · exact yc2 _ (yf_37 (by decide) hst numok (yf_bada (by decide) ha ⟨rfl, J⟩))
    · have aok : nI 1 < 1 ∨ (¬ nI 1 < 1 ∧ ¬ v2 < 0 ∧ v2 < nI (sc st)) := Or.inr ⟨by decide, a0, a1⟩
      obtain ⟨ja, hja, rfl⟩ := nI_of a0
      have a1' := a1
      rw [nI_ltI hja (by omega)] at a1'
      unfold wX_call_54
      refine br_f (by decide) ?_
      unfold wX_call_71
      refine pk_lt (sc st) 12 (fun z => br_f (by decide) (nm_e ?_)) (fun z => many aok (Or.inl (by decide)) z)
      rw [nI_clamp hg31]
      have bits : ∀ v, v < 32 → (bt ((0 : Int32) ||| ((1 : Int32) <<< (nI ja &&& 31))) v = true ↔ nI ja = nI v) := fun v hv => by
        rw [b_or, b_0, Bool.false_or, rc_bit1 (by omega) hv, decide_eq_true_iff, nI_eq hja (by omega)]
        exact ⟨fun z => z.symm, fun z => z.symm⟩
      refine ⟨vp_in_nI hg6 (by omega), br_c (fun m1 => ?_) (fun m1 => nm_e ?_)⟩
      · unfold wX_call_131
        refine br_f (by decide) ?_
        refine e167 (nI ja) 0 _ 0 (nI ja) (-1) rfl rfl aok (Or.inl (by decide)) z (Or.inr ⟨ja, a1', rfl, rfl⟩) (Or.inl ⟨rfl, rfl⟩) (fun v hv => ?_) (Or.inr (Or.inl ⟨ear, fun q => rr_m1 hja q.symm, rfl⟩)) (fun v hv => ?_)
        · rw [bits v hv]
          exact ⟨Or.inl, fun z => z.elim id (fun z => absurd z (rr_m1 (by omega)))⟩
        · rw [b_0, yw_and1.mp m1]
          exact ⟨fun z => absurd z (by decide), fun z => z.elim (fun z => absurd z.2 (by decide)) (fun z => absurd z.1 (rr_m1 (by omega)))⟩
      · unfold wX_call_131
        refine br_f (by decide) ?_
        refine e167 (nI ja) 0 _ _ (nI ja) (-1) rfl rfl aok (Or.inl (by decide)) z (Or.inr ⟨ja, a1', rfl, rfl⟩) (Or.inl ⟨rfl, rfl⟩) (fun v hv => ?_) (Or.inr (Or.inl ⟨ear, fun q => rr_m1 hja q.symm, rfl⟩)) (fun v hv => ?_)
        · rw [bits v hv]
          exact ⟨Or.inl, fun z => z.elim id (fun z => absurd z (rr_m1 (by omega)))⟩
        · rw [bits v hv, tt (fun q => m1 (yw_and1.mpr q))]
          exact ⟨fun z => Or.inl ⟨z, rfl⟩, fun z => z.elim (fun z => z.1) (fun z => absurd z.1 (rr_m1 (by omega)))⟩
  · -- two
    refine br_f (by decide) (xf_in (fun ha => br_t rfl ?_) (fun a0 a1 => br_f (by decide) ?_))
    · exact yc2 _ (yf_37 (by decide) hst numok (yf_bada (by decide) ha ⟨rfl, J⟩))
    · have aok : nI 2 < 1 ∨ (¬ nI 2 < 1 ∧ ¬ v2 < 0 ∧ v2 < nI (sc st)) := Or.inr ⟨by decide, a0, a1⟩
      unfold wX_call_54
      refine br_t rfl (xf_in (fun hb => br_t rfl ?_) (fun b0 b1 => br_f (by decide) ?_))
      · exact yc2 _ (yf_37 (by decide) hst numok (yf_60 aok (yf_badb rfl hb ⟨rfl, J⟩)))
      · have bok : ¬ nI 2 = 2 ∨ (nI 2 = 2 ∧ ¬ v3 < 0 ∧ v3 < nI (sc st)) := Or.inr ⟨rfl, b0, b1⟩
        obtain ⟨ja, hja, rfl⟩ := nI_of a0
        obtain ⟨jb, hjb, rfl⟩ := nI_of b0
        have a1' := a1
        have b1' := b1
        rw [nI_ltI hja (by omega)] at a1'
        rw [nI_ltI hjb (by omega)] at b1'
        unfold wX_call_71
        refine pk_lt (sc st) 12 (fun z => br_f (by decide) (nm_e ?_)) (fun z => many aok bok z)
        rw [nI_clamp hg31]
        have bitA : ∀ v, v < 32 → (bt ((0 : Int32) ||| ((1 : Int32) <<< (nI ja &&& 31))) v = true ↔ nI ja = nI v) := fun v hv => by
          rw [b_or, b_0, Bool.false_or, rc_bit1 (by omega) hv, decide_eq_true_iff, nI_eq hja (by omega)]
          exact ⟨fun z => z.symm, fun z => z.symm⟩
        have bitB : ∀ v, v < 32 → (bt ((1 : Int32) <<< (nI jb &&& 31)) v = true ↔ nI jb = nI v) := fun v hv => by
          rw [rc_bit1 (by omega) hv, decide_eq_true_iff, nI_eq hjb (by omega)]
          exact ⟨fun z => z.symm, fun z => z.symm⟩
        have e131 : ∀ n9 : Int32, (∀ v, v < 32 → (bt n9 v = true ↔ (nI ja = nI v ∧ bt (a_masks g) 0 = true))) →
            wX_call_131 (fun r u' => wpY_call (fun r' v' => r' = r ∧ i_Rel (k + 5) u' v') (f_capacity, f_depth, nI cm, 1, nI st, nI (sc st), f_state, g_bits, f_frames, f_steps, f_fresh, f_reused, f_peak, g_resultCell, g_resultNum, g_seen, a_starts, a_arities, a_masks, a_codes, a_extras, a_scopes, b_aOf, b_bOf, a_currents, b_spare, b_varCell, b_varNum, b_borrowed, b_tagOf, b_fieldCell, b_fieldNum, b_marked, b_digestOf) (nI g) (nI ja) (nI jb)) (nI g) (nI jb) (nI 2) (nI ja) 0 (0 ||| ((1 : Int32) <<< (nI ja &&& 31))) n9 f_codeNum f_codeOp f_codeCon f_codeCall f_codeMatch f_codeIfZero f_codeRet f_cellBase f_unseen f_capacity f_depth (nI cm) 1 (nI st) (nI (sc st)) (bw st) (nI p) f_liveCells f_frames f_spareTotal f_state f_borrowing f_reusing f_keeping f_result f_steps f_fresh f_reused f_peak a_arities a_masks a_starts a_codes a_extras a_lefts a_rights a_scopes a_uses a_borrowed a_lends a_others a_frees a_afters a_builds a_pendingAt a_tags a_firsts a_seconds a_digests a_counts a_places a_work a_marks a_variables a_currents a_held a_spareCounts := by
          intro n9 hn9
          unfold wX_call_131
          refine br_t rfl (nm_e ?_)
          rw [nI_clamp hg31]
          have hu : ∀ v, v < 32 → (bt ((0 ||| ((1 : Int32) <<< (nI ja &&& 31))) ||| ((1 : Int32) <<< (nI jb &&& 31))) v = true ↔ (nI ja = nI v ∨ nI jb = nI v)) := fun v hv => by
            rw [b_or, Bool.or_eq_true, bitA v hv, bitB v hv]
          refine ⟨vp_in_nI hg6 (by omega), br_c (fun m2 => ?_) (fun m2 => nm_e ?_)⟩
          · refine e167 (nI ja) (nI jb) _ n9 (nI ja) (nI jb) rfl rfl aok bok z (Or.inr ⟨ja, a1', rfl, rfl⟩) (Or.inr ⟨jb, b1', rfl, rfl⟩) hu (Or.inr (Or.inr ⟨ear, fun q => rr_m1 hja q.symm, fun q => rr_m1 hjb q.symm⟩)) (fun v hv => ?_)
            rw [hn9 v hv, yw_and2.mp m2]
            exact ⟨Or.inl, fun z => z.elim id (fun z => absurd z.2 (by decide))⟩
          · refine e167 (nI ja) (nI jb) _ _ (nI ja) (nI jb) rfl rfl aok bok z (Or.inr ⟨ja, a1', rfl, rfl⟩) (Or.inr ⟨jb, b1', rfl, rfl⟩) hu (Or.inr (Or.inr ⟨ear, fun q => rr_m1 hja q.symm, fun q => rr_m1 hjb q.symm⟩)) (fun v hv => ?_)
            rw [b_or, Bool.or_eq_true, hn9 v hv, bitB v hv, tt (fun q => m2 (yw_and2.mpr q))]
            exact ⟨fun z => z.elim Or.inl (fun z => Or.inr ⟨z, rfl⟩), fun z => z.elim Or.inl (fun z => Or.inr z.1)⟩
        refine ⟨vp_in_nI hg6 (by omega), br_c (fun m1 => e131 0 (fun v hv => ?_)) (fun m1 => nm_e (e131 _ (fun v hv => ?_)))⟩
        · rw [b_0, yw_and1.mp m1]
          exact ⟨fun z => absurd z (by decide), fun z => absurd z.2 (by decide)⟩
        · rw [bitA v hv, tt (fun q => m1 (yw_and1.mpr q))]
          exact ⟨fun z => ⟨z, rfl⟩, fun z => z.1⟩
end
section
theorem fn_mask : ∀ ar, ar < 3 → ∀ v, v < 32 → bt (((1 : Int32) <<< (nI ar &&& 31)) - 1) v = decide (v < ar) := by decide +kernel
theorem i_vc_function {k : Nat} {u : SX} {v : SY} (I : i_Rel k u v) (hk : k + 5 ≤ 2562) (v1 : Int32) (v2 : Int32) : wpX_function (fun r u' => wpY_function (fun r' v' => r' = r ∧ i_Rel (k + 5) u' v') v v1 v2) u v1 v2 := by
  refine zz_el (P := fun u v => wpX_function (fun r u' => wpY_function (fun r' v' => r' = r ∧ i_Rel (k + 5) u' v') v v1 v2) u v1 v2) ?_ u v I
  intro f_codeNum f_codeOp f_codeCon f_codeCall f_codeMatch f_codeIfZero f_codeRet f_cellBase f_unseen f_capacity f_depth f_complete f_open f_stored f_scope f_borrowedNow f_pending f_liveCells f_frames f_spareTotal f_state f_borrowing f_reusing f_keeping f_result f_steps f_fresh f_reused f_peak a_arities a_masks a_starts a_codes a_extras a_lefts a_rights a_scopes a_uses a_borrowed a_lends a_others a_frees a_afters a_builds a_pendingAt a_tags a_firsts a_seconds a_digests a_counts a_places a_work a_marks a_variables a_currents a_held a_spareCounts g_bits g_resultCell g_resultNum g_seen b_aOf b_bOf b_spare b_varCell b_varNum b_borrowed b_tagOf b_fieldCell b_fieldNum b_marked b_digestOf F
  have J : i_Rel (k + 5) (f_codeNum, f_codeOp, f_codeCon, f_codeCall, f_codeMatch, f_codeIfZero, f_codeRet, f_cellBase, f_unseen, f_capacity, f_depth, f_complete, f_open, f_stored, f_scope, f_borrowedNow, f_pending, f_liveCells, f_frames, f_spareTotal, f_state, f_borrowing, f_reusing, f_keeping, f_result, f_steps, f_fresh, f_reused, f_peak, a_arities, a_masks, a_starts, a_codes, a_extras, a_lefts, a_rights, a_scopes, a_uses, a_borrowed, a_lends, a_others, a_frees, a_afters, a_builds, a_pendingAt, a_tags, a_firsts, a_seconds, a_digests, a_counts, a_places, a_work, a_marks, a_variables, a_currents, a_held, a_spareCounts) (f_capacity, f_depth, f_complete, f_open, f_stored, f_scope, f_state, g_bits, f_frames, f_steps, f_fresh, f_reused, f_peak, g_resultCell, g_resultNum, g_seen, a_starts, a_arities, a_masks, a_codes, a_extras, a_scopes, b_aOf, b_bOf, a_currents, b_spare, b_varCell, b_varNum, b_borrowed, b_tagOf, b_fieldCell, b_fieldNum, b_marked, b_digestOf) := zz_in F
  obtain ⟨sc, bw, cm, b, st, p, cu, sg, rk, sp, L, n, lv, cp, dp, T, R⟩ := F
  obtain ⟨t1, t2, t3, t4, C, t6⟩ := T
  subst t1 t2
  have hcm := C.2.1
  refine br_c (fun ho => pk_lt cm 6 (fun z => ?_) (fun z => ?_)) (fun ho => br_f ho ⟨rfl, J⟩)
  · have n6 : ¬ nI cm = (6 : Int32) := fun w => by rw [show (6 : Int32) = nI 6 from rfl, nI_eq (by omega) (by omega)] at w; omega
    refine br_c (fun a0 => br_t ho (br_f n6 (br_t a0 ⟨rfl, J⟩))) (fun a0 => br_c (fun a1 => ?_) (fun a1 => br_t ho (br_f n6 (br_f a0 (br_f a1 ⟨rfl, J⟩)))))
    obtain ⟨ar, har, rfl⟩ := nI_of2 (M := 2) (n := 2) (by decide) a0 a1
    have hb : b = st := by
      rcases t6 with ⟨_, q⟩ | ⟨q, _⟩
      · exact q
      · rw [q] at ho; exact absurd ho (by decide)
    subst hb
    have hin : vp_in (nI cm) 6 := vp_in_nI z (by omega)
    rw [nI_clamp (show cm < 2 ^ 31 by omega)]
    refine nm_e ⟨hin, nm_e ⟨hin, nm_e ⟨hin, nm_e ?_⟩⟩⟩
    refine br_t ho (br_f n6 (br_f a0 (br_t a1 ?_)))
    rw [nI_clamp (show cm < 2 ^ 31 by omega)]
    refine ⟨hin, nm_e ⟨hin, nm_e ⟨hin, nm_e ⟨rfl, ?_⟩⟩⟩⟩
    have hmb : ∀ v, v < 32 → bt (v2 &&& (((1 : Int32) <<< (nI ar &&& 31)) - 1)) v = true → v < ar := fun v hv h => by
      rw [b_and, fn_mask ar (by omega) v hv, Bool.and_eq_true, decide_eq_true_iff] at h
      exact h.2
    refine zz_in ⟨fun j => if j = b then ar else sc j, fun j => if j = b then v2 &&& (((1 : Int32) <<< (nI ar &&& 31)) - 1) else bw j, cm, b, b, 0, cu, sg, rk, sp, L, n, lv, cp, dp, ⟨rfl, rfl, Nat.le_refl _, t4, ?_, Or.inr ⟨rfl, z, pk_us, ?_, ?_, ?_, fun v hv h => ?_, rfl, by omega, ⟨?_, ?_, ?_⟩, fun i hi1 hi2 => by omega, fun i hi1 hi2 => ?_, by omega, fun j hj => by omega⟩⟩, ?_⟩
    · exact ct_cg C (fun g hg => pk_un (by omega)) (fun g hg => pk_un (by omega)) (fun g hg => pk_un (by omega)) (fun _ _ => rfl) (fun _ _ => rfl) (fun _ _ => rfl) (fun _ _ => rfl) (fun _ _ => rfl) (fun _ _ => rfl) (fun _ _ => rfl) (fun _ _ => rfl) (fun _ _ => rfl) (fun _ _ => rfl) (fun _ _ => rfl) (fun _ _ => rfl) (fun _ _ => rfl) (fun _ _ => rfl) (fun i hi => if_neg (by omega)) (fun i hi => if_neg (by omega))
    · (try dsimp only); rw [if_pos rfl]
    · (try dsimp only); rw [if_pos rfl]; omega
    · (try dsimp only); rw [if_pos rfl]
    · (try dsimp only at h); rw [if_pos rfl] at h
      (try dsimp only); rw [if_pos rfl]; exact hmb v hv h
    · (try dsimp only); rw [pk_us, if_pos rfl]
    · (try dsimp only); rw [if_pos rfl]; exact har
    · (try dsimp only); rw [pk_us, if_pos rfl]
    · rw [show i = b by omega]; exact Int.le_refl _
    · exact rr_Rt R (Nat.le_refl _) (fun _ _ => rfl) (fun _ _ => rfl) (fun _ _ => rfl) (fun _ _ => rfl) (fun _ _ => rfl) (fun i hi => if_neg (by omega))
  · have n6 : nI cm = (6 : Int32) := by rw [show cm = 6 by omega]; rfl
    exact br_t ho (br_t n6 ⟨rfl, J⟩)
theorem i_vc_discard {k : Nat} {u : SX} {v : SY} (I : i_Rel k u v) (hk : k + 5 ≤ 2562) : wpX_discard (fun r u' => wpY_discard (fun r' v' => r' = r ∧ i_Rel (k + 5) u' v') v) u := by
  refine zz_el (P := fun u v => wpX_discard (fun r u' => wpY_discard (fun r' v' => r' = r ∧ i_Rel (k + 5) u' v') v) u) ?_ u v I
  intro f_codeNum f_codeOp f_codeCon f_codeCall f_codeMatch f_codeIfZero f_codeRet f_cellBase f_unseen f_capacity f_depth f_complete f_open f_stored f_scope f_borrowedNow f_pending f_liveCells f_frames f_spareTotal f_state f_borrowing f_reusing f_keeping f_result f_steps f_fresh f_reused f_peak a_arities a_masks a_starts a_codes a_extras a_lefts a_rights a_scopes a_uses a_borrowed a_lends a_others a_frees a_afters a_builds a_pendingAt a_tags a_firsts a_seconds a_digests a_counts a_places a_work a_marks a_variables a_currents a_held a_spareCounts g_bits g_resultCell g_resultNum g_seen b_aOf b_bOf b_spare b_varCell b_varNum b_borrowed b_tagOf b_fieldCell b_fieldNum b_marked b_digestOf F
  have J : i_Rel (k + 5) (f_codeNum, f_codeOp, f_codeCon, f_codeCall, f_codeMatch, f_codeIfZero, f_codeRet, f_cellBase, f_unseen, f_capacity, f_depth, f_complete, f_open, f_stored, f_scope, f_borrowedNow, f_pending, f_liveCells, f_frames, f_spareTotal, f_state, f_borrowing, f_reusing, f_keeping, f_result, f_steps, f_fresh, f_reused, f_peak, a_arities, a_masks, a_starts, a_codes, a_extras, a_lefts, a_rights, a_scopes, a_uses, a_borrowed, a_lends, a_others, a_frees, a_afters, a_builds, a_pendingAt, a_tags, a_firsts, a_seconds, a_digests, a_counts, a_places, a_work, a_marks, a_variables, a_currents, a_held, a_spareCounts) (f_capacity, f_depth, f_complete, f_open, f_stored, f_scope, f_state, g_bits, f_frames, f_steps, f_fresh, f_reused, f_peak, g_resultCell, g_resultNum, g_seen, a_starts, a_arities, a_masks, a_codes, a_extras, a_scopes, b_aOf, b_bOf, a_currents, b_spare, b_varCell, b_varNum, b_borrowed, b_tagOf, b_fieldCell, b_fieldNum, b_marked, b_digestOf) := zz_in F
  obtain ⟨sc, bw, cm, b, st, p, cu, sg, rk, sp, L, n, lv, cp, dp, T, R⟩ := F
  obtain ⟨t1, t2, t3, t4, C, t6⟩ := T
  subst t1 t2
  refine br_c (fun ho => br_t ho ⟨rfl, J⟩) (fun ho => ?_)
  obtain ⟨o1, O⟩ := t6.resolve_left (fun z => ho z.1)
  obtain ⟨c1, c2, -⟩ := O
  rw [nI_clamp (show cm < 2 ^ 31 by omega), c2, pk_sub t3]
  refine ⟨vp_in_nI c1 (by omega), nm_e ⟨vp_in_nI c1 (by omega), nm_e (br_f ho ?_)⟩⟩
  rw [nI_clamp (show cm < 2 ^ 31 by omega), c2, pk_sub t3]
  refine ⟨vp_in_nI c1 (by omega), nm_e ?_⟩
  rw [pk_sub (by omega), show st - (st - b) = b by omega]
  refine nm_e ⟨rfl, zz_in ⟨sc, bw, cm, b, b, 0, cu, sg, rk, sp, L, n, lv, cp, dp, ⟨rfl, rfl, Nat.le_refl _, by omega, C, Or.inl ⟨rfl, rfl⟩⟩, R⟩⟩
end
section
section
variable {f_codeNum f_codeOp f_codeCon f_codeCall f_codeMatch f_codeIfZero f_codeRet : Int32} {f_cellBase f_unseen : Int64} {f_capacity f_depth f_complete f_open f_stored f_scope f_borrowedNow f_pending f_liveCells f_frames f_spareTotal f_state f_borrowing f_reusing f_keeping : Int32} {f_result : Int64} {f_steps f_fresh f_reused f_peak : Int32} {a_arities a_masks a_starts a_codes a_extras a_lefts a_rights a_scopes a_uses a_borrowed a_lends a_others a_frees a_afters a_builds a_pendingAt a_tags : Nat → Int32} {a_firsts a_seconds : Nat → Int64} {a_digests a_counts a_places a_work a_marks : Nat → Int32} {a_variables : Nat → Int64} {a_currents a_held a_spareCounts : Nat → Int32}
theorem xa_loop {post : SX → Prop} {b st : Nat} {aO bO : Nat → Int32} {sc : Nat → Nat} {bw : Nat → Int32} {cm : Nat} (hst : st < 96) (hb : b ≤ st) (hT : tx_T a_codes b (st + 1))
    (hW : ∀ i, b ≤ i → i < st + 1 → tx_W a_arities a_masks a_codes a_extras a_lefts a_rights a_scopes a_uses a_borrowed a_lends a_others aO bO sc bw cm (st + 1) i)
    (hp : ∀ fr af bd, (∀ i, b ≤ i → i < st + 1 → tx_A a_codes a_uses fr af bd sc i) → (∀ i, i < b → fr i = a_frees i ∧ af i = a_afters i ∧ bd i = a_builds i) → post (f_codeNum, f_codeOp, f_codeCon, f_codeCall, f_codeMatch, f_codeIfZero, f_codeRet, f_cellBase, f_unseen, f_capacity, f_depth, f_complete, f_open, f_stored, f_scope, f_borrowedNow, f_pending, f_liveCells, f_frames, f_spareTotal, f_state, f_borrowing, f_reusing, f_keeping, f_result, f_steps, f_fresh, f_reused, f_peak, a_arities, a_masks, a_starts, a_codes, a_extras, a_lefts, a_rights, a_scopes, a_uses, a_borrowed, a_lends, a_others, fr, af, bd, a_pendingAt, a_tags, a_firsts, a_seconds, a_digests, a_counts, a_places, a_work, a_marks, a_variables, a_currents, a_held, a_spareCounts)) :
    ∀ (j m : Nat) (fr af bd : Nat → Int32), b + j ≤ st + 1 → j < m → (∀ i, b + j ≤ i → i < st + 1 → tx_A a_codes a_uses fr af bd sc i) → (∀ i, i < b → fr i = a_frees i ∧ af i = a_afters i ∧ bd i = a_builds i) →
      wX_analyse_7 post (nI b) f_codeNum f_codeOp f_codeCon f_codeCall f_codeMatch f_codeIfZero f_codeRet f_cellBase f_unseen f_capacity f_depth f_complete f_open f_stored f_scope f_borrowedNow f_pending f_liveCells f_frames f_spareTotal f_state f_borrowing f_reusing f_keeping f_result f_steps f_fresh f_reused f_peak m (nI (b + j) + (-1)) a_arities a_masks a_starts a_codes a_extras a_lefts a_rights a_scopes a_uses a_borrowed a_lends a_others fr af bd a_pendingAt a_tags a_firsts a_seconds a_digests a_counts a_places a_work a_marks a_variables a_currents a_held a_spareCounts := by
  intro j
  induction j with
  | zero =>
    intro m fr af bd hj hm hA hlow
    obtain ⟨m, rfl⟩ : ∃ q, m = q + 1 := ⟨m - 1, by omega⟩
    refine br_t ?_ (hp fr af bd hA hlow)
    cases b with
    | zero => decide
    | succ b => rw [Nat.add_zero, pk_m1]; exact nI_lt (by omega) (by omega)
  | succ j ih =>
    intro m fr af bd hj hm hA hlow
    obtain ⟨m, rfl⟩ : ∃ q, m = q + 1 := ⟨m - 1, by omega⟩
    obtain ⟨s, es⟩ : ∃ s, s = b + j := ⟨_, rfl⟩
    rw [← Nat.add_assoc, pk_m1, ← es]
    have hs : s < 96 := by omega
    have hin : vp_in (nI s) 96 := vp_in_nI hs (by omega)
    have W := hW s (by omega) (by omega)
    obtain ⟨w1, w2, -, -, -, -, -, -, -, -, -, w12⟩ := W
    obtain ⟨e, he, Ts⟩ := tx_sub hT (i := s) (by omega) (by omega)
    -- what every row ends with
    have fin : ∀ afs bds : Int32, tx_A a_codes a_uses (upd fr s (a_uses s ||| afs)) (upd af s afs) (upd bd s bds) sc s →
        wX_analyse_207 post (wX_analyse_7 post (nI b) f_codeNum f_codeOp f_codeCon f_codeCall f_codeMatch f_codeIfZero f_codeRet f_cellBase f_unseen f_capacity f_depth f_complete f_open f_stored f_scope f_borrowedNow f_pending f_liveCells f_frames f_spareTotal f_state f_borrowing f_reusing f_keeping f_result f_steps f_fresh f_reused f_peak m) (nI b) (nI s) f_codeNum f_codeOp f_codeCon f_codeCall f_codeMatch f_codeIfZero f_codeRet f_cellBase f_unseen f_capacity f_depth f_complete f_open f_stored f_scope f_borrowedNow f_pending f_liveCells f_frames f_spareTotal f_state f_borrowing f_reusing f_keeping f_result f_steps f_fresh f_reused f_peak a_arities a_masks a_starts a_codes a_extras a_lefts a_rights a_scopes a_uses a_borrowed a_lends a_others fr (upd af s afs) (upd bd s bds) a_pendingAt a_tags a_firsts a_seconds a_digests a_counts a_places a_work a_marks a_variables a_currents a_held a_spareCounts := by
      intro afs bds hAs
      unfold wX_analyse_207
      rw [nI_clamp (show s < 2 ^ 31 by omega), pk_us]
      refine ⟨hin, hin, hin, nm_e (nm_e ?_)⟩
      rw [es]
      refine ih m _ _ _ (by omega) (by omega) (fun i hi1 hi2 => ?_) (fun i hi => ?_)
      · by_cases ei : i = s
        · rw [ei, ← es]; exact hAs
        · have hi3 : b + (j + 1) ≤ i := by omega
          have A := hA i hi3 hi2
          obtain ⟨e', he', Ti⟩ := tx_sub hT (i := i) (by omega) hi2
          rw [← es]
          unfold tx_A at A ⊢
          obtain ⟨a1, a2, a3, a4⟩ := A
          rw [pk_un (show i ≠ s by omega), pk_un (show i ≠ s by omega), pk_un (show i ≠ s by omega), pk_un (show i + 1 ≠ s by omega), pk_un (show i + 1 ≠ s by omega)]
          refine ⟨a1, a2, fun z mm hTm => ?_, a4⟩
          have := hTm.1
          rw [pk_un (show mm ≠ s by omega), pk_un (show mm ≠ s by omega)]
          exact a3 z mm hTm
      · rw [← es, pk_un (by omega), pk_un (by omega), pk_un (by omega)]
        exact hlow i hi
    have hus : ∀ x : Int32, ∀ v, v < 32 → bt (upd fr s (a_uses s ||| x) s) v = (bt (a_uses s) v || bt (upd af s x s) v) := fun x v hv => by rw [pk_us, pk_us, b_or]
    refine br_f (nI_nlt (by omega) (by omega)) ?_
    rw [nI_clamp (show s < 2 ^ 31 by omega)]
    refine ⟨hin, nm_e ⟨hin, nm_e (br_c (fun k6 => ⟨hin, nm_e ⟨hin, nm_e (fin 0 0 ⟨hus 0, fun _ => ⟨fun v hv => by rw [pk_us, b_0], pk_us⟩, fun z => ?_, fun z => ?_⟩)⟩⟩) (fun k6 => ?_))⟩⟩
    · rcases z with z | z <;> exact absurd (k6.symm.trans z) (by decide)
    · rcases z with z | z | z | z <;> exact absurd (k6.symm.trans z) (by decide)
    · -- branchings
      have hbr : a_codes s = 4 ∨ a_codes s = 5 → wX_analyse_60 post (wX_analyse_7 post (nI b) f_codeNum f_codeOp f_codeCon f_codeCall f_codeMatch f_codeIfZero f_codeRet f_cellBase f_unseen f_capacity f_depth f_complete f_open f_stored f_scope f_borrowedNow f_pending f_liveCells f_frames f_spareTotal f_state f_borrowing f_reusing f_keeping f_result f_steps f_fresh f_reused f_peak m) (nI b) (nI s) (a_codes s) (a_scopes s) f_codeNum f_codeOp f_codeCon f_codeCall f_codeMatch f_codeIfZero f_codeRet f_cellBase f_unseen f_capacity f_depth f_complete f_open f_stored f_scope f_borrowedNow f_pending f_liveCells f_frames f_spareTotal f_state f_borrowing f_reusing f_keeping f_result f_steps f_fresh f_reused f_peak a_arities a_masks a_starts a_codes a_extras a_lefts a_rights a_scopes a_uses a_borrowed a_lends a_others fr af bd a_pendingAt a_tags a_firsts a_seconds a_digests a_counts a_places a_work a_marks a_variables a_currents a_held a_spareCounts := fun k45 => by
        have t1 : tx_t a_codes s = 1 := by rcases k45 with z | z; exact tx_t4 z; exact tx_t5 z
        obtain ⟨q, hq, T1, T2⟩ := tx_1 t1 Ts
        have q0 := T1.1
        obtain ⟨eo, -, -⟩ := w12 k45 q T1 (by omega)
        have g86 : ∀ z0 : Int32, (∀ v, v < 32 → bt z0 v = (decide (a_codes s = 4) && (decide (v = sc s) || decide (v = sc s + 1)))) → wX_analyse_86 post (wX_analyse_7 post (nI b) f_codeNum f_codeOp f_codeCon f_codeCall f_codeMatch f_codeIfZero f_codeRet f_cellBase f_unseen f_capacity f_depth f_complete f_open f_stored f_scope f_borrowedNow f_pending f_liveCells f_frames f_spareTotal f_state f_borrowing f_reusing f_keeping f_result f_steps f_fresh f_reused f_peak m) (nI b) (nI s) (nI (s + 1)) (nI q) z0 f_codeNum f_codeOp f_codeCon f_codeCall f_codeMatch f_codeIfZero f_codeRet f_cellBase f_unseen f_capacity f_depth f_complete f_open f_stored f_scope f_borrowedNow f_pending f_liveCells f_frames f_spareTotal f_state f_borrowing f_reusing f_keeping f_result f_steps f_fresh f_reused f_peak a_arities a_masks a_starts a_codes a_extras a_lefts a_rights a_scopes a_uses a_borrowed a_lends a_others fr af bd a_pendingAt a_tags a_firsts a_seconds a_digests a_counts a_places a_work a_marks a_variables a_currents a_held a_spareCounts := by
          intro z0 hz0
          unfold wX_analyse_86
          rw [nI_clamp (show s < 2 ^ 31 by omega), nI_clamp (show s + 1 < 2 ^ 31 by omega), nI_clamp (show q < 2 ^ 31 by omega)]
          have i1 : vp_in (nI (s + 1)) 96 := vp_in_nI (by omega) (by omega)
          have iq : vp_in (nI q) 96 := vp_in_nI (by omega) (by omega)
          have hAs : ∀ bds : Int32, bds = (if bd (s + 1) ≤ bd q then bd q else bd (s + 1)) → tx_A a_codes a_uses (upd fr s (a_uses s ||| ((fr (s + 1) &&& (z0 ^^^ (-1))) ||| fr q))) (upd af s ((fr (s + 1) &&& (z0 ^^^ (-1))) ||| fr q)) (upd bd s bds) sc s := fun bds ebds => by
            refine ⟨hus _, fun z => absurd z k6, fun _ mm hTm => ?_, fun z => ?_⟩
            · have emm : mm = q := tx_uniq hTm T1
              rw [emm, pk_un (show s + 1 ≠ s by omega), pk_un (show q ≠ s by omega), pk_un (show s + 1 ≠ s by omega), pk_un (show q ≠ s by omega), pk_us, pk_us]
              refine ⟨fun v hv => ?_, ebds⟩
              rw [b_or, b_and, rc_not _ hv, hz0 v hv]
            · rcases z with z | z | z | z <;> (rcases k45 with y | y <;> exact absurd (z.symm.trans y) (by decide))
          have g153 : ∀ bds : Int32, bds = (if bd (s + 1) ≤ bd q then bd q else bd (s + 1)) → wX_analyse_153 post (wX_analyse_7 post (nI b) f_codeNum f_codeOp f_codeCon f_codeCall f_codeMatch f_codeIfZero f_codeRet f_cellBase f_unseen f_capacity f_depth f_complete f_open f_stored f_scope f_borrowedNow f_pending f_liveCells f_frames f_spareTotal f_state f_borrowing f_reusing f_keeping f_result f_steps f_fresh f_reused f_peak m) (nI b) (nI s) bds (nI s) f_codeNum f_codeOp f_codeCon f_codeCall f_codeMatch f_codeIfZero f_codeRet f_cellBase f_unseen f_capacity f_depth f_complete f_open f_stored f_scope f_borrowedNow f_pending f_liveCells f_frames f_spareTotal f_state f_borrowing f_reusing f_keeping f_result f_steps f_fresh f_reused f_peak a_arities a_masks a_starts a_codes a_extras a_lefts a_rights a_scopes a_uses a_borrowed a_lends a_others fr (upd af s ((fr (s + 1) &&& (z0 ^^^ (-1))) ||| fr q)) bd a_pendingAt a_tags a_firsts a_seconds a_digests a_counts a_places a_work a_marks a_variables a_currents a_held a_spareCounts := fun bds ebds => by
            unfold wX_analyse_153
            rw [nI_clamp (show s < 2 ^ 31 by omega)]
            exact ⟨hin, nm_e (fin _ bds (hAs bds ebds))⟩
          exact ⟨i1, iq, hin, nm_e ⟨i1, iq, br_c (fun y => ⟨iq, g153 _ (by rw [if_pos y])⟩) (fun y => ⟨i1, g153 _ (by rw [if_neg y])⟩)⟩⟩
        unfold wX_analyse_60
        rw [nI_clamp (show s < 2 ^ 31 by omega), w2.1]
        refine nm_r (nI_1 s) ⟨hin, nm_r eo (br_c (fun z4 => g86 _ (fun v hv => ?_)) (fun z4 => g86 _ (fun v hv => ?_)))⟩
        · rw [rc_bit3 (by have := w2.2.2.1; omega) hv, decide_eq_true z4, Bool.true_and]
        · rw [b_0, decide_eq_false z4, Bool.false_and]
      refine br_c (fun k4 => hbr (Or.inl k4)) (fun k4 => br_c (fun k5 => hbr (Or.inr k5)) (fun k5 => ?_))
      -- the others
      have k03 : a_codes s = 0 ∨ a_codes s = 1 ∨ a_codes s = 2 ∨ a_codes s = 3 := by
        rcases w1 with z | z | z | z | z | z | z
        · exact Or.inl z
        · exact Or.inr (Or.inl z)
        · exact Or.inr (Or.inr (Or.inl z))
        · exact Or.inr (Or.inr (Or.inr z))
        · exact absurd z k4
        · exact absurd z k5
        · exact absurd z k6
      have T1 := tx_0 (tx_t0 k4 k5 k6) Ts
      have q0 := T1.1
      have hAs : ∀ bds : Int32, bds = (if a_codes s = 2 then bd (s + 1) + 1 else bd (s + 1)) → tx_A a_codes a_uses (upd fr s (a_uses s ||| (fr (s + 1) &&& (((1 : Int32) <<< (nI (sc s) &&& 31)) ^^^ (-1))))) (upd af s (fr (s + 1) &&& (((1 : Int32) <<< (nI (sc s) &&& 31)) ^^^ (-1)))) (upd bd s bds) sc s := fun bds ebds => by
        refine ⟨hus _, fun z => absurd z k6, fun z => z.elim (fun z => absurd z k4) (fun z => absurd z k5), fun _ => ?_⟩
        rw [pk_un (show s + 1 ≠ s by omega), pk_un (show s + 1 ≠ s by omega), pk_us, pk_us]
        refine ⟨fun v hv => ?_, ebds⟩
        rw [b_and, rc_not _ hv, rc_bit1 (by have := w2.2.2.1; omega) hv]
      rw [nI_1, nI_clamp (show s + 1 < 2 ^ 31 by omega), w2.1]
      have i1 : vp_in (nI (s + 1)) 96 := vp_in_nI (by omega) (by omega)
      refine ⟨i1, hin, nm_e ⟨i1, hin, nm_e (br_c (fun k2 => ⟨hin, hin, ?_⟩) (fun k2 => fin _ _ (hAs _ (by rw [if_neg k2]))))⟩⟩
      rw [pk_us]
      refine nm_r (e' := upd bd s (bd (s + 1) + 1)) pk_uu (fin _ _ (hAs _ (by rw [if_pos k2])))
end
end
section
section
variable {f_codeNum f_codeOp f_codeCon f_codeCall f_codeMatch f_codeIfZero f_codeRet : Int32} {f_cellBase f_unseen : Int64} {f_capacity f_depth f_complete f_open f_stored f_scope f_borrowedNow f_pending f_liveCells f_frames f_spareTotal f_state f_borrowing f_reusing f_keeping : Int32} {f_result : Int64} {f_steps f_fresh f_reused f_peak : Int32} {a_arities a_masks a_starts a_codes a_extras a_lefts a_rights a_scopes a_uses a_borrowed a_lends a_others a_frees a_afters a_builds a_pendingAt a_tags : Nat → Int32} {a_firsts a_seconds : Nat → Int64} {a_digests a_counts a_places a_work a_marks : Nat → Int32} {a_variables : Nat → Int64} {a_currents a_held a_spareCounts : Nat → Int32} {g_bits g_resultCell g_resultNum g_seen : Int32} {b_aOf b_bOf b_spare b_varCell b_varNum b_borrowed b_tagOf b_fieldCell b_fieldNum b_marked b_digestOf : Nat → Int32}
variable {sc cu sg rk sp : Nat → Nat} {bw : Nat → Int32} {L : Nat → Bool} {cm b n lv st cp dp p : Nat}
/-- a ret that ends a first branch -/
theorem tr_ret1 {l u aN : Int32} {j : Nat} (T : tr_T f_complete f_open f_stored f_scope f_borrowedNow f_pending a_arities a_masks a_starts a_codes a_extras a_lefts a_rights a_scopes a_uses a_borrowed a_lends a_others a_frees a_afters a_builds b_aOf b_bOf a_pendingAt sc bw cm b st p) (ho : ¬ f_open = 0) (hst : st < 96) (hp : p = j + 1)
    (ha : (aN = -1 ∧ l = 0) ∨ ∃ a, a < sc st ∧ aN = nI a ∧ l = nI a) (haN : aN ≠ -1) (hu : ∀ v, v < 32 → (bt u v = true ↔ (aN = nI v ∨ (-1 : Int32) = nI v))) :
    ∃ q, a_pendingAt j = nI q ∧ q < st ∧ b ≤ q ∧ tx_t (upd a_codes st 6) q = 1 ∧ a_scopes q = nI (sc q) ∧ a_borrowed q = bw q ∧ tx_T (upd a_codes st 6) (q + 1) (st + 1) ∧
    (∀ i, b ≤ i → i < st + 1 → tx_t (upd a_codes st 6) i = 1 → tx_T (upd a_codes st 6) (i + 1) (st + 1) → i = q) ∧
    tr_T f_complete 1 (nI (st + 1)) (nI (sc q)) (bw q) (nI j) a_arities a_masks a_starts (upd a_codes st 6) (upd a_extras st 0) (upd a_lefts st l) (upd a_rights st 0) (upd a_scopes st (nI (sc st))) (upd a_uses st u) (upd a_borrowed st (bw st)) (upd a_lends st 0) (upd (upd a_others st 0) q (nI (st + 1))) a_frees a_afters a_builds (upd b_aOf st aN) (upd b_bOf st (-1)) a_pendingAt (fun i => if i = st + 1 then sc q else sc i) (fun i => if i = st + 1 then bw q else bw i) cm b (st + 1) j := by
  obtain ⟨t1, t2, t3, t4, C, t6⟩ := T
  obtain ⟨o1, O⟩ := t6.resolve_left (fun z => ho z.1)
  obtain ⟨c1, c2, c3, c4, c5, c6, c7, c8, c9, c10, c11, c12, c13⟩ := O
  obtain ⟨q, q1, q2, q3, q4, q5, q6⟩ := c13 j (by omega)
  have un : ∀ (A : Nat → Int32) (x : Int32) (i : Nat), i < st → upd A st x i = A i := fun A x i hi => pk_un (by omega)
  have sn : ∀ i, i ≤ st → (fun i => if i = st + 1 then sc q else sc i) i = sc i := fun i hi => if_neg (by omega)
  have bn : ∀ i, i ≤ st → (fun i => if i = st + 1 then bw q else bw i) i = bw i := fun i hi => if_neg (by omega)
  have ts : ∀ i, i ≤ st → tx_s (upd a_codes st 6) i = tx_s a_codes i := fun i hi => tx_scg i (fun j hj => pk_un (by omega))
  have ts1 : tx_s (upd a_codes st 6) (st + 1) = tx_s a_codes st - 1 := by rw [tx_ss, ts st (Nat.le_refl _), tx_t6 (pk_us)]; omega
  have kq : upd a_codes st 6 q = 4 ∨ upd a_codes st 6 q = 5 := by rw [un _ _ q q3]; exact q4
  have tq : tx_t (upd a_codes st 6) q = 1 := by rcases kq with z | z; exact tx_t4 z; exact tx_t5 z
  have tsq1 : tx_s (upd a_codes st 6) (q + 1) = tx_s a_codes q + 1 := by rw [tx_ss, ts q (by omega), tq]
  have Tq : tx_T (upd a_codes st 6) (q + 1) (st + 1) := by
    refine ⟨by omega, by rw [ts1, tsq1]; omega, fun i hi1 hi2 => ?_⟩
    rw [tsq1, ts i (by omega)]
    exact q6 i (by omega) (by omega)
  have uniq : ∀ i, b ≤ i → i < st + 1 → tx_t (upd a_codes st 6) i = 1 → tx_T (upd a_codes st 6) (i + 1) (st + 1) → i = q := fun i hi1 hi2 h1 hT => by
    have e1 := hT.2.1
    rw [ts1, tx_ss, ts i (by omega), h1] at e1
    rcases Nat.lt_trichotomy i q with z | z | z
    · have := hT.2.2 q (by omega) (by omega)
      rw [tx_ss, ts i (by omega), h1, ts q (by omega)] at this
      omega
    · exact z
    · have := q6 i z (by omega)
      omega
  have wq := (c10 q q2 q3).2.1
  refine ⟨q, q1, q3, q2, tq, wq.1, wq.2.1, Tq, uniq, t1, rfl, by omega, by omega, ?_, Or.inr ⟨rfl, c1, c2, ?_, ?_, ?_, fun v hv h => ?_, rfl, by omega, ?_, fun i hi1 hi2 => ?_, fun i hi1 hi2 => ?_, ?_, fun i hi => ?_⟩⟩
  · exact ct_cg C (fun _ _ => rfl) (fun _ _ => rfl) (fun _ _ => rfl) (fun i hi => un _ _ i (by omega)) (fun i hi => un _ _ i (by omega)) (fun i hi => un _ _ i (by omega)) (fun i hi => un _ _ i (by omega)) (fun i hi => un _ _ i (by omega)) (fun i hi => un _ _ i (by omega)) (fun i hi => un _ _ i (by omega)) (fun i hi => un _ _ i (by omega)) (fun i hi => by rw [pk_un (show i ≠ q by omega)]; exact un _ _ i (by omega)) (fun _ _ => rfl) (fun _ _ => rfl) (fun _ _ => rfl) (fun i hi => un _ _ i (by omega)) (fun i hi => un _ _ i (by omega)) (fun i hi => sn i (by omega)) (fun i hi => bn i (by omega))
  · (try dsimp only); rw [if_pos rfl]
  · (try dsimp only); rw [if_pos rfl]; exact wq.2.2.1
  · (try dsimp only); rw [if_pos rfl]
  · (try dsimp only at h); rw [if_pos rfl] at h
    (try dsimp only); rw [if_pos rfl]; exact wq.2.2.2 v hv h
  · rw [sn b t3, bn b t3]; exact c9
  · by_cases ei : i = st
    · rw [ei]
      have W0 : tx_W a_arities a_masks (upd a_codes st 6) (upd a_extras st 0) (upd a_lefts st l) (upd a_rights st 0) (upd a_scopes st (nI (sc st))) (upd a_uses st u) (upd a_borrowed st (bw st)) (upd a_lends st 0) (upd a_others st 0) (upd b_aOf st aN) (upd b_bOf st (-1)) (fun i => if i = st + 1 then sc q else sc i) (fun i => if i = st + 1 then bw q else bw i) (cm + 1) (st + 1) st :=
        tx_Wnew (by decide) (sn st (Nat.le_refl _)) (bn st (Nat.le_refl _)) c4 c6 ha (Or.inl ⟨rfl, rfl⟩) hu (fun _ _ => haN) (fun z => z.elim (fun z => absurd z (by decide)) (fun z => absurd z (by decide))) (fun z => absurd z (by decide)) (fun z => by rcases z with z | z | z | z <;> exact absurd z (by decide)) (fun z => absurd z (by decide)) (fun z => absurd z (by decide))
      exact tx_Wcg W0 (Nat.le_refl _) (fun _ _ => rfl) (fun _ _ => rfl) rfl rfl rfl rfl rfl rfl rfl rfl rfl rfl rfl rfl (fun _ => ⟨rfl, rfl⟩) (fun z => by rw [pk_us] at z; rcases z with z | z <;> exact absurd z (by decide))
    · refine tx_Wcg (c10 i hi1 (by omega)) (Nat.le_refl _) (fun _ _ => rfl) (fun _ _ => rfl) (un _ _ i (by omega)) (un _ _ i (by omega)) (un _ _ i (by omega)) (un _ _ i (by omega)) (un _ _ i (by omega)) (un _ _ i (by omega)) (un _ _ i (by omega)) (un _ _ i (by omega)) (un _ _ i (by omega)) (un _ _ i (by omega)) (sn i (by omega)) (bn i (by omega)) (fun _ => ⟨sn _ (by omega), bn _ (by omega)⟩) (fun z m hT hm => ?_)
      have ti : tx_t (upd a_codes st 6) i = 1 := by
        rcases z with z | z
        · exact tx_t4 (by rw [un _ _ i (by omega)]; exact z)
        · exact tx_t5 (by rw [un _ _ i (by omega)]; exact z)
      by_cases eq : i = q
      · have em : m = st + 1 := by rw [eq] at hT; exact tx_uniq hT Tq
        rw [em, eq]
        refine ⟨pk_us, ?_, ?_⟩
        · (try dsimp only); rw [if_pos rfl, if_neg (by omega)]
        · (try dsimp only); rw [if_pos rfl, if_neg (by omega)]
      · have hms : m ≤ st := by
          rcases Nat.lt_or_ge st m with w | w
          · have : m = st + 1 := by omega
            subst this
            exact absurd (uniq i hi1 hi2 ti hT) eq
          · exact w
        have T2 := tx_cg (kd := upd a_codes st 6) (kd' := a_codes) (n := st) (fun j hj => (un _ _ j hj).symm) hms hT
        obtain ⟨r1, r2, r3⟩ := (c10 i hi1 (by omega)).2.2.2.2.2.2.2.2.2.2.2 z m T2 hms
        exact ⟨(pk_un eq).trans ((un _ _ i (by omega)).trans r1), (sn m hms).trans (r2.trans (sn i (by omega)).symm), (bn m hms).trans (r3.trans (bn i (by omega)).symm)⟩
  · rw [ts b t3]
    by_cases ei : i = st + 1
    · rw [ei, ts1]; omega
    · rw [ts i (by omega)]; exact c11 i hi1 (by omega)
  · rw [ts1, ts b t3]; omega
  · obtain ⟨r, r1, r2, r3, r4, r5, r6⟩ := c13 i (by omega)
    refine ⟨r, r1, r2, by omega, by rw [un _ _ r r3]; exact r4, by rw [ts r (by omega), ts b t3]; exact r5, fun x hx1 hx2 => ?_⟩
    rw [ts r (by omega)]
    by_cases ex : x = st + 1
    · rw [ex, ts1]; omega
    · rw [ts x (by omega)]; exact r6 x hx1 (by omega)
/-- a ret that completes the function: its text -/
theorem tr_ret0 {l u aN : Int32} (T : tr_T f_complete f_open f_stored f_scope f_borrowedNow f_pending a_arities a_masks a_starts a_codes a_extras a_lefts a_rights a_scopes a_uses a_borrowed a_lends a_others a_frees a_afters a_builds b_aOf b_bOf a_pendingAt sc bw cm b st p) (ho : ¬ f_open = 0) (hst : st < 96) (hp : p = 0)
    (ha : (aN = -1 ∧ l = 0) ∨ ∃ a, a < sc st ∧ aN = nI a ∧ l = nI a) (haN : aN ≠ -1) (hu : ∀ v, v < 32 → (bt u v = true ↔ (aN = nI v ∨ (-1 : Int32) = nI v))) :
    tx_T (upd a_codes st 6) b (st + 1) ∧
    (∀ i, b ≤ i → i < st + 1 → tx_W a_arities a_masks (upd a_codes st 6) (upd a_extras st 0) (upd a_lefts st l) (upd a_rights st 0) (upd a_scopes st (nI (sc st))) (upd a_uses st u) (upd a_borrowed st (bw st)) (upd a_lends st 0) (upd a_others st 0) (upd b_aOf st aN) (upd b_bOf st (-1)) sc bw (cm + 1) (st + 1) i) ∧
    ∀ fr af bd, (∀ i, b ≤ i → i < st + 1 → tx_A (upd a_codes st 6) (upd a_uses st u) fr af bd sc i) → (∀ i, i < b → fr i = a_frees i ∧ af i = a_afters i ∧ bd i = a_builds i) →
      ∀ (x1 x2 x3 : Int32), tr_T (nI (cm + 1)) 0 (nI (st + 1)) x1 x2 x3 a_arities a_masks a_starts (upd a_codes st 6) (upd a_extras st 0) (upd a_lefts st l) (upd a_rights st 0) (upd a_scopes st (nI (sc st))) (upd a_uses st u) (upd a_borrowed st (bw st)) (upd a_lends st 0) (upd a_others st 0) fr af bd (upd b_aOf st aN) (upd b_bOf st (-1)) a_pendingAt sc bw (cm + 1) (st + 1) (st + 1) 0 := by
  obtain ⟨t1, t2, t3, t4, C, t6⟩ := T
  obtain ⟨o1, O⟩ := t6.resolve_left (fun z => ho z.1)
  obtain ⟨c1, c2, c3, c4, c5, c6, c7, c8, c9, c10, c11, c12, c13⟩ := O
  have un : ∀ (A : Nat → Int32) (x : Int32) (i : Nat), i < st → upd A st x i = A i := fun A x i hi => pk_un (by omega)
  have ts : ∀ i, i ≤ st → tx_s (upd a_codes st 6) i = tx_s a_codes i := fun i hi => tx_scg i (fun j hj => pk_un (by omega))
  have ts1 : tx_s (upd a_codes st 6) (st + 1) = tx_s a_codes st - 1 := by rw [tx_ss, ts st (Nat.le_refl _), tx_t6 (pk_us)]; omega
  have Tb : tx_T (upd a_codes st 6) b (st + 1) := by
    refine ⟨by omega, by rw [ts1, ts b t3]; omega, fun i hi1 hi2 => ?_⟩
    rw [ts b t3, ts i (by omega)]; exact c11 i hi1 (by omega)
  have noEnd : ∀ i, b ≤ i → i < st → (a_codes i = 4 ∨ a_codes i = 5) → ∀ m, tx_T (upd a_codes st 6) (i + 1) m → m ≤ st + 1 → m ≤ st := fun i hi1 hi2 z m hT hm => by
    rcases Nat.lt_or_ge st m with w | w
    · have : m = st + 1 := by omega
      subst this
      have ti : tx_t (upd a_codes st 6) i = 1 := by
        rcases z with z | z
        · exact tx_t4 (by rw [un _ _ i hi2]; exact z)
        · exact tx_t5 (by rw [un _ _ i hi2]; exact z)
      have e1 := hT.2.1
      rw [ts1, tx_ss, ts i (by omega), ti] at e1
      have := c11 i hi1 (by omega)
      omega
    · exact w
  have hW : ∀ i, b ≤ i → i < st + 1 → tx_W a_arities a_masks (upd a_codes st 6) (upd a_extras st 0) (upd a_lefts st l) (upd a_rights st 0) (upd a_scopes st (nI (sc st))) (upd a_uses st u) (upd a_borrowed st (bw st)) (upd a_lends st 0) (upd a_others st 0) (upd b_aOf st aN) (upd b_bOf st (-1)) sc bw (cm + 1) (st + 1) i := fun i hi1 hi2 => by
    by_cases ei : i = st
    · rw [ei]
      exact tx_Wnew (by decide) rfl rfl c4 c6 ha (Or.inl ⟨rfl, rfl⟩) hu (fun _ _ => haN) (fun z => z.elim (fun z => absurd z (by decide)) (fun z => absurd z (by decide))) (fun z => absurd z (by decide)) (fun z => by rcases z with z | z | z | z <;> exact absurd z (by decide)) (fun z => absurd z (by decide)) (fun z => absurd z (by decide))
    · refine tx_Wcg (c10 i hi1 (by omega)) (Nat.le_refl _) (fun _ _ => rfl) (fun _ _ => rfl) (un _ _ i (by omega)) (un _ _ i (by omega)) (un _ _ i (by omega)) (un _ _ i (by omega)) (un _ _ i (by omega)) (un _ _ i (by omega)) (un _ _ i (by omega)) (un _ _ i (by omega)) (un _ _ i (by omega)) (un _ _ i (by omega)) rfl rfl (fun _ => ⟨rfl, rfl⟩) (fun z m hT hm => ?_)
      have hms := noEnd i hi1 (by omega) z m hT hm
      have T2 := tx_cg (kd := upd a_codes st 6) (kd' := a_codes) (n := st) (fun j hj => (un _ _ j hj).symm) hms hT
      obtain ⟨r1, r2, r3⟩ := (c10 i hi1 (by omega)).2.2.2.2.2.2.2.2.2.2.2 z m T2 hms
      exact ⟨(un _ _ i (by omega)).trans r1, r2, r3⟩
  refine ⟨Tb, hW, fun fr af bd hA hlow x1 x2 x3 => ⟨rfl, rfl, Nat.le_refl _, by omega, ⟨by omega, by omega, fun i hi => ?_, fun i hi => ?_, fun i hi => ?_, fun g hg => ?_⟩, Or.inl ⟨rfl, rfl⟩⟩⟩
  · by_cases hib : i < b
    · obtain ⟨e, he, Ti⟩ := C.2.2.1 i hib
      exact ⟨e, by omega, tx_cg (n := b) (fun j hj => un _ _ j (by omega)) he Ti⟩
    · exact tx_sub Tb (by omega) hi
  · by_cases hib : i < b
    · have C' := ct_cg (sc' := sc) (bw' := bw) C (fun _ _ => rfl) (fun _ _ => rfl) (fun _ _ => rfl) (fun i hi => un a_codes 6 i (by omega)) (fun i hi => un a_extras 0 i (by omega)) (fun i hi => un a_lefts l i (by omega)) (fun i hi => un a_rights 0 i (by omega)) (fun i hi => un a_scopes (nI (sc st)) i (by omega)) (fun i hi => un a_uses u i (by omega)) (fun i hi => un a_borrowed (bw st) i (by omega)) (fun i hi => un a_lends 0 i (by omega)) (fun i hi => un a_others 0 i (by omega)) (fun _ _ => rfl) (fun _ _ => rfl) (fun _ _ => rfl) (fun i hi => un b_aOf aN i (by omega)) (fun i hi => un b_bOf (-1) i (by omega)) (fun _ _ => rfl) (fun _ _ => rfl)
      refine tx_Wcg (C'.2.2.2.1 i hib) (by omega) (fun _ _ => rfl) (fun _ _ => rfl) rfl rfl rfl rfl rfl rfl rfl rfl rfl rfl rfl rfl (fun _ => ⟨rfl, rfl⟩) (fun z m hT hm => ?_)
      obtain ⟨e, m', he, hm', Ti, T1, T2, h1, eo, es, eb⟩ := ct_br C' hib z
      rw [tx_uniq hT T1]
      exact ⟨eo, es, eb⟩
    · exact hW i (by omega) hi
  · by_cases hib : i < b
    · exact tx_Acg (C.2.2.2.2.1 i hib) hib (C.2.2.1 i hib) (fun j hj => un _ _ j (by omega)) (un _ _ i (by omega)) (fun j hj => (hlow j hj).1) (hlow i hib).2.1 (fun j hj => (hlow j hj).2.2) rfl
    · exact hA i (by omega) hi
  · by_cases hgc : g < cm
    · obtain ⟨s, h1, h2, h3, h4, h5⟩ := C.2.2.2.2.2 g hgc
      exact ⟨s, by omega, h2, h3, h4, h5⟩
    · have : g = cm := by omega
      rw [this]
      exact ⟨b, by omega, c2, c9.1, c9.2.1, c9.2.2⟩
end
section
variable {g_cap g_most g_functions g_open g_stored g_scope g_state g_bits g_frames g_steps g_fresh g_reused g_peak g_resultCell g_resultNum g_seen : Int32} {b_firstOf b_arityOf b_maskOf b_kindOf b_numOf b_scopeOf b_aOf b_bOf b_cur b_spare b_varCell b_varNum b_borrowed b_tagOf b_fieldCell b_fieldNum b_marked b_digestOf : Nat → Int32}
/-- Y's search for the branching whose first branch ends here -/
theorem yq_56 {post : Int32 → SY → Prop} {x2 : Int32} {b st q : Nat} {sq : Int32} (hst : st < 96) (hb : b ≤ q) (hq : q < st) (tq : tx_t b_kindOf q = 1) (Tq : tx_T b_kindOf (q + 1) (st + 1))
    (uniq : ∀ i, b ≤ i → i < st + 1 → tx_t b_kindOf i = 1 → tx_T b_kindOf (i + 1) (st + 1) → i = q) (esq : b_scopeOf q = sq) (h : post x2 (g_cap, g_most, g_functions, g_open, nI (st + 1), sq, g_state, g_bits, g_frames, g_steps, g_fresh, g_reused, g_peak, g_resultCell, g_resultNum, g_seen, b_firstOf, b_arityOf, b_maskOf, b_kindOf, b_numOf, b_scopeOf, b_aOf, b_bOf, b_cur, b_spare, b_varCell, b_varNum, b_borrowed, b_tagOf, b_fieldCell, b_fieldNum, b_marked, b_digestOf)) :
    ∀ (k m i : Nat) (sco : Int32), b ≤ i → i + k = st + 1 → k < m → (q < i → sco = sq) → wY_ret_56 post x2 g_cap g_most g_functions g_open (nI (st + 1)) g_state g_bits g_frames g_steps g_fresh g_reused g_peak g_resultCell g_resultNum g_seen b_firstOf b_arityOf b_maskOf b_kindOf b_numOf b_scopeOf b_aOf b_bOf b_cur b_spare b_varCell b_varNum b_borrowed b_tagOf b_fieldCell b_fieldNum b_marked b_digestOf m (nI i) sco := by
  intro k
  induction k with
  | zero =>
    intro m i sco hbi hi hm hs
    obtain ⟨m, rfl⟩ : ∃ q, m = q + 1 := ⟨m - 1, by omega⟩
    have : i = st + 1 := by omega
    subst this
    rw [hs (by omega)]
    exact br_t (Int32.le_refl _) h
  | succ k ih =>
    intro m i sco hbi hi hm hs
    obtain ⟨m, rfl⟩ : ∃ q, m = q + 1 := ⟨m - 1, by omega⟩
    refine br_f (nI_ge (by omega) (by omega)) (yw_turn (by omega) (fun t1 => br_t rfl ?_) (fun t1 => br_f (by decide) (nm_r (nI_1 i) (ih m (i + 1) sco (by omega) (by omega) (by omega) (fun z => hs ?_)))) (fun t1 => br_f (by decide) (nm_r (nI_1 i) (ih m (i + 1) sco (by omega) (by omega) (by omega) (fun z => hs ?_)))))
    · rw [nI_1]
      by_cases hq2 : i = q
      · subst hq2
        refine yw_endT Tq (Nat.le_refl _) (by omega) (br_t rfl ⟨vp_in_nI (by omega) (by omega), ?_⟩)
        rw [nI_clamp (show i < 2 ^ 31 by omega)]
        exact nm_r esq (nm_e (ih m (i + 1) sq (by omega) (by omega) (by omega) (fun _ => rfl)))
      · have cont : wY_ret_56 post x2 g_cap g_most g_functions g_open (nI (st + 1)) g_state g_bits g_frames g_steps g_fresh g_reused g_peak g_resultCell g_resultNum g_seen b_firstOf b_arityOf b_maskOf b_kindOf b_numOf b_scopeOf b_aOf b_bOf b_cur b_spare b_varCell b_varNum b_borrowed b_tagOf b_fieldCell b_fieldNum b_marked b_digestOf m (nI (i + 1)) sco := ih m (i + 1) sco (by omega) (by omega) (by omega) (fun z => hs (by omega))
        by_cases hE : ∃ e, e ≤ st + 1 ∧ tx_T b_kindOf (i + 1) e
        · obtain ⟨e, he, Te⟩ := hE
          refine yw_endT Te he (by omega) (br_f (fun z => ?_) (nm_e cont))
          rw [nI_eq (by omega) (by omega)] at z
          rw [z] at Te
          exact hq2 (uniq i hbi (by omega) t1 Te)
        · refine yw_endF (by omega) (fun x hx1 hx2 => ?_) (by omega) (br_f (fun z => ?_) (nm_e cont))
          · rcases Int.lt_or_le (tx_s b_kindOf x) (tx_s b_kindOf (i + 1)) with z | z
            · obtain ⟨e, he, Te⟩ := tx_ex hx1 z
              exact absurd ⟨e, by omega, Te⟩ hE
            · exact z
          · exact rr_m1 (by omega) z
    · have : i ≠ q := fun z => by rw [z, tq] at t1; exact absurd t1 (by decide)
      omega
    · have : i ≠ q := fun z => by rw [z, tq] at t1; exact absurd t1 (by decide)
      omega
end
end
section
theorem i_vc_ret {k : Nat} {u : SX} {v : SY} (I : i_Rel k u v) (hk : k + 5 ≤ 2562) (v1 : Int32) : wpX_ret (fun r u' => wpY_ret (fun r' v' => r' = r ∧ i_Rel (k + 5) u' v') v v1) u v1 := by
  refine zz_el (P := fun u v => wpX_ret (fun r u' => wpY_ret (fun r' v' => r' = r ∧ i_Rel (k + 5) u' v') v v1) u v1) ?_ u v I
  intro f_codeNum f_codeOp f_codeCon f_codeCall f_codeMatch f_codeIfZero f_codeRet f_cellBase f_unseen f_capacity f_depth f_complete f_open f_stored f_scope f_borrowedNow f_pending f_liveCells f_frames f_spareTotal f_state f_borrowing f_reusing f_keeping f_result f_steps f_fresh f_reused f_peak a_arities a_masks a_starts a_codes a_extras a_lefts a_rights a_scopes a_uses a_borrowed a_lends a_others a_frees a_afters a_builds a_pendingAt a_tags a_firsts a_seconds a_digests a_counts a_places a_work a_marks a_variables a_currents a_held a_spareCounts g_bits g_resultCell g_resultNum g_seen b_aOf b_bOf b_spare b_varCell b_varNum b_borrowed b_tagOf b_fieldCell b_fieldNum b_marked b_digestOf F
  have J : i_Rel (k + 5) (f_codeNum, f_codeOp, f_codeCon, f_codeCall, f_codeMatch, f_codeIfZero, f_codeRet, f_cellBase, f_unseen, f_capacity, f_depth, f_complete, f_open, f_stored, f_scope, f_borrowedNow, f_pending, f_liveCells, f_frames, f_spareTotal, f_state, f_borrowing, f_reusing, f_keeping, f_result, f_steps, f_fresh, f_reused, f_peak, a_arities, a_masks, a_starts, a_codes, a_extras, a_lefts, a_rights, a_scopes, a_uses, a_borrowed, a_lends, a_others, a_frees, a_afters, a_builds, a_pendingAt, a_tags, a_firsts, a_seconds, a_digests, a_counts, a_places, a_work, a_marks, a_variables, a_currents, a_held, a_spareCounts) (f_capacity, f_depth, f_complete, f_open, f_stored, f_scope, f_state, g_bits, f_frames, f_steps, f_fresh, f_reused, f_peak, g_resultCell, g_resultNum, g_seen, a_starts, a_arities, a_masks, a_codes, a_extras, a_scopes, b_aOf, b_bOf, a_currents, b_spare, b_varCell, b_varNum, b_borrowed, b_tagOf, b_fieldCell, b_fieldNum, b_marked, b_digestOf) := zz_in F
  obtain ⟨sc, bw, cm, b, st, p, cu, sg, rk, sp, L, n, lv, cp, dp, T, R⟩ := F
  have T0 := T
  obtain ⟨t1, t2, t3, t4, C, t6⟩ := T
  subst t1 t2
  unfold wpX_ret
  -- Y's count ahead of the feeding
  have ypr : ∀ Q : Int32 → Prop, (∀ w, (¬ f_open = 0 → w = f_pending) → Q w) → wpY_progress Q (f_capacity, f_depth, nI cm, f_open, nI st, f_scope, f_state, g_bits, f_frames, f_steps, f_fresh, f_reused, f_peak, g_resultCell, g_resultNum, g_seen, a_starts, a_arities, a_masks, a_codes, a_extras, a_scopes, b_aOf, b_bOf, a_currents, b_spare, b_varCell, b_varNum, b_borrowed, b_tagOf, b_fieldCell, b_fieldNum, b_marked, b_digestOf) 3 := fun Q hQ => by
    rcases t6 with ⟨o1, o2⟩ | ⟨o1, O⟩
    · exact yw_prC o1 t4 (br_f (by decide) (br_f (by decide) (br_f (by decide) (br_t rfl (hQ _ (fun z => absurd o1 z))))))
    · obtain ⟨c1, c2, c3, c4, c5, c6, c7, c8, c9, c10, c11, c12, c13⟩ := O
      exact yw_prO (by rw [o1]; decide) c1 c2 t3 t4 c11 c12 (br_f (by decide) (br_f (by decide) (br_f (by decide) (br_t rfl (hQ _ (fun _ => c7.symm))))))
  refine xf_refuse t4 (fun ho => br_f (by decide) ?_) (fun ho h96 => br_f (by decide) ?_) (fun ho hst => br_t rfl ?_)
  · unfold wpY_ret
    exact ypr _ (fun w _ => yf_closed ho (br_f (by decide) ⟨rfl, J⟩))
  · subst h96
    unfold wpY_ret
    exact ypr _ (fun w _ => yf_room ho (br_f (by decide) ⟨rfl, J⟩))
  obtain ⟨o1, O⟩ := t6.resolve_left (fun z => ho z.1)
  have ⟨c1, c2, c3, c4, c5, c6, c7, c8, c9, c10, c11, c12, c13⟩ := O
  subst o1 c3 c5 c7
  have n01 : (6 : Int32) = 0 ∨ (¬ (0 : Int32) < 0 ∧ (0 : Int32) ≤ 0) := Or.inr ⟨by decide, by decide⟩
  have up0 : ((6 : Int32) = 4 → 0 = 2) ∧ ((6 : Int32) = 5 ∨ (6 : Int32) = 6 → 0 = 0) ∧ (¬ ((6 : Int32) = 4 ∨ (6 : Int32) = 5 ∨ (6 : Int32) = 6) → 0 = 1) := ⟨fun z => absurd z (by decide), fun _ => rfl, fun z => absurd (Or.inr (Or.inr rfl)) z⟩
  refine xf_in (fun ha => br_t rfl ?_) (fun a0 a1 => br_f (by decide) (xf_store hst ?_))
  · unfold wpY_ret
    exact ypr _ (fun w _ => yf_37 (by decide) hst n01 (yf_bada (by decide) ha (br_f (by decide) ⟨rfl, J⟩)))
  obtain ⟨ja, hja, rfl⟩ := nI_of a0
  have a1' := a1
  rw [nI_ltI hja (by omega)] at a1'
  have hu : ∀ v, v < 32 → (bt ((1 : Int32) <<< (nI ja &&& 31)) v = true ↔ (nI ja = nI v ∨ (-1 : Int32) = nI v)) := fun v hv => by
    rw [rc_bit1 (by omega) hv, decide_eq_true_iff, nI_eq hja (by omega)]
    exact ⟨fun z => Or.inl z.symm, fun z => z.elim (fun z => z.symm) (fun z => absurd z (rr_m1 (by omega)))⟩
  have haO : (nI ja = -1 ∧ nI ja = 0) ∨ ∃ a, a < sc st ∧ nI ja = nI a ∧ nI ja = nI a := Or.inr ⟨ja, a1', rfl, rfl⟩
  have haN : nI ja ≠ -1 := fun z => rr_m1 hja z.symm
  -- Y up to its own turn
  have yfd : ∀ Q : Int32 → SY → Prop, Q (nI (sc st)) (f_capacity, f_depth, nI cm, 1, nI (st + 1), nI (sc st), f_state, g_bits, f_frames, f_steps, f_fresh, f_reused, f_peak, g_resultCell, g_resultNum, g_seen, a_starts, a_arities, a_masks, upd a_codes st 6, upd a_extras st 0, upd a_scopes st (nI (sc st)), upd b_aOf st (nI ja), upd b_bOf st (-1), a_currents, b_spare, b_varCell, b_varNum, b_borrowed, b_tagOf, b_fieldCell, b_fieldNum, b_marked, b_digestOf) → wpY_feed Q (f_capacity, f_depth, nI cm, 1, nI st, nI (sc st), f_state, g_bits, f_frames, f_steps, f_fresh, f_reused, f_peak, g_resultCell, g_resultNum, g_seen, a_starts, a_arities, a_masks, a_codes, a_extras, a_scopes, b_aOf, b_bOf, a_currents, b_spare, b_varCell, b_varNum, b_borrowed, b_tagOf, b_fieldCell, b_fieldNum, b_marked, b_digestOf) 6 0 0 (nI ja) 0 1 := fun Q h =>
    yf_37 (by decide) hst n01 (yf_60 (Or.inr ⟨by decide, a0, a1⟩) (yf_83 (Or.inl (by decide)) (yf_108 (up := 0) up0 (yf_ok (aN := nI ja) (bN := -1) (by decide) hst (by omega) c1 c2 t3 c11 c12 c8 (fun z => z.elim (fun z => absurd z (by decide)) (fun z => absurd z (by decide))) rfl rfl h))))
  refine pk_eq p 0 (fun hp0 => ?_) (fun hp0 => ?_)
  · -- the function is complete
    subst hp0
    obtain ⟨Tb, hW, hfin⟩ := tr_ret0 T0 (by decide) hst rfl haO haN hu
    rw [nI_clamp (show cm < 2 ^ 31 by omega), c2]
    refine ⟨vp_in_nI c1 (by omega), ?_⟩
    unfold wpX_analyse
    refine nm_r (e' := nI (b + (st + 1 - b)) + (-1)) ?_ ⟨st + 1 - b + 1, ?_⟩
    · rw [show b + (st + 1 - b) = st + 1 by omega, pk_m1]; exact nI_pred st
    · refine xa_loop (sc := sc) (bw := bw) (aO := upd b_aOf st (nI ja)) (bO := upd b_bOf st (-1)) (cm := cm + 1) hst t3 Tb hW (fun fr af bd hA hlow => nm_r (nI_1 cm) ?_) (st + 1 - b) (st + 1 - b + 1) a_frees a_afters a_builds (by omega) (by omega) (fun i hi1 hi2 => by omega) (fun i hi => ⟨rfl, rfl, rfl⟩)
      unfold wpY_ret
      refine ypr _ (fun w hw => yfd _ (br_t (nI_pos' (by omega)) (br_t (hw (by decide)) (nm_r (nI_1 cm) ⟨rfl, ?_⟩))))
      exact zz_in ⟨sc, bw, cm + 1, st + 1, st + 1, 0, cu, sg, rk, sp, L, n, lv, cp, dp, hfin fr af bd hA hlow _ _ _, rr_Rt R (by omega) (fun i hi => pk_un (by omega)) (fun i hi => pk_un (by omega)) (fun i hi => pk_un (by omega)) (fun i hi => (hlow i hi).1) (fun i hi => (hlow i hi).2.1) (fun _ _ => rfl)⟩
  · -- a first branch ends
    obtain ⟨j, rfl⟩ : ∃ j, p = j + 1 := ⟨p - 1, by omega⟩
    obtain ⟨q, q1, q3, q2, tq, esq, ebq, Tq, uniq, T'⟩ := tr_ret1 T0 (by decide) hst rfl haO haN hu
    refine nm_r (nI_pred j) ⟨vp_in_nI (by omega) (by omega), ?_⟩
    rw [nI_clamp (show j < 2 ^ 31 by omega)]
    refine nm_r q1 ⟨vp_in_nI (by omega) (by omega), ?_⟩
    rw [nI_clamp (show q < 2 ^ 31 by omega)]
    refine nm_e ⟨vp_in_nI (by omega) (by omega), nm_r (e' := nI (sc q)) ((pk_un (by omega)).trans esq) ⟨vp_in_nI (by omega) (by omega), nm_r (e' := bw q) ((pk_un (by omega)).trans ebq) ?_⟩⟩
    unfold wpY_ret
    refine ypr _ (fun w hw => yfd _ (br_t (nI_pos' (by omega)) (br_f (by rw [hw (by decide)]; exact nI_ne0 (by omega) (by omega)) ?_)))
    rw [nI_clamp (show cm < 2 ^ 31 by omega)]
    refine ⟨vp_in_nI c1 (by omega), nm_r c2 ⟨st + 1 - b + 1, ?_⟩⟩
    refine yq_56 (sq := nI (sc q)) hst q2 q3 tq Tq uniq ((pk_un (by omega)).trans esq) ⟨hw (by decide), ?_⟩ (st + 1 - b) (st + 1 - b + 1) b _ (Nat.le_refl _) (by omega) (by omega) (fun z => by omega)
    exact zz_in ⟨_, _, cm, b, st + 1, j, cu, sg, rk, sp, L, n, lv, cp, dp, T', rr_Rt R (Nat.le_refl _) (fun i hi => pk_un (by omega)) (fun i hi => pk_un (by omega)) (fun i hi => pk_un (by omega)) (fun _ _ => rfl) (fun _ _ => rfl) (fun i hi => if_neg (by omega))⟩
end
