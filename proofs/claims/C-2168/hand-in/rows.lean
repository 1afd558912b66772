section
/-! pure rows to paste: stores, nI and lN arithmetic, masks, shifts, narrowing, branches by naturals (pk_le, pk_lt, pk_eq), loops (lp1 .. lp16: the measure of the state; rp1 ..: recursion), negatives. Take what you need -/
theorem pk_us {f : Nat → Int32} {k : Nat} {x : Int32} : upd f k x k = x := if_pos rfl
theorem pk_un {f : Nat → Int32} {k j : Nat} {x : Int32} (h : j ≠ k) : upd f k x j = f j := if_neg h
theorem pk_uLs {f : Nat → Int64} {k : Nat} {x : Int64} : vp_updL f k x k = x := if_pos rfl
theorem pk_uLn {f : Nat → Int64} {k j : Nat} {x : Int64} (h : j ≠ k) : vp_updL f k x j = f j := if_neg h
theorem pk_sub {a b : Nat} (h : b ≤ a) : nI a - nI b = nI (a - b) := by
  obtain ⟨c, rfl⟩ : ∃ c, a = c + b := ⟨a - b, by omega⟩
  rw [← nI_add, Int32.add_sub_cancel, Nat.add_sub_cancel]
theorem pk_m1 (n : Nat) : nI (n + 1) + (-1) = nI n := by
  rw [← nI_1, Int32.add_assoc, show (1 : Int32) + (-1) = 0 from rfl, Int32.add_zero]
theorem pk_mul (a b : Nat) : nI a * nI b = nI (a * b) := (Int32.ofNat_mul a b).symm
theorem pk_div {a d : Nat} (ha : a < 2 ^ 31) (h0 : 0 < d) (hd : d < 2 ^ 31) : nI a / nI d = nI (a / d) := by
  apply Int32.toInt_inj.mp
  rw [lg_idiv_nonneg (by rw [nI_toInt ha]; omega) (by rw [nI_toInt hd]; omega), nI_toInt ha, nI_toInt hd, nI_toInt (Nat.lt_of_le_of_lt (Nat.div_le_self a d) ha)]
  first | rfl | exact (Int.natCast_ediv _ _).symm
theorem pk_rem {a d : Nat} (ha : a < 2 ^ 31) (h0 : 0 < d) (hd : d < 2 ^ 31) : nI a - nI a / nI d * nI d = nI (a % d) := by
  rw [pk_div ha h0 hd, pk_mul, pk_sub (Nat.div_mul_le_self a d)]
  exact congrArg nI (by have := Nat.div_add_mod' a d; omega)
theorem pk_sub_toInt {a b : Nat} (ha : a < 2 ^ 30) (hb : b < 2 ^ 30) : (nI a - nI b).toInt = (a : Int) - b := by
  rw [Int32.toInt_sub, nI_toInt (by omega), nI_toInt (by omega)]
  exact Int.bmod_eq_of_le (by omega) (by omega)
theorem pk_sneg {a b : Nat} (hb : b < 2 ^ 30) (h : a < b) : nI a - nI b < 0 := by
  rw [Int32.lt_iff_toInt_lt, pk_sub_toInt (by omega) hb, show (0 : Int32).toInt = 0 from by decide]
  omega
theorem pk_ix (x : Int32) {n : Nat} (hn : n < 2 ^ 31) : x < 0 ∨ nI n ≤ x ∨ ∃ j : Nat, j < n ∧ x = nI j := by
  by_cases h : x < 0
  · exact Or.inl h
  · obtain ⟨j, hj, rfl⟩ := nI_of h
    by_cases h2 : j < n
    · exact Or.inr (Or.inr ⟨j, h2, rfl⟩)
    · exact Or.inr (Or.inl (nI_le (by omega) hj))
theorem pk_le {x y : Int32} {A B : Prop} (a b : Nat) (f : a ≤ b → A) (g : b < a → B) (hx : x = nI a := by rfl) (hy : y = nI b := by rfl) (ha : a < 2 ^ 31 := by omega) (hb : b < 2 ^ 31 := by omega) : (x ≤ y → A) ∧ (¬ x ≤ y → B) := by
  subst hx hy
  rw [nI_leI ha hb]
  exact ⟨f, fun z => g (by omega)⟩
theorem pk_lt {x y : Int32} {A B : Prop} (a b : Nat) (f : a < b → A) (g : b ≤ a → B) (hx : x = nI a := by rfl) (hy : y = nI b := by rfl) (ha : a < 2 ^ 31 := by omega) (hb : b < 2 ^ 31 := by omega) : (x < y → A) ∧ (¬ x < y → B) := by
  subst hx hy
  rw [nI_ltI ha hb]
  exact ⟨f, fun z => g (by omega)⟩
theorem pk_eq {x y : Int32} {A B : Prop} (a b : Nat) (f : a = b → A) (g : a ≠ b → B) (hx : x = nI a := by rfl) (hy : y = nI b := by rfl) (ha : a < 2 ^ 31 := by omega) (hb : b < 2 ^ 31 := by omega) : (x = y → A) ∧ (¬ x = y → B) := by
  subst hx hy
  rw [nI_eq ha hb]
  exact ⟨f, g⟩
theorem pk_in {x : Int32} (n N : Nat) (h : n < N) (hx : x = nI n := by rfl) (hN : N < 2 ^ 31 := by omega) : vp_in x N := by
  subst hx
  exact vp_in_nI h hN
theorem pk_cl {x : Int32} (n : Nat) (hx : x = nI n := by rfl) (h : n < 2 ^ 31 := by omega) : x.toNatClampNeg = n := by
  subst hx
  exact nI_clamp h
theorem pk_tn {n : Nat} (h : n < 2 ^ 32) : (nI n).toBitVec.toNat = n := Nat.mod_eq_of_lt h
theorem pk_and (x : Int32) {m : Int32} (k : Nat) (hm : m.toBitVec.toNat = 2 ^ k - 1) : x &&& m = nI (x.toBitVec.toNat % 2 ^ k) := by
  apply Int32.toBitVec_inj.mp
  apply BitVec.eq_of_toNat_eq
  rw [Int32.toBitVec_and, BitVec.toNat_and, hm, Nat.and_two_pow_sub_one_eq_mod]
  show _ = (BitVec.ofNat 32 _).toNat
  rw [BitVec.toNat_ofNat]
  exact (Nat.mod_eq_of_lt (Nat.lt_of_le_of_lt (Nat.mod_le _ _) x.toBitVec.isLt)).symm
theorem pk_andN {n : Nat} (h : n < 2 ^ 32) {m : Int32} (k : Nat) (hm : m.toBitVec.toNat = 2 ^ k - 1) : nI n &&& m = nI (n % 2 ^ k) := by
  rw [pk_and _ k hm, pk_tn h]
theorem pk_andE (x : Int32) {m : Int32} (k : Nat) (hm : m.toBitVec.toNat = 2 ^ k - 1) : ∃ j : Nat, j < 2 ^ k ∧ x &&& m = nI j := ⟨_, Nat.mod_lt _ (Nat.two_pow_pos k), pk_and x k hm⟩
theorem pk_andIn (x : Int32) {m : Int32} (k : Nat) (hm : m.toBitVec.toNat = 2 ^ k - 1) (hk : k ≤ 30) : vp_in (x &&& m) (2 ^ k) := by
  obtain ⟨j, hj, e⟩ := pk_andE x k hm
  rw [e]
  exact vp_in_nI hj (Nat.lt_of_le_of_lt (Nat.pow_le_pow_right (by decide) hk) (by decide))
theorem pk_shl (a s : Int32) (k : Nat) (hs : (s.toBitVec.smod 32).toNat = k) : (a <<< s).toBitVec.toNat = a.toBitVec.toNat * 2 ^ k % 2 ^ 32 := by
  show (a.toBitVec <<< (s.toBitVec.smod 32).toNat).toNat = _
  rw [hs, BitVec.toNat_shiftLeft, Nat.shiftLeft_eq]
theorem pk_shlN {n : Nat} (s : Int32) (k : Nat) (hs : (s.toBitVec.smod 32).toNat = k) (h : n * 2 ^ k < 2 ^ 32) : nI n <<< s = nI (n * 2 ^ k) := by
  apply Int32.toBitVec_inj.mp
  apply BitVec.eq_of_toNat_eq
  have hn : n < 2 ^ 32 := Nat.lt_of_le_of_lt (Nat.le_mul_of_pos_right n (Nat.two_pow_pos k)) h
  rw [pk_shl _ _ k hs, pk_tn hn, pk_tn h, Nat.mod_eq_of_lt h]
theorem pk_shr (a s : Int32) (k : Nat) (hs : (s.toBitVec.smod 32).toNat = k) : (a >>> s).toInt = a.toInt >>> k := by
  show (a.toBitVec.sshiftRight (s.toBitVec.smod 32).toNat).toInt = _
  rw [hs, BitVec.toInt_sshiftRight]
  rfl
theorem pk_shrN {n : Nat} (h : n < 2 ^ 31) (s : Int32) (k : Nat) (hs : (s.toBitVec.smod 32).toNat = k) : nI n >>> s = nI (n / 2 ^ k) := by
  apply Int32.toInt_inj.mp
  have h2 : n / 2 ^ k ≤ n := Nat.div_le_self _ _
  rw [pk_shr _ _ k hs, nI_toInt h, nI_toInt (by omega), Int.shiftRight_eq_div_pow]
  rfl
theorem pk_ushr (x s : Int32) (k : Nat) (hs : ((s.toUInt32 &&& Int32.toUInt32 31).toBitVec % 32).toNat = k) : (x.toUInt32 >>> (s.toUInt32 &&& Int32.toUInt32 31)).toInt32.toBitVec.toNat = x.toBitVec.toNat / 2 ^ k := by
  have e : (x.toUInt32 >>> (s.toUInt32 &&& Int32.toUInt32 31)).toInt32.toBitVec = x.toBitVec >>> k := by
    rw [← hs]
    exact UInt32.toBitVec_shiftRight _ _
  rw [e, BitVec.toNat_ushiftRight, Nat.shiftRight_eq_div_pow]
theorem pk_ushrN {n : Nat} (hn : n < 2 ^ 32) (s : Int32) (k : Nat) (hs : ((s.toUInt32 &&& Int32.toUInt32 31).toBitVec % 32).toNat = k) : ((nI n).toUInt32 >>> (s.toUInt32 &&& Int32.toUInt32 31)).toInt32 = nI (n / 2 ^ k) := by
  apply Int32.toBitVec_inj.mp
  apply BitVec.eq_of_toNat_eq
  rw [pk_ushr _ s k hs, pk_tn hn, pk_tn (Nat.lt_of_le_of_lt (Nat.div_le_self _ _) hn)]
theorem pk_nb (z : Int32) : narrow .byte (.int z.toInt8.toInt32) = .int z.toInt8.toInt32 := congrArg Value.int (by simp)
theorem pk_ns (z : Int32) : narrow .short (.int z.toInt16.toInt32) = .int z.toInt16.toInt32 := congrArg Value.int (by simp)
theorem pk_fb (r : Int32) : fits .byte (.int r.toInt8.toInt32) = true := by
  have ⟨a, b⟩ := lg_i2b_range r
  have h1 : (-128 : Int32).toInt = -128 := by decide
  have h2 : (127 : Int32).toInt = 127 := by decide
  simp only [fits, Bool.and_eq_true, decide_eq_true_eq, Int32.le_iff_toInt_le, h1, h2]
  omega
theorem pk_fs (r : Int32) : fits .short (.int r.toInt16.toInt32) = true := by
  have ⟨a, b⟩ := lg_i2s_range r
  have h1 : (-32768 : Int32).toInt = -32768 := by decide
  have h2 : (32767 : Int32).toInt = 32767 := by decide
  simp only [fits, Bool.and_eq_true, decide_eq_true_eq, Int32.le_iff_toInt_le, h1, h2]
  omega
theorem pk_charN {q : Nat} (hq : q < 65536) : narrow .char (.int (nI q)) = .int (nI q) ∧ fits .char (.int (nI q)) = true := by
  constructor
  · have e : (nI q).toUInt32.toUInt16.toUInt32.toInt32 = nI q := by
      apply Int32.toBitVec_inj.mp
      apply BitVec.eq_of_toNat_eq
      show (nI q).toUInt32.toUInt16.toUInt32.toNat = q % 2 ^ 32
      rw [UInt16.toNat_toUInt32, UInt32.toNat_toUInt16, show (nI q).toUInt32.toNat = q % 2 ^ 32 from rfl]
      omega
    exact congrArg Value.int e
  · have a : (0 : Int32) ≤ nI q := nI_pos' (by omega)
    have b : nI q ≤ 65535 := nI_le (b := 65535) (by omega) (by decide)
    show (decide ((0 : Int32) ≤ nI q) && decide (nI q ≤ 65535)) = true
    rw [decide_eq_true a, decide_eq_true b]
    rfl
theorem pk_char (x : Int32) : (x.toUInt32 % 65536).toInt32 = nI (x.toBitVec.toNat % 65536) := by
  apply Int32.toBitVec_inj.mp
  apply BitVec.eq_of_toNat_eq
  rw [pk_tn (by omega)]
  show (x.toUInt32 % 65536).toNat = _
  rw [UInt32.toNat_mod]
  rfl
theorem pk_nc (x : Int32) : narrow .char (.int (x.toUInt32 % 65536).toInt32) = .int (x.toUInt32 % 65536).toInt32 := by
  rw [pk_char]
  exact (pk_charN (Nat.mod_lt _ (by decide))).1
theorem pk_fc (x : Int32) : fits .char (.int (x.toUInt32 % 65536).toInt32) = true := by
  rw [pk_char]
  exact (pk_charN (Nat.mod_lt _ (by decide))).2
theorem pk_vb (z : Int32) : vp_nar .byte z.toInt8.toInt32 = z.toInt8.toInt32 := by rw [vp_nar_byte]; simp
theorem pk_vs (z : Int32) : vp_nar .short z.toInt16.toInt32 = z.toInt16.toInt32 := by rw [vp_nar_short]; simp
theorem pk_vc (z : Int32) : vp_nar .char (z.toUInt32 % 65536).toInt32 = (z.toUInt32 % 65536).toInt32 := Value.int.inj (pk_nc z)
theorem pk_lT {n : Nat} (h : n < 2 ^ 63) : (lN n).toInt = (n : Int) := lg_ofNat_toInt h
theorem pk_lLT {a b : Nat} (ha : a < 2 ^ 63) (hb : b < 2 ^ 63) : lN a < lN b ↔ a < b := by
  rw [Int64.lt_iff_toInt_lt, pk_lT ha, pk_lT hb]; omega
theorem pk_lLE {a b : Nat} (ha : a < 2 ^ 63) (hb : b < 2 ^ 63) : lN a ≤ lN b ↔ a ≤ b := by
  rw [Int64.le_iff_toInt_le, pk_lT ha, pk_lT hb]; omega
theorem pk_lEQ {a b : Nat} (ha : a < 2 ^ 63) (hb : b < 2 ^ 63) : lN a = lN b ↔ a = b := by
  rw [← Int64.toInt_inj, pk_lT ha, pk_lT hb]; omega
theorem pk_lOf {x : Int64} (h : ¬ x < 0) : ∃ k : Nat, k < 2 ^ 63 ∧ x = lN k := by
  rw [Int64.lt_iff_toInt_lt] at h
  have h0 : (0 : Int64).toInt = 0 := by decide
  have hx := Int64.toInt_lt x
  refine ⟨x.toInt.toNat, by omega, Int64.toInt_inj.mp ?_⟩
  rw [pk_lT (by omega)]
  omega
theorem pk_lDiv {a b : Nat} (ha : a < 2 ^ 63) (h0 : 0 < b) (hb : b < 2 ^ 63) : lN a / lN b = lN (a / b) := by
  apply Int64.toInt_inj.mp
  rw [lg_ldiv_nonneg (by rw [pk_lT ha]; omega) (by rw [pk_lT hb]; omega), pk_lT ha, pk_lT hb, pk_lT (Nat.lt_of_le_of_lt (Nat.div_le_self a b) ha)]
  rfl
theorem pk_lRem {a b : Nat} (ha : a < 2 ^ 63) (h0 : 0 < b) (hb : b < 2 ^ 63) : lN a - lN a / lN b * lN b = lN (a % b) := by
  rw [pk_lDiv ha h0 hb, lN_mul, lN_sub (Nat.div_mul_le_self a b)]
  exact congrArg lN (by have := Nat.div_add_mod' a b; omega)
theorem pk_loop {σ : Type} (W : Nat → Nat → σ → Prop) (I : Nat → σ → Prop) (e i0 : Nat) (s : σ) (hi : i0 ≤ e) (h0 : I i0 s) (hx : ∀ n s, I e s → W (n + 1) e s)
    (hs : ∀ n i s, i < e → I i s → (∀ s', I (i + 1) s' → W n (i + 1) s') → W (n + 1) i s) : ∃ n, W n i0 s :=
  ⟨e + 1, loop_i W I e hx hs (e + 1) i0 s hi (by omega) h0⟩
theorem pk_loopD {σ : Type} (W : Nat → Nat → σ → Prop) (I : Nat → σ → Prop) (hx : ∀ n s, I 0 s → W (n + 1) 0 s)
    (hs : ∀ n i s, I (i + 1) s → (∀ s', I i s' → W n i s') → W (n + 1) (i + 1) s) : ∀ (e : Nat) (s : σ), I e s → W (e + 1) e s := by
  intro e
  induction e with
  | zero => exact fun s h => hx 0 s h
  | succ e ih => exact fun s h => hs (e + 1) e s h (fun s' h' => ih s' h')
theorem pk_least (P : Nat → Prop) (h : ∃ k, P k) : ∃ k, P k ∧ ∀ j, j < k → ¬ P j := by
  obtain ⟨k, hk⟩ := h
  induction k using Nat.strongRecOn with
  | ind k ih =>
    by_cases e : ∃ j, j < k ∧ P j
    · obtain ⟨j, hj, pj⟩ := e
      exact ih j hj pj
    · exact ⟨k, hk, fun j hj pj => e ⟨j, hj, pj⟩⟩
/-! ===== Int32 by its bits: bt x i ===== -/
def bt (x : Int32) (i : Nat) : Bool := x.toBitVec.getLsbD i
theorem b_ext {x y : Int32} (h : ∀ i, i < 32 → bt x i = bt y i) : x = y := Int32.toBitVec_inj.mp (BitVec.eq_of_getLsbD_eq (fun i hi => h i hi))
theorem b_or (x y : Int32) (i : Nat) : bt (x ||| y) i = (bt x i || bt y i) := by unfold bt; rw [Int32.toBitVec_or, BitVec.getLsbD_or]
theorem b_and (x y : Int32) (i : Nat) : bt (x &&& y) i = (bt x i && bt y i) := by unfold bt; rw [Int32.toBitVec_and, BitVec.getLsbD_and]
theorem b_xor (x y : Int32) (i : Nat) : bt (x ^^^ y) i = (bt x i ^^ bt y i) := by unfold bt; rw [Int32.toBitVec_xor, BitVec.getLsbD_xor]
theorem b_big {x : Int32} {i : Nat} (h : 32 ≤ i) : bt x i = false := BitVec.getLsbD_of_ge _ _ h
theorem b_255 (i : Nat) : bt 255 i = decide (i < 8) := by
  rcases Nat.lt_or_ge i 32 with h | h
  · exact (by decide +kernel : ∀ i, i < 32 → bt 255 i = decide (i < 8)) i h
  · rw [b_big h, decide_eq_false (by omega)]
theorem b_65535 (i : Nat) : bt 65535 i = decide (i < 16) := by
  rcases Nat.lt_or_ge i 32 with h | h
  · exact (by decide +kernel : ∀ i, i < 32 → bt 65535 i = decide (i < 16)) i h
  · rw [b_big h, decide_eq_false (by omega)]
theorem b_m1 : ∀ i, i < 32 → bt (-1) i = true := by decide +kernel
theorem b_0 (i : Nat) : bt 0 i = false := BitVec.getLsbD_zero
theorem s_l : ∀ n, n < 32 → ((nI n &&& 31).toBitVec.smod 32).toNat = n := by decide +kernel
theorem s_u : ∀ n, n < 32 → (((nI n).toUInt32 &&& Int32.toUInt32 31).toBitVec % 32).toNat = n := by decide +kernel
theorem b_shl (n : Nat) (hn : n < 32) (x : Int32) {i : Nat} (hi : i < 32) : bt (x <<< (nI n &&& 31)) i = (decide (n ≤ i) && bt x (i - n)) := by
  unfold bt
  rw [Int32.toBitVec_shiftLeft]
  show (x.toBitVec <<< ((nI n &&& 31).toBitVec.smod 32).toNat).getLsbD i = _
  rw [s_l n hn, BitVec.getLsbD_shiftLeft]
  rcases Nat.lt_or_ge i n with h | h
  · simp [h, Nat.not_le.mpr h]
  · simp [hi, h, Nat.not_lt.mpr h]
theorem b_ushr (n : Nat) (hn : n < 32) (x : Int32) (i : Nat) : bt ((x.toUInt32 >>> ((nI n).toUInt32 &&& Int32.toUInt32 31)).toInt32) i = bt x (n + i) := by
  show (x.toUInt32 >>> ((nI n).toUInt32 &&& Int32.toUInt32 31)).toBitVec.getLsbD i = x.toUInt32.toBitVec.getLsbD (n + i)
  rw [UInt32.toBitVec_shiftRight]
  show (x.toUInt32.toBitVec >>> (((nI n).toUInt32 &&& Int32.toUInt32 31).toBitVec % 32).toNat).getLsbD i = _
  rw [s_u n hn, BitVec.getLsbD_ushiftRight]
theorem b_sshr (n : Nat) (hn : n < 32) (x : Int32) {i : Nat} (hi : i < 32) : bt (x >>> (nI n &&& 31)) i = if n + i < 32 then bt x (n + i) else bt x 31 := by
  unfold bt
  rw [Int32.toBitVec_shiftRight]
  show (x.toBitVec.sshiftRight ((nI n &&& 31).toBitVec.smod 32).toNat).getLsbD i = _
  rw [s_l n hn, BitVec.getLsbD_sshiftRight, BitVec.msb_eq_getLsbD_last]
  simp [hi]
theorem b_shl8 (x : Int32) {i : Nat} (hi : i < 32) : bt (x <<< ((8 : Int32) &&& 31)) i = (decide (8 ≤ i) && bt x (i - 8)) := b_shl 8 (by omega) x hi
theorem b_shl16 (x : Int32) {i : Nat} (hi : i < 32) : bt (x <<< ((16 : Int32) &&& 31)) i = (decide (16 ≤ i) && bt x (i - 16)) := b_shl 16 (by omega) x hi
theorem b_shl24 (x : Int32) {i : Nat} (hi : i < 32) : bt (x <<< ((24 : Int32) &&& 31)) i = (decide (24 ≤ i) && bt x (i - 24)) := b_shl 24 (by omega) x hi
theorem b_sshr8 (x : Int32) {i : Nat} (hi : i < 32) : bt (x >>> ((8 : Int32) &&& 31)) i = if 8 + i < 32 then bt x (8 + i) else bt x 31 := b_sshr 8 (by omega) x hi
def nf_M (m : Int32) : Nat := 4294967296 - m.toBitVec.toNat
theorem nf_sh : ∀ l, l < 32 → ((1 : Int32) <<< (nI l &&& 31)).toBitVec = BitVec.twoPow 32 l := by decide +kernel
theorem nf_sl : ∀ l, l < 32 → (((nI l).toUInt32 &&& Int32.toUInt32 31).toBitVec % 32).toNat = l := by decide +kernel
theorem nf_tp : ∀ l, l < 32 → BitVec.twoPow 32 l ≠ 0#32 := by decide +kernel
theorem wb_tb (n : Nat) : (lN n).toBitVec = BitVec.ofNat 64 n := rfl
theorem wb_inj {a b : Int64} (h : a.toBitVec = b.toBitVec) : a = b := Int64.toBitVec_inj.mp h
theorem wb_tn {n : Nat} (h : n < 2 ^ 64) : (lN n).toBitVec.toNat = n := by rw [wb_tb, BitVec.toNat_ofNat, Nat.mod_eq_of_lt h]
theorem wb_of (x : Int64) : ∃ n, n < 2 ^ 64 ∧ x = lN n := ⟨x.toBitVec.toNat, x.toBitVec.isLt, wb_inj (by rw [wb_tb]; simp)⟩
theorem wb_of32 (x : Int32) : ∃ n, n < 2 ^ 32 ∧ x = nI n := ⟨x.toBitVec.toNat, x.toBitVec.isLt, Int32.toBitVec_inj.mp (by show _ = BitVec.ofNat 32 _; simp)⟩
theorem wb_c : ∀ k, k < 64 → ((nI k).toInt64 &&& 63) = lN k := by decide +kernel
theorem wb_cu : ∀ k, k < 64 → ((nI k).toInt64.toUInt64 &&& Int64.toUInt64 63) = UInt64.ofNat k := by decide +kernel
theorem wb_sm : ∀ k, k < 64 → (BitVec.ofNat 64 k).smod 64 = BitVec.ofNat 64 k := by decide +kernel
theorem wb_pw {a b : Nat} (h : a ≤ b) : 2 ^ b = 2 ^ a * 2 ^ (b - a) := by rw [← Nat.pow_add]; congr 1; omega
theorem wb_lt2 {a b : Nat} (h : a < b) : 2 ^ a < 2 ^ b := Nat.pow_lt_pow_right (by decide) h
theorem wb_mod (n : Nat) : lN n = lN (n % 2 ^ 64) := wb_inj (by rw [wb_tb, wb_tb]; apply BitVec.eq_of_toNat_eq; rw [BitVec.toNat_ofNat, BitVec.toNat_ofNat, Nat.mod_mod])
theorem wb_shr {n k : Nat} (hn : n < 2 ^ 64) (hk : k < 64) : ((lN n).toUInt64 >>> ((nI k).toInt64.toUInt64 &&& Int64.toUInt64 63)).toInt64 = lN (n / 2 ^ k) := by
  rw [wb_cu k hk]
  apply wb_inj
  apply BitVec.eq_of_toNat_eq
  show ((lN n).toUInt64 >>> UInt64.ofNat k).toNat = (BitVec.ofNat 64 _).toNat
  have h1 : (UInt64.ofNat k).toNat = k := by
    show (BitVec.ofNat 64 k).toNat = k
    rw [BitVec.toNat_ofNat, Nat.mod_eq_of_lt (by omega)]
  have h2 : (lN n).toUInt64.toNat = n := wb_tn hn
  rw [UInt64.toNat_shiftRight, h1, h2, Nat.mod_eq_of_lt hk, Nat.shiftRight_eq_div_pow, BitVec.toNat_ofNat, Nat.mod_eq_of_lt (Nat.lt_of_le_of_lt (Nat.div_le_self _ _) hn)]
theorem wb_shl (n : Nat) {k : Nat} (hk : k < 64) : lN n <<< ((nI k).toInt64 &&& 63) = lN (n * 2 ^ k) := by
  rw [wb_c k hk]
  apply wb_inj
  rw [Int64.toBitVec_shiftLeft, wb_tb, wb_tb, wb_tb, wb_sm k hk]
  apply BitVec.eq_of_toNat_eq
  rw [BitVec.shiftLeft_eq', BitVec.toNat_shiftLeft, BitVec.toNat_ofNat, BitVec.toNat_ofNat, BitVec.toNat_ofNat, Nat.mod_eq_of_lt (show k < 2 ^ 64 by omega), Nat.shiftLeft_eq, Nat.mul_mod, Nat.mod_mod, ← Nat.mul_mod]
theorem pf_lI {a : Nat} (h : a < 2 ^ 63) : (lN a).toInt = (a : Int) := lg_ofNat_toInt h
theorem pf_shr {a d : Nat} {D : Int64} (hD : (D.toBitVec.smod 64).toNat = d) (h : a < 2 ^ 62) : lN a >>> D = lN (a / 2 ^ d) := by
  have hd : a / 2 ^ d ≤ a := Nat.div_le_self _ _
  apply Int64.toInt_inj.mp
  have e : (lN a >>> D).toInt = (lN a).toInt >>> d := by
    rw [← hD]
    exact BitVec.toInt_sshiftRight ..
  rw [e, Int.shiftRight_eq_div_pow, pf_lI (by omega), pf_lI (by omega)]
  rfl
end
section
/-! counting -/
def zp_ct (f : Nat → Bool) : Nat → Nat
  | 0 => 0
  | m + 1 => zp_ct f m + (if f m = true then 1 else 0)
theorem zp_ct_t {f : Nat → Bool} {m : Nat} (h : f m = true) : zp_ct f (m + 1) = zp_ct f m + 1 := by
  show zp_ct f m + (if f m = true then 1 else 0) = _
  rw [if_pos h]
theorem zp_ct_f {f : Nat → Bool} {m : Nat} (h : f m = false) : zp_ct f (m + 1) = zp_ct f m := by
  show zp_ct f m + (if f m = true then 1 else 0) = _
  rw [if_neg (by rw [h]; decide)]; rfl
theorem zp_ct_le (f : Nat → Bool) : ∀ m, zp_ct f m ≤ m := by
  intro m
  induction m with
  | zero => exact Nat.le_refl _
  | succ m ih =>
    cases h : f m
    · rw [zp_ct_f h]; omega
    · rw [zp_ct_t h]; omega
theorem zp_ct_mono (f : Nat → Bool) {a b : Nat} (h : a ≤ b) : zp_ct f a ≤ zp_ct f b := by
  induction b with
  | zero =>
    have e : a = 0 := by omega
    rw [e]
    exact Nat.le_refl _
  | succ b ih =>
    rcases Nat.lt_or_ge b a with z | z
    · have e : a = b + 1 := by omega
      rw [e]
      exact Nat.le_refl _
    · have := ih z
      cases hf : f b
      · rw [zp_ct_f hf]; omega
      · rw [zp_ct_t hf]; omega
theorem zp_ct_lt (f : Nat → Bool) {a b : Nat} (h : a < b) (hf : f a = true) : zp_ct f a < zp_ct f b := by
  have := zp_ct_mono f (show a + 1 ≤ b from h)
  rw [zp_ct_t hf] at this
  omega
theorem zp_ct_congr {f g : Nat → Bool} : ∀ m, (∀ i, i < m → f i = g i) → zp_ct f m = zp_ct g m := by
  intro m
  induction m with
  | zero => exact fun _ => rfl
  | succ m ih =>
    intro h
    have e := ih (fun i hi => h i (by omega))
    have em := h m (by omega)
    show zp_ct f m + (if f m = true then 1 else 0) = zp_ct g m + (if g m = true then 1 else 0)
    rw [e, em]
theorem zp_ct_add (f : Nat → Bool) (a : Nat) : ∀ b, zp_ct f (a + b) = zp_ct f a + zp_ct (fun i => f (a + i)) b := by
  intro b
  induction b with
  | zero => rfl
  | succ b ih =>
    show zp_ct f (a + b) + (if f (a + b) = true then 1 else 0) = zp_ct f a + (zp_ct (fun i => f (a + i)) b + (if f (a + b) = true then 1 else 0))
    rw [ih]; omega
theorem zp_ct_zero {f : Nat → Bool} : ∀ m, (∀ i, i < m → f i = false) → zp_ct f m = 0 := by
  intro m
  induction m with
  | zero => exact fun _ => rfl
  | succ m ih =>
    intro h
    rw [zp_ct_f (h m (by omega))]
    exact ih (fun i hi => h i (by omega))
theorem zp_ct_none {f : Nat → Bool} : ∀ m, zp_ct f m = 0 → ∀ i, i < m → f i = false := by
  intro m h i hi
  cases e : f i
  · rfl
  · have := zp_ct_lt f hi e
    omega
theorem zp_ct_full {f : Nat → Bool} : ∀ m, zp_ct f m = m → ∀ i, i < m → f i = true := by
  intro m
  induction m with
  | zero => exact fun _ i hi => absurd hi (by omega)
  | succ m ih =>
    intro h i hi
    have l := zp_ct_le f m
    cases e : f m
    · rw [zp_ct_f e] at h; omega
    · rw [zp_ct_t e] at h
      rcases Nat.lt_or_ge i m with z | z
      · exact ih (by omega) i z
      · have : i = m := by omega
        rw [this]; exact e
theorem zp_ct_all {f : Nat → Bool} : ∀ m, (∀ i, i < m → f i = true) → zp_ct f m = m := by
  intro m
  induction m with
  | zero => exact fun _ => rfl
  | succ m ih =>
    intro h
    rw [zp_ct_t (h m (by omega)), ih (fun i hi => h i (by omega))]
theorem zp_ct_nth (f : Nat → Bool) {j : Nat} : ∀ m, j < zp_ct f m → ∃ r, r < m ∧ f r = true ∧ zp_ct f r = j := by
  intro m
  induction m with
  | zero => exact fun h => absurd h (Nat.not_lt_zero _)
  | succ m ih =>
    intro h
    rcases Nat.lt_or_ge j (zp_ct f m) with z | z
    · obtain ⟨r, hr, h1, h2⟩ := ih z
      exact ⟨r, by omega, h1, h2⟩
    · cases e : f m
      · rw [zp_ct_f e] at h; omega
      · rw [zp_ct_t e] at h
        exact ⟨m, by omega, e, by omega⟩
theorem zp_ct_inj (f : Nat → Bool) {a b : Nat} (ha : f a = true) (hb : f b = true) (h : zp_ct f a = zp_ct f b) : a = b := by
  rcases Nat.lt_trichotomy a b with z | z | z
  · have := zp_ct_lt f z ha; omega
  · exact z
  · have := zp_ct_lt f z hb; omega
theorem zp_ct_split (f g : Nat → Bool) : ∀ m, zp_ct f m = zp_ct (fun i => f i && g i) m + zp_ct (fun i => f i && !g i) m := by
  intro m
  induction m with
  | zero => rfl
  | succ m ih =>
    show zp_ct f m + (if f m = true then 1 else 0) = (zp_ct (fun i => f i && g i) m + (if (f m && g m) = true then 1 else 0)) + (zp_ct (fun i => f i && !g i) m + (if (f m && !g m) = true then 1 else 0))
    rw [ih]
    cases f m <;> cases g m <;> simp <;> omega
theorem zp_ct_sub {f g : Nat → Bool} : ∀ m, (∀ i, i < m → f i = true → g i = true) → zp_ct f m ≤ zp_ct g m := by
  intro m
  induction m with
  | zero => exact fun _ => Nat.le_refl _
  | succ m ih =>
    intro h
    have e := ih (fun i hi => h i (by omega))
    cases hf : f m
    · rw [zp_ct_f hf]
      exact Nat.le_trans e (zp_ct_mono g (Nat.le_succ m))
    · rw [zp_ct_t hf, zp_ct_t (h m (by omega) hf)]
      omega
theorem zp_ct_upd (P : Int32 → Bool) (f : Nat → Int32) (k : Nat) (x : Int32) : ∀ m, k < m →
    zp_ct (fun i => P (upd f k x i)) m + (if P (f k) = true then 1 else 0) = zp_ct (fun i => P (f i)) m + (if P x = true then 1 else 0) := by
  intro m
  induction m with
  | zero => exact fun h => absurd h (by omega)
  | succ m ih =>
    intro h
    show zp_ct (fun i => P (upd f k x i)) m + (if P (upd f k x m) = true then 1 else 0) + _ = zp_ct (fun i => P (f i)) m + (if P (f m) = true then 1 else 0) + _
    rcases Nat.lt_or_ge k m with z | z
    · have e := ih z
      rw [pk_un (show m ≠ k by omega)]
      omega
    · have e : k = m := by omega
      subst e
      have c : zp_ct (fun i => P (upd f k x i)) k = zp_ct (fun i => P (f i)) k := zp_ct_congr k (fun i hi => by rw [pk_un (show i ≠ k by omega)])
      rw [c, pk_us]
      omega
/-- the swap of two places -/
def zp_sw (f : Nat → Int32) (a b : Nat) : Nat → Int32 := upd (upd f a (f b)) b (f a)
theorem zp_sw_a (f : Nat → Int32) (a b : Nat) : zp_sw f a b a = f b := by
  unfold zp_sw
  by_cases h : a = b
  · subst h; rw [pk_us]
  · rw [pk_un h, pk_us]
theorem zp_sw_b (f : Nat → Int32) (a b : Nat) : zp_sw f a b b = f a := by
  unfold zp_sw
  rw [pk_us]
theorem zp_sw_o (f : Nat → Int32) {a b j : Nat} (ha : j ≠ a) (hb : j ≠ b) : zp_sw f a b j = f j := by
  unfold zp_sw
  rw [pk_un hb, pk_un ha]
theorem zp_sw_ct (P : Int32 → Bool) (f : Nat → Int32) {a b m : Nat} (ha : a < m) (hb : b < m) : zp_ct (fun i => P (zp_sw f a b i)) m = zp_ct (fun i => P (f i)) m := by
  have h1 := zp_ct_upd P f a (f b) m ha
  have h2 := zp_ct_upd P (upd f a (f b)) b (f a) m hb
  have h3 : upd f a (f b) b = f b := by
    by_cases h : b = a
    · subst h; rw [pk_us]
    · rw [pk_un h]
  rw [h3] at h2
  show zp_ct (fun i => P (upd (upd f a (f b)) b (f a) i)) m = _
  omega
/-! sets of bits -/
def zp_bp (s : Int32) (m : Nat) (f : Nat → Bool) : Prop := ∀ i, i < 32 → bt s i = (decide (i < m) && f i)
theorem zp_bp_0 (f : Nat → Bool) : zp_bp 0 0 f := fun i _ => by rw [b_0]; simp
theorem zp_bp_z {m : Nat} {f : Nat → Bool} (h : ∀ i, i < m → f i = false) : zp_bp 0 m f := fun i _ => by
  rw [b_0]
  by_cases z : i < m
  · rw [h i z]; simp
  · simp [z]
theorem zp_1 : ∀ m, m < 32 → ∀ i, i < 32 → bt ((1 : Int32) <<< (nI m &&& 31)) i = decide (i = m) := by decide +kernel
theorem zp_bp_t {s : Int32} {m : Nat} {f : Nat → Bool} (h : zp_bp s m f) (hm : m < 32) (hf : f m = true) : zp_bp (s ||| ((1 : Int32) <<< (nI m &&& 31))) (m + 1) f := by
  intro i hi
  rw [b_or, h i hi, zp_1 m hm i hi]
  rcases Nat.lt_trichotomy i m with z | z | z
  · rw [decide_eq_true z, decide_eq_true (show i < m + 1 by omega), decide_eq_false (show ¬ i = m by omega), Bool.or_false]
  · subst z
    rw [hf]; simp
  · rw [decide_eq_false (show ¬ i < m by omega), decide_eq_false (show ¬ i < m + 1 by omega), decide_eq_false (show ¬ i = m by omega)]; rfl
theorem zp_bp_f {s : Int32} {m : Nat} {f : Nat → Bool} (h : zp_bp s m f) (hf : f m = false) : zp_bp s (m + 1) f := by
  intro i hi
  rw [h i hi]
  rcases Nat.lt_trichotomy i m with z | z | z
  · rw [decide_eq_true z, decide_eq_true (show i < m + 1 by omega)]
  · subst z
    rw [hf]; simp
  · rw [decide_eq_false (show ¬ i < m by omega), decide_eq_false (show ¬ i < m + 1 by omega)]
theorem zp_bp_and {s t : Int32} {m : Nat} {f g : Nat → Bool} (h : zp_bp s m f) (h2 : zp_bp t m g) : zp_bp (s &&& t) m (fun i => f i && g i) := by
  intro i hi
  rw [b_and, h i hi, h2 i hi]
  cases decide (i < m) <;> simp
theorem zp_bp_congr {s : Int32} {m : Nat} {f g : Nat → Bool} (h : zp_bp s m f) (e : ∀ i, i < m → f i = g i) : zp_bp s m g := by
  intro i hi
  rw [h i hi]
  by_cases z : i < m
  · rw [e i z]
  · simp [z]
theorem zp_bp_eq0 {s : Int32} {f : Nat → Bool} {m : Nat} (h : zp_bp s m f) (hm : m ≤ 32) : s = 0 ↔ ∀ i, i < m → f i = false := by
  constructor
  · intro e i hi
    have := h i (by omega)
    rw [e, b_0, decide_eq_true hi, Bool.true_and] at this
    exact this.symm
  · intro e
    apply b_ext
    intro i hi
    rw [h i hi, b_0]
    by_cases z : i < m
    · rw [e i z, Bool.and_false]
    · simp [z]
theorem zp_bp_bt {s : Int32} {f : Nat → Bool} {m : Nat} (h : zp_bp s m f) {i : Nat} (hi : i < m) (hm : m ≤ 32) : bt s i = f i := by
  rw [h i (by omega), decide_eq_true hi, Bool.true_and]
theorem zp_bp_all : zp_bp 65535 16 (fun _ => true) := by
  intro i hi
  rw [b_65535, Bool.and_true]
theorem zp_b1 : ∀ i, i < 32 → bt 1 i = decide (i = 0) := by decide +kernel
/-- one bit of a set -/
theorem zp_bit (s : Int32) {i : Nat} (hi : i < 32) : (s >>> (nI i &&& 31)) &&& 1 = if bt s i = true then 1 else 0 := by
  apply b_ext
  intro j hj
  rw [b_and, b_sshr i hi s hj, zp_b1 j hj]
  by_cases z : j = 0
  · subst z
    rw [if_pos (by omega), Nat.add_zero]
    cases bt s i
    · rw [if_neg (by decide), b_0]; rfl
    · rw [if_pos rfl, zp_b1 0 (by decide)]; rfl
  · rw [decide_eq_false z, Bool.and_false]
    cases bt s i
    · rw [if_neg (by decide), b_0]
    · rw [if_pos rfl, zp_b1 j hj, decide_eq_false z]
theorem zp_bit1 (s : Int32) {i : Nat} (hi : i < 32) : (s >>> (nI i &&& 31)) &&& 1 = 1 ↔ bt s i = true := by
  rw [zp_bit s hi]
  cases bt s i
  · exact ⟨fun h => absurd h (by decide), fun h => absurd h (by decide)⟩
  · exact ⟨fun _ => rfl, fun _ => if_pos rfl⟩
theorem zp_bit_n (s : Int32) {i : Nat} (hi : i < 32) : (s >>> (nI i &&& 31)) &&& 1 = nI (if bt s i = true then 1 else 0) := by
  rw [zp_bit s hi]
  cases bt s i <;> rfl
/-- bits of small numbers -/
theorem zp_bt_nI {n : Nat} (i : Nat) (hi : i < 32) : bt (nI n) i = n.testBit i := by
  show (BitVec.ofNat 32 n).getLsbD i = _
  rw [BitVec.getLsbD_ofNat, decide_eq_true hi, Bool.true_and]
theorem zp_bt_small {n w : Nat} (h : n < 2 ^ w) {i : Nat} (hi : w ≤ i) : bt (nI n) i = false := by
  rcases Nat.lt_or_ge i 32 with z | z
  · rw [zp_bt_nI i z]
    exact Nat.testBit_lt_two_pow (Nat.lt_of_lt_of_le h (Nat.pow_le_pow_right (by decide) hi))
  · exact b_big z
/-- the set of n ones from i on -/
theorem zp_ones0 : ∀ n, n < 17 → ∀ j, j < 32 → bt (((1 : Int32) <<< (nI n &&& 31)) - 1) j = decide (j < n) := by decide +kernel
theorem zp_ones {n i : Nat} (hn : n < 17) (hi : i < 32) {j : Nat} (hj : j < 32) : bt ((((1 : Int32) <<< (nI n &&& 31)) - 1) <<< (nI i &&& 31)) j = decide (i ≤ j ∧ j < i + n) := by
  rw [b_shl i hi _ hj]
  rcases Nat.lt_or_ge j i with z | z
  · rw [decide_eq_false (show ¬ i ≤ j by omega), decide_eq_false (show ¬ (i ≤ j ∧ j < i + n) by omega)]; rfl
  · rw [decide_eq_true z, Bool.true_and, zp_ones0 n hn (j - i) (by omega)]
    exact decide_eq_decide.mpr (by omega)
/-! widths -/
def zp_wd (x : Nat) : Nat := if x = 0 then 0 else x.log2 + 1
theorem zp_wd_le {x w : Nat} : zp_wd x ≤ w ↔ x < 2 ^ w := by
  unfold zp_wd
  by_cases h : x = 0
  · rw [if_pos h, h]
    exact ⟨fun _ => Nat.two_pow_pos w, fun _ => Nat.zero_le _⟩
  · rw [if_neg h]
    exact Nat.log2_lt h
theorem zp_wd_lt (x : Nat) : x < 2 ^ zp_wd x := zp_wd_le.mp (Nat.le_refl _)
/-! digits in words: the bit at a position counted from the word fr -/
def zp_db (W : Nat → Int32) (fr q : Nat) : Bool := bt (W (fr + q / 32)) (q % 32)
theorem zp_db_congr {W W' : Nat → Int32} {fr q : Nat} (h : W' (fr + q / 32) = W (fr + q / 32)) : zp_db W' fr q = zp_db W fr q := by
  unfold zp_db
  rw [h]
/-- one digit set -/
theorem zp_db_set (W : Nat → Int32) (fr p : Nat) (v : Bool) (y : Int32) (hy : ∀ i, i < 32 → bt y i = if i = p % 32 then v else bt (W (fr + p / 32)) i) (q : Nat) :
    zp_db (upd W (fr + p / 32) y) fr q = if q = p then v else zp_db W fr q := by
  unfold zp_db
  by_cases h : q / 32 = p / 32
  · rw [h, pk_us, hy (q % 32) (Nat.mod_lt _ (by decide))]
    by_cases h2 : q = p
    · rw [if_pos h2, if_pos (by rw [h2])]
    · rw [if_neg h2, if_neg (by omega)]
  · rw [pk_un (by omega), if_neg (by intro e; exact h (by rw [e]))]
theorem zp_not1 : ∀ m, m < 32 → ∀ i, i < 32 → bt (((1 : Int32) <<< (nI m &&& 31)) ^^^ (-1)) i = !decide (i = m) := by decide +kernel
theorem zp_set1 (x : Int32) {m : Nat} (hm : m < 32) : ∀ i, i < 32 → bt (x ||| ((1 : Int32) <<< (nI m &&& 31))) i = if i = m then true else bt x i := by
  intro i hi
  rw [b_or, zp_1 m hm i hi]
  by_cases z : i = m
  · rw [if_pos z, decide_eq_true z, Bool.or_true]
  · rw [if_neg z, decide_eq_false z, Bool.or_false]
theorem zp_set0 (x : Int32) {m : Nat} (hm : m < 32) : ∀ i, i < 32 → bt (x &&& (((1 : Int32) <<< (nI m &&& 31)) ^^^ (-1))) i = if i = m then false else bt x i := by
  intro i hi
  rw [b_and, zp_not1 m hm i hi]
  by_cases z : i = m
  · rw [if_pos z, decide_eq_true z]; simp
  · rw [if_neg z, decide_eq_false z]; simp
end
section
/-! the pure sizes of a block's column p 0 .. p 15 -/
def zp_nw (p : Nat → Int32) (i : Nat) : Bool := decide (∀ k, k < i → p k ≠ p i)
def zp_dc (p : Nat → Int32) (m : Nat) : Nat := zp_ct (zp_nw p) m
def zp_rn (p : Nat → Int32) (i : Nat) : Bool := decide (i = 0 ∨ p i ≠ p (i - 1))
def zp_mn (p : Nat → Int32) : Nat → Int32
  | 0 => p 0
  | m + 1 => if zp_mn p m ≤ p (m + 1) then zp_mn p m else p (m + 1)
def zp_mx (p : Nat → Int32) : Nat → Int32
  | 0 => p 0
  | m + 1 => if p (m + 1) ≤ zp_mx p m then zp_mx p m else p (m + 1)
def zp_st (p : Nat → Int32) (i : Nat) : Int64 := (p (i + 1)).toInt64 - (p i).toInt64
def zp_sl (p : Nat → Int32) : Nat → Int64
  | 0 => zp_st p 0
  | m + 1 => if zp_sl p m ≤ zp_st p (m + 1) then zp_sl p m else zp_st p (m + 1)
def zp_sh (p : Nat → Int32) : Nat → Int64
  | 0 => zp_st p 0
  | m + 1 => if zp_st p (m + 1) ≤ zp_sh p m then zp_sh p m else zp_st p (m + 1)
def zp_fx (p : Nat → Int32) : Nat := ((zp_mx p 15).toInt - (zp_mn p 15).toInt).toNat
def zp_sx (p : Nat → Int32) : Nat := ((zp_sh p 14).toInt - (zp_sl p 14).toInt).toNat
def zp_ok (p : Nat → Int32) : Bool := decide (-2147483648 ≤ (zp_sl p 14).toInt ∧ (zp_sh p 14).toInt ≤ 2147483647 ∧ zp_wd (zp_sx p) ≤ 31)
/-- the size of a column in form f -/
def zp_sz (p : Nat → Int32) : Nat → Nat
  | 0 => 512
  | 1 => if zp_dc p 16 = 1 then 32 else 10000
  | 2 => 37 * zp_ct (zp_rn p) 16
  | 3 => if zp_dc p 16 ≤ 8 then 32 * zp_dc p 16 + 16 * zp_wd (zp_dc p 16 - 1) else 10000
  | 4 => if zp_wd (zp_fx p) ≤ 31 then 38 + 16 * zp_wd (zp_fx p) else 10000
  | _ => if zp_ok p = true then 70 + 15 * zp_wd (zp_sx p) else 10000
theorem zp_sz0 (p : Nat → Int32) : zp_sz p 0 = 512 := rfl
theorem zp_sz1 (p : Nat → Int32) : zp_sz p 1 = if zp_dc p 16 = 1 then 32 else 10000 := rfl
theorem zp_sz2 (p : Nat → Int32) : zp_sz p 2 = 37 * zp_ct (zp_rn p) 16 := rfl
theorem zp_sz3 (p : Nat → Int32) : zp_sz p 3 = if zp_dc p 16 ≤ 8 then 32 * zp_dc p 16 + 16 * zp_wd (zp_dc p 16 - 1) else 10000 := rfl
theorem zp_sz4 (p : Nat → Int32) : zp_sz p 4 = if zp_wd (zp_fx p) ≤ 31 then 38 + 16 * zp_wd (zp_fx p) else 10000 := rfl
theorem zp_sz5 (p : Nat → Int32) : zp_sz p 5 = if zp_ok p = true then 70 + 15 * zp_wd (zp_sx p) else 10000 := rfl
theorem zp_sz6 (p : Nat → Int32) (f : Nat) : zp_sz p (f + 5) = if zp_ok p = true then 70 + 15 * zp_wd (zp_sx p) else 10000 := rfl
/-- the best of the forms 0 .. f -/
def zp_bf (p : Nat → Int32) : Nat → Nat
  | 0 => 0
  | f + 1 => if zp_sz p (zp_bf p f) ≤ zp_sz p (f + 1) then zp_bf p f else f + 1
def zp_bs (p : Nat → Int32) : Nat := zp_bf p 5
theorem zp_bf_le (p : Nat → Int32) : ∀ f, zp_bf p f ≤ f := by
  intro f
  induction f with
  | zero => exact Nat.le_refl _
  | succ f ih =>
    show (if zp_sz p (zp_bf p f) ≤ zp_sz p (f + 1) then zp_bf p f else f + 1) ≤ f + 1
    split <;> omega
theorem zp_bf_sz (p : Nat → Int32) : ∀ f, zp_sz p (zp_bf p f) ≤ 512 := by
  intro f
  induction f with
  | zero => exact Nat.le_refl _
  | succ f ih =>
    show zp_sz p (if zp_sz p (zp_bf p f) ≤ zp_sz p (f + 1) then zp_bf p f else f + 1) ≤ 512
    split <;> omega
theorem zp_wd31 {x : Nat} (h : zp_wd x ≤ 31) : x < 2 ^ 31 := zp_wd_le.mp h
theorem zp_bs3 {p : Nat → Int32} (h : zp_bs p = 3) : zp_dc p 16 ≤ 8 := by
  have e := zp_bf_sz p 5
  rw [show zp_bf p 5 = 3 from h, zp_sz3] at e
  split at e
  · rename_i q
    exact q
  · omega
theorem zp_bs4 {p : Nat → Int32} (h : zp_bs p = 4) : zp_wd (zp_fx p) ≤ 31 := by
  have e := zp_bf_sz p 5
  rw [show zp_bf p 5 = 4 from h, zp_sz4] at e
  split at e
  · rename_i q
    exact q
  · omega
theorem zp_bs5 {p : Nat → Int32} (h : zp_bs p = 5) : zp_ok p = true := by
  have e := zp_bf_sz p 5
  rw [show zp_bf p 5 = 5 from h, zp_sz5] at e
  split at e
  · rename_i q
    exact q
  · omega
theorem zp_bs1 {p : Nat → Int32} (h : zp_bs p = 1) : zp_dc p 16 = 1 := by
  have e := zp_bf_sz p 5
  rw [show zp_bf p 5 = 1 from h, zp_sz1] at e
  split at e
  · rename_i q
    exact q
  · omega
theorem zp_bs_lt (p : Nat → Int32) : zp_bs p < 6 := Nat.lt_succ_of_le (zp_bf_le p 5)
theorem zp_sz_lt (p : Nat → Int32) : zp_sz p (zp_bs p) ≤ 512 := zp_bf_sz p 5
end
section
/-! congruence: only p 0 .. p 15 matter -/
theorem zp_mn_congr {p q : Nat → Int32} : ∀ m, (∀ i, i ≤ m → p i = q i) → zp_mn p m = zp_mn q m := by
  intro m
  induction m with
  | zero => exact fun h => h 0 (by omega)
  | succ m ih =>
    intro h
    show (if zp_mn p m ≤ p (m + 1) then zp_mn p m else p (m + 1)) = (if zp_mn q m ≤ q (m + 1) then zp_mn q m else q (m + 1))
    rw [ih (fun i hi => h i (by omega)), h (m + 1) (by omega)]
theorem zp_mx_congr {p q : Nat → Int32} : ∀ m, (∀ i, i ≤ m → p i = q i) → zp_mx p m = zp_mx q m := by
  intro m
  induction m with
  | zero => exact fun h => h 0 (by omega)
  | succ m ih =>
    intro h
    show (if p (m + 1) ≤ zp_mx p m then zp_mx p m else p (m + 1)) = (if q (m + 1) ≤ zp_mx q m then zp_mx q m else q (m + 1))
    rw [ih (fun i hi => h i (by omega)), h (m + 1) (by omega)]
theorem zp_st_congr {p q : Nat → Int32} {m : Nat} (h : ∀ i, i ≤ m + 1 → p i = q i) : zp_st p m = zp_st q m := by
  unfold zp_st
  rw [h m (by omega), h (m + 1) (by omega)]
theorem zp_sl_congr {p q : Nat → Int32} : ∀ m, (∀ i, i ≤ m + 1 → p i = q i) → zp_sl p m = zp_sl q m := by
  intro m
  induction m with
  | zero => exact fun h => zp_st_congr h
  | succ m ih =>
    intro h
    show (if zp_sl p m ≤ zp_st p (m + 1) then zp_sl p m else zp_st p (m + 1)) = (if zp_sl q m ≤ zp_st q (m + 1) then zp_sl q m else zp_st q (m + 1))
    rw [ih (fun i hi => h i (by omega)), zp_st_congr h]
theorem zp_sh_congr {p q : Nat → Int32} : ∀ m, (∀ i, i ≤ m + 1 → p i = q i) → zp_sh p m = zp_sh q m := by
  intro m
  induction m with
  | zero => exact fun h => zp_st_congr h
  | succ m ih =>
    intro h
    show (if zp_st p (m + 1) ≤ zp_sh p m then zp_sh p m else zp_st p (m + 1)) = (if zp_st q (m + 1) ≤ zp_sh q m then zp_sh q m else zp_st q (m + 1))
    rw [ih (fun i hi => h i (by omega)), zp_st_congr h]
theorem zp_nw_congr {p q : Nat → Int32} {i : Nat} (h : ∀ j, j ≤ i → p j = q j) : zp_nw p i = zp_nw q i := by
  unfold zp_nw
  apply decide_eq_decide.mpr
  rw [h i (Nat.le_refl _)]
  constructor
  · intro a k hk
    rw [← h k (by omega)]
    exact a k hk
  · intro a k hk
    rw [h k (by omega)]
    exact a k hk
theorem zp_dc_congr {p q : Nat → Int32} (h : ∀ i, i < 16 → p i = q i) : zp_dc p 16 = zp_dc q 16 := zp_ct_congr 16 (fun i hi => zp_nw_congr (fun j hj => h j (by omega)))
theorem zp_rc_congr {p q : Nat → Int32} (h : ∀ i, i < 16 → p i = q i) : zp_ct (zp_rn p) 16 = zp_ct (zp_rn q) 16 := zp_ct_congr 16 (fun i hi => by
  unfold zp_rn
  rw [h i hi, h (i - 1) (by omega)])
theorem zp_fx_congr {p q : Nat → Int32} (h : ∀ i, i < 16 → p i = q i) : zp_fx p = zp_fx q := by
  have h1 : zp_mn p 15 = zp_mn q 15 := zp_mn_congr 15 (fun i hi => h i (by omega))
  have h2 : zp_mx p 15 = zp_mx q 15 := zp_mx_congr 15 (fun i hi => h i (by omega))
  unfold zp_fx
  rw [h1, h2]
theorem zp_sl_c {p q : Nat → Int32} (h : ∀ i, i < 16 → p i = q i) : zp_sl p 14 = zp_sl q 14 := zp_sl_congr 14 (fun i hi => h i (by omega))
theorem zp_sh_c {p q : Nat → Int32} (h : ∀ i, i < 16 → p i = q i) : zp_sh p 14 = zp_sh q 14 := zp_sh_congr 14 (fun i hi => h i (by omega))
theorem zp_sx_congr {p q : Nat → Int32} (h : ∀ i, i < 16 → p i = q i) : zp_sx p = zp_sx q := by
  unfold zp_sx
  rw [zp_sl_c h, zp_sh_c h]
theorem zp_ok_congr {p q : Nat → Int32} (h : ∀ i, i < 16 → p i = q i) : zp_ok p = zp_ok q := by
  unfold zp_ok
  apply decide_eq_decide.mpr
  rw [zp_sl_c h, zp_sh_c h, zp_sx_congr h]
theorem zp_s0c {p q : Nat → Int32} : zp_sz p 0 = zp_sz q 0 := by rw [zp_sz0, zp_sz0]
theorem zp_s1c {p q : Nat → Int32} (h : ∀ i, i < 16 → p i = q i) : zp_sz p 1 = zp_sz q 1 := by rw [zp_sz1, zp_sz1, zp_dc_congr h]
theorem zp_s2c {p q : Nat → Int32} (h : ∀ i, i < 16 → p i = q i) : zp_sz p 2 = zp_sz q 2 := by rw [zp_sz2, zp_sz2, zp_rc_congr h]
theorem zp_s3c {p q : Nat → Int32} (h : ∀ i, i < 16 → p i = q i) : zp_sz p 3 = zp_sz q 3 := by rw [zp_sz3, zp_sz3, zp_dc_congr h]
theorem zp_s4c {p q : Nat → Int32} (h : ∀ i, i < 16 → p i = q i) : zp_sz p 4 = zp_sz q 4 := by rw [zp_sz4, zp_sz4, zp_fx_congr h]
theorem zp_s5c {p q : Nat → Int32} (h : ∀ i, i < 16 → p i = q i) (g : Nat) : zp_sz p (g + 5) = zp_sz q (g + 5) := by rw [zp_sz6, zp_sz6, zp_ok_congr h, zp_sx_congr h]
theorem zp_sz_congr {p q : Nat → Int32} (h : ∀ i, i < 16 → p i = q i) (f : Nat) : zp_sz p f = zp_sz q f := by
  rcases f with _ | _ | _ | _ | _ | f
  · exact zp_s0c
  · exact zp_s1c h
  · exact zp_s2c h
  · exact zp_s3c h
  · exact zp_s4c h
  · exact zp_s5c h f
theorem zp_bf_congr {p q : Nat → Int32} (h : ∀ i, i < 16 → p i = q i) : ∀ f, zp_bf p f = zp_bf q f := by
  intro f
  induction f with
  | zero => rfl
  | succ f ih =>
    show (if zp_sz p (zp_bf p f) ≤ zp_sz p (f + 1) then zp_bf p f else f + 1) = (if zp_sz q (zp_bf q f) ≤ zp_sz q (f + 1) then zp_bf q f else f + 1)
    rw [ih, zp_sz_congr h, zp_sz_congr h]
end
section
/-! least and greatest -/
theorem zp_mn_le (p : Nat → Int32) : ∀ m i, i ≤ m → zp_mn p m ≤ p i := by
  intro m
  induction m with
  | zero =>
    intro i hi
    have : i = 0 := by omega
    rw [this]
    exact Int32.le_refl _
  | succ m ih =>
    intro i hi
    show (if zp_mn p m ≤ p (m + 1) then zp_mn p m else p (m + 1)) ≤ p i
    split
    · rename_i h
      rcases Nat.lt_or_ge m i with z | z
      · have : i = m + 1 := by omega
        rw [this]; exact h
      · exact ih i z
    · rename_i h
      rcases Nat.lt_or_ge m i with z | z
      · have : i = m + 1 := by omega
        rw [this]; exact Int32.le_refl _
      · have := ih i z
        rw [Int32.le_iff_toInt_le] at *
        omega
theorem zp_mn_mem (p : Nat → Int32) : ∀ m, ∃ i, i ≤ m ∧ zp_mn p m = p i := by
  intro m
  induction m with
  | zero => exact ⟨0, Nat.le_refl _, rfl⟩
  | succ m ih =>
    show ∃ i, i ≤ m + 1 ∧ (if zp_mn p m ≤ p (m + 1) then zp_mn p m else p (m + 1)) = p i
    split
    · obtain ⟨i, hi, e⟩ := ih
      exact ⟨i, by omega, e⟩
    · exact ⟨m + 1, Nat.le_refl _, rfl⟩
theorem zp_mx_ge (p : Nat → Int32) : ∀ m i, i ≤ m → p i ≤ zp_mx p m := by
  intro m
  induction m with
  | zero =>
    intro i hi
    have : i = 0 := by omega
    rw [this]
    exact Int32.le_refl _
  | succ m ih =>
    intro i hi
    show p i ≤ (if p (m + 1) ≤ zp_mx p m then zp_mx p m else p (m + 1))
    split
    · rename_i h
      rcases Nat.lt_or_ge m i with z | z
      · have : i = m + 1 := by omega
        rw [this]; exact h
      · exact ih i z
    · rename_i h
      rcases Nat.lt_or_ge m i with z | z
      · have : i = m + 1 := by omega
        rw [this]; exact Int32.le_refl _
      · have := ih i z
        rw [Int32.le_iff_toInt_le] at *
        omega
theorem zp_mx_mem (p : Nat → Int32) : ∀ m, ∃ i, i ≤ m ∧ zp_mx p m = p i := by
  intro m
  induction m with
  | zero => exact ⟨0, Nat.le_refl _, rfl⟩
  | succ m ih =>
    show ∃ i, i ≤ m + 1 ∧ (if p (m + 1) ≤ zp_mx p m then zp_mx p m else p (m + 1)) = p i
    split
    · obtain ⟨i, hi, e⟩ := ih
      exact ⟨i, by omega, e⟩
    · exact ⟨m + 1, Nat.le_refl _, rfl⟩
end
section
/-! long differences -/
theorem zp_dif (x y : Int32) : (x.toInt64 - y.toInt64).toInt = x.toInt - y.toInt := by
  rw [Int64.toInt_sub, Int32.toInt_toInt64, Int32.toInt_toInt64]
  have h1 := x.le_toInt
  have h2 := x.toInt_lt
  have h3 := y.le_toInt
  have h4 := y.toInt_lt
  exact Int.bmod_eq_of_le (by omega) (by omega)
theorem zp_toL {a b : Int64} {n : Nat} (h : a.toInt - b.toInt = n) (hn : n < 2 ^ 62) : a - b = lN n := by
  apply Int64.toInt_inj.mp
  rw [Int64.toInt_sub, pk_lT (by omega), h]
  exact Int.bmod_eq_of_le (by omega) (by omega)
theorem zp_st_int (p : Nat → Int32) (i : Nat) : (zp_st p i).toInt = (p (i + 1)).toInt - (p i).toInt := zp_dif _ _
theorem zp_st_bd (p : Nat → Int32) (i : Nat) : -4294967296 < (zp_st p i).toInt ∧ (zp_st p i).toInt < 4294967296 := by
  rw [zp_st_int]
  have h1 := (p i).le_toInt
  have h2 := (p i).toInt_lt
  have h3 := (p (i + 1)).le_toInt
  have h4 := (p (i + 1)).toInt_lt
  omega
theorem zp_sl_le (p : Nat → Int32) : ∀ m i, i ≤ m → (zp_sl p m).toInt ≤ (zp_st p i).toInt := by
  intro m
  induction m with
  | zero =>
    intro i hi
    have : i = 0 := by omega
    rw [this]
    exact Int.le_refl _
  | succ m ih =>
    intro i hi
    show (if zp_sl p m ≤ zp_st p (m + 1) then zp_sl p m else zp_st p (m + 1)).toInt ≤ _
    split
    · rename_i h
      rw [Int64.le_iff_toInt_le] at h
      rcases Nat.lt_or_ge m i with z | z
      · have : i = m + 1 := by omega
        rw [this]; exact h
      · exact ih i z
    · rename_i h
      rw [Int64.le_iff_toInt_le] at h
      rcases Nat.lt_or_ge m i with z | z
      · have : i = m + 1 := by omega
        rw [this]; exact Int.le_refl _
      · have := ih i z
        omega
theorem zp_sh_ge (p : Nat → Int32) : ∀ m i, i ≤ m → (zp_st p i).toInt ≤ (zp_sh p m).toInt := by
  intro m
  induction m with
  | zero =>
    intro i hi
    have : i = 0 := by omega
    rw [this]
    exact Int.le_refl _
  | succ m ih =>
    intro i hi
    show _ ≤ (if zp_st p (m + 1) ≤ zp_sh p m then zp_sh p m else zp_st p (m + 1)).toInt
    split
    · rename_i h
      rw [Int64.le_iff_toInt_le] at h
      rcases Nat.lt_or_ge m i with z | z
      · have : i = m + 1 := by omega
        rw [this]; exact h
      · exact ih i z
    · rename_i h
      rw [Int64.le_iff_toInt_le] at h
      rcases Nat.lt_or_ge m i with z | z
      · have : i = m + 1 := by omega
        rw [this]; exact Int.le_refl _
      · have := ih i z
        omega
theorem zp_sl_mem (p : Nat → Int32) : ∀ m, ∃ i, i ≤ m ∧ zp_sl p m = zp_st p i := by
  intro m
  induction m with
  | zero => exact ⟨0, Nat.le_refl _, rfl⟩
  | succ m ih =>
    show ∃ i, i ≤ m + 1 ∧ (if zp_sl p m ≤ zp_st p (m + 1) then zp_sl p m else zp_st p (m + 1)) = zp_st p i
    split
    · obtain ⟨i, hi, e⟩ := ih
      exact ⟨i, by omega, e⟩
    · exact ⟨m + 1, Nat.le_refl _, rfl⟩
theorem zp_sh_mem (p : Nat → Int32) : ∀ m, ∃ i, i ≤ m ∧ zp_sh p m = zp_st p i := by
  intro m
  induction m with
  | zero => exact ⟨0, Nat.le_refl _, rfl⟩
  | succ m ih =>
    show ∃ i, i ≤ m + 1 ∧ (if zp_st p (m + 1) ≤ zp_sh p m then zp_sh p m else zp_st p (m + 1)) = zp_st p i
    split
    · obtain ⟨i, hi, e⟩ := ih
      exact ⟨i, by omega, e⟩
    · exact ⟨m + 1, Nat.le_refl _, rfl⟩
theorem zp_sx_eq (p : Nat → Int32) : zp_sh p 14 - zp_sl p 14 = lN (zp_sx p) ∧ zp_sx p < 2 ^ 34 := by
  have a := zp_sl_le p 14 0 (by omega)
  have b := zp_sh_ge p 14 0 (by omega)
  obtain ⟨i, _, hi⟩ := zp_sl_mem p 14
  obtain ⟨j, _, hj⟩ := zp_sh_mem p 14
  have c := zp_st_bd p i
  have d := zp_st_bd p j
  rw [← hi] at c
  rw [← hj] at d
  have e : ((zp_sx p : Nat) : Int) = (zp_sh p 14).toInt - (zp_sl p 14).toInt := by
    unfold zp_sx
    omega
  exact ⟨zp_toL e.symm (by omega), by omega⟩
theorem zp_fx_int (p : Nat → Int32) : (zp_fx p : Int) = (zp_mx p 15).toInt - (zp_mn p 15).toInt := by
  have a := zp_mn_le p 15 0 (by omega)
  have b := zp_mx_ge p 15 0 (by omega)
  rw [Int32.le_iff_toInt_le] at a b
  unfold zp_fx
  omega
theorem zp_fx_eq (p : Nat → Int32) : (zp_mx p 15).toInt64 - (zp_mn p 15).toInt64 = lN (zp_fx p) ∧ zp_fx p < 2 ^ 32 := by
  have e := zp_fx_int p
  have h1 := (zp_mx p 15).le_toInt
  have h2 := (zp_mx p 15).toInt_lt
  have h3 := (zp_mn p 15).le_toInt
  have h4 := (zp_mn p 15).toInt_lt
  refine ⟨zp_toL ?_ (by omega), by omega⟩
  rw [Int32.toInt_toInt64, Int32.toInt_toInt64]
  omega
/-- a value above the least, as a digit number -/
theorem zp_fr_d (p : Nat → Int32) {i : Nat} (hi : i < 16) (hf : zp_wd (zp_fx p) ≤ 31) :
    ∃ D : Nat, D < 2 ^ zp_wd (zp_fx p) ∧ p i - zp_mn p 15 = nI D ∧ (p i).toInt = (zp_mn p 15).toInt + D := by
  have a := zp_mn_le p 15 i (by omega)
  have b := zp_mx_ge p 15 i (by omega)
  rw [Int32.le_iff_toInt_le] at a b
  have e := zp_fx_int p
  have w := zp_wd_lt (zp_fx p)
  have hf := zp_wd31 hf
  refine ⟨((p i).toInt - (zp_mn p 15).toInt).toNat, by omega, ?_, by omega⟩
  apply Int32.toInt_inj.mp
  rw [Int32.toInt_sub, nI_toInt (by omega)]
  have : (((p i).toInt - (zp_mn p 15).toInt).toNat : Int) = (p i).toInt - (zp_mn p 15).toInt := by omega
  rw [this]
  exact Int.bmod_eq_of_le (by omega) (by omega)
/-- a step above the least, as a digit number -/
theorem zp_st_d (p : Nat → Int32) {i : Nat} (hi : i < 15) (hk : zp_ok p = true) :
    ∃ D : Nat, D < 2 ^ zp_wd (zp_sx p) ∧ (zp_st p i - zp_sl p 14).toInt32 = nI D ∧ p (i + 1) = (p i + (zp_sl p 14).toInt32) + nI D := by
  have hk2 := of_decide_eq_true hk
  have a := zp_sl_le p 14 i (by omega)
  have b := zp_sh_ge p 14 i (by omega)
  have w := zp_wd_lt (zp_sx p)
  have w31 := zp_wd31 hk2.2.2
  have e : ((zp_sx p : Nat) : Int) = (zp_sh p 14).toInt - (zp_sl p 14).toInt := by
    unfold zp_sx
    omega
  have e1 : zp_st p i - zp_sl p 14 = lN ((zp_st p i).toInt - (zp_sl p 14).toInt).toNat := zp_toL (by omega) (by omega)
  have e2 : (zp_st p i - zp_sl p 14).toInt32 = nI ((zp_st p i).toInt - (zp_sl p 14).toInt).toNat := by rw [e1, lN_i]
  refine ⟨((zp_st p i).toInt - (zp_sl p 14).toInt).toNat, by omega, e2, ?_⟩
  rw [← e2, Int64.toInt32_sub]
  have e3 : (zp_st p i).toInt32 = p (i + 1) - p i := by
    unfold zp_st
    rw [Int64.toInt32_sub, Int32.toInt32_toInt64, Int32.toInt32_toInt64]
  rw [e3]
  generalize (zp_sl p 14).toInt32 = s
  generalize p i = x
  generalize p (i + 1) = y
  grind
end
section
/-! what a packed column holds -/
def zp_r2 (mn : Int32) (W L : Nat → Int32) (at' : Nat) (p : Nat → Int32) : Prop :=
  ∃ (m : Nat) (s : Nat → Nat), mn = nI m ∧ m ≤ 16 ∧ s 0 = 0 ∧ s m = 16 ∧ (∀ k, k ≤ m → s k ≤ 16) ∧
    (∀ k, k < m → s k ≤ s (k + 1) ∧ L (16 * at' + k) = nI (s (k + 1) - s k) ∧ ∀ i, s k ≤ i → i < s (k + 1) → p i = W (24 * at' + k))
def zp_r3 (mn wd : Int32) (W : Nat → Int32) (at' : Nat) (p : Nat → Int32) : Prop :=
  ∃ (d w : Nat) (e : Nat → Nat), mn = nI d ∧ wd = nI w ∧ d ≤ 8 ∧ w ≤ 3 ∧ (∀ a b, a < b → b < d → W (24 * at' + a) < W (24 * at' + b)) ∧
    (∀ i, i < 16 → e i < d ∧ e i < 2 ^ w ∧ W (24 * at' + e i) = p i ∧ ∀ j, j < w → zp_db W (24 * at' + 8) (i * w + j) = bt (nI (e i)) j)
def zp_r4 (fv wd : Int32) (W : Nat → Int32) (at' : Nat) (p : Nat → Int32) : Prop :=
  ∃ (w : Nat) (D : Nat → Nat), wd = nI w ∧ w ≤ 31 ∧
    (∀ i, i < 16 → D i < 2 ^ w ∧ (p i).toInt = fv.toInt + D i ∧ ∀ j, j < w → zp_db W (24 * at') (i * w + j) = bt (nI (D i)) j)
def zp_r5 (fv wd ls : Int32) (W : Nat → Int32) (at' : Nat) (p : Nat → Int32) : Prop :=
  ∃ (w : Nat) (D : Nat → Nat), wd = nI w ∧ w ≤ 31 ∧ fv = p 0 ∧
    (∀ i, i < 15 → D i < 2 ^ w ∧ p (i + 1) = (p i + ls) + nI (D i) ∧ ∀ j, j < w → zp_db W (24 * at') (i * w + j) = bt (nI (D i)) j)
def zp_bk (fo fv wd ls mn lo hi tk : Int32) (W L : Nat → Int32) (at' : Nat) (p : Nat → Int32) : Prop :=
  fo = nI (zp_bs p) ∧ tk = nI (zp_sz p (zp_bs p)) ∧ lo = zp_mn p 15 ∧ hi = zp_mx p 15 ∧
  (zp_bs p = 0 → ∀ i, i < 16 → W (24 * at' + i) = p i) ∧ (zp_bs p = 1 → ∀ i, i < 16 → p i = fv) ∧
  (zp_bs p = 2 → zp_r2 mn W L at' p) ∧ (zp_bs p = 3 → zp_r3 mn wd W at' p) ∧ (zp_bs p = 4 → zp_r4 fv wd W at' p) ∧ (zp_bs p = 5 → zp_r5 fv wd ls W at' p)
theorem zp_mulb {i w j c : Nat} (hi : i < 16) (hw : w ≤ c) (hj : j < w) : i * w + j < 16 * c := by
  have h1 : i * w + j < (i + 1) * w := by rw [Nat.succ_mul]; omega
  have h2 : (i + 1) * w ≤ 16 * c := Nat.mul_le_mul (by omega) hw
  omega
theorem zp_bk_congr {fo fv wd ls mn lo hi tk : Int32} {W L W' L' : Nat → Int32} {at' : Nat} {p : Nat → Int32} (h : zp_bk fo fv wd ls mn lo hi tk W L at' p)
    (hW : ∀ j, j < 24 → W' (24 * at' + j) = W (24 * at' + j)) (hL : ∀ j, j < 16 → L' (16 * at' + j) = L (16 * at' + j)) : zp_bk fo fv wd ls mn lo hi tk W' L' at' p := by
  obtain ⟨h1, h2, h3, h4, r0, r1, r2, r3, r4, r5⟩ := h
  refine ⟨h1, h2, h3, h4, ?_, r1, ?_, ?_, ?_, ?_⟩
  · intro e i hi
    rw [hW i (by omega)]
    exact r0 e i hi
  · intro e
    obtain ⟨m, s, a1, a2, a3, a4, a5, a6⟩ := r2 e
    refine ⟨m, s, a1, a2, a3, a4, a5, fun k hk => ?_⟩
    obtain ⟨b1, b2, b3⟩ := a6 k hk
    refine ⟨b1, ?_, ?_⟩
    · rw [hL k (by omega)]; exact b2
    · intro i hi hi2
      rw [hW k (by omega)]; exact b3 i hi hi2
  · intro e
    obtain ⟨d, w, ee, a1, a2, a3, a4, a5, a6⟩ := r3 e
    refine ⟨d, w, ee, a1, a2, a3, a4, ?_, ?_⟩
    · intro a b hab hb
      rw [hW a (by omega), hW b (by omega)]
      exact a5 a b hab hb
    · intro i hi
      obtain ⟨b1, b2, b3, b4⟩ := a6 i hi
      refine ⟨b1, b2, ?_, ?_⟩
      · rw [hW (ee i) (by omega)]; exact b3
      · intro j hj
        have hb := zp_mulb hi a4 hj
        rw [← b4 j hj]
        apply zp_db_congr
        rw [show 24 * at' + 8 + (i * w + j) / 32 = 24 * at' + (8 + (i * w + j) / 32) by omega]
        exact hW _ (by omega)
  · intro e
    obtain ⟨w, D, a1, a2, a3⟩ := r4 e
    refine ⟨w, D, a1, a2, ?_⟩
    intro i hi
    obtain ⟨b1, b2, b3⟩ := a3 i hi
    refine ⟨b1, b2, ?_⟩
    intro j hj
    have hb := zp_mulb hi a2 hj
    rw [← b3 j hj]
    apply zp_db_congr
    exact hW _ (by omega)
  · intro e
    obtain ⟨w, D, a1, a2, a0, a3⟩ := r5 e
    refine ⟨w, D, a1, a2, a0, ?_⟩
    intro i hi
    obtain ⟨b1, b2, b3⟩ := a3 i hi
    refine ⟨b1, b2, ?_⟩
    intro j hj
    have hb := zp_mulb (show i < 16 by omega) a2 hj
    rw [← b3 j hj]
    apply zp_db_congr
    exact hW _ (by omega)
theorem zp_bk_p {fo fv wd ls mn lo hi tk : Int32} {W L : Nat → Int32} {at' : Nat} {p q : Nat → Int32} (h : zp_bk fo fv wd ls mn lo hi tk W L at' p)
    (e : ∀ i, i < 16 → p i = q i) : zp_bk fo fv wd ls mn lo hi tk W L at' q := by
  obtain ⟨h1, h2, h3, h4, r0, r1, r2, r3, r4, r5⟩ := h
  have eb : zp_bs p = zp_bs q := zp_bf_congr e 5
  have em : zp_mn p 15 = zp_mn q 15 := zp_mn_congr 15 (fun i hi => e i (by omega))
  have ex : zp_mx p 15 = zp_mx q 15 := zp_mx_congr 15 (fun i hi => e i (by omega))
  rw [eb] at h1 h2 r0 r1 r2 r3 r4 r5
  rw [zp_sz_congr e] at h2
  refine ⟨h1, h2, h3.trans em, h4.trans ex, ?_, ?_, ?_, ?_, ?_, ?_⟩
  · intro z i hi
    rw [← e i hi]; exact r0 z i hi
  · intro z i hi
    rw [← e i hi]; exact r1 z i hi
  · intro z
    obtain ⟨m, s, a1, a2, a3, a4, a5, a6⟩ := r2 z
    refine ⟨m, s, a1, a2, a3, a4, a5, fun k hk => ?_⟩
    obtain ⟨b1, b2, b3⟩ := a6 k hk
    have b5 := a5 (k + 1) hk
    exact ⟨b1, b2, fun i hi hi2 => by rw [← e i (by omega)]; exact b3 i hi hi2⟩
  · intro z
    obtain ⟨d, w, ee, a1, a2, a3, a4, a5, a6⟩ := r3 z
    refine ⟨d, w, ee, a1, a2, a3, a4, a5, fun i hi => ?_⟩
    rw [← e i hi]
    exact a6 i hi
  · intro z
    obtain ⟨w, D, a1, a2, a3⟩ := r4 z
    refine ⟨w, D, a1, a2, fun i hi => ?_⟩
    rw [← e i hi]
    exact a3 i hi
  · intro z
    obtain ⟨w, D, a1, a2, a0, a3⟩ := r5 z
    refine ⟨w, D, a1, a2, ?_, fun i hi => ?_⟩
    · rw [← e 0 (by omega)]; exact a0
    · rw [← e i (by omega), ← e (i + 1) (by omega)]
      exact a3 i hi
end
section
/-! the component: digits, widths, runs -/
theorem zx_d16 {n : Nat} (h : n < 2 ^ 31) : nI n / 16 = nI (n / 16) := pk_div (d := 16) h (by decide) (by decide)
theorem zx_m16 {n : Nat} (h : n < 2 ^ 31) : nI n - nI n / 16 * 16 = nI (n % 16) := pk_rem (d := 16) h (by decide) (by decide)
theorem zx_d3 {n : Nat} (h : n < 2 ^ 31) : nI n / 3 = nI (n / 3) := pk_div (d := 3) h (by decide) (by decide)
theorem zx_m3 {n : Nat} (h : n < 2 ^ 31) : nI n - nI n / 3 * 3 = nI (n % 3) := pk_rem (d := 3) h (by decide) (by decide)
theorem zx_n16 : ¬ (16 : Int32) = 0 := by decide
theorem zx_n3 : ¬ (3 : Int32) = 0 := by decide
theorem zx_3a (a b : Nat) : 3 * nI a + nI b = nI (3 * a + b) := by
  show nI 3 * nI a + nI b = _
  rw [pk_mul, nI_add]
theorem zx_24a (a b : Nat) : 24 * nI a + nI b = nI (24 * a + b) := by
  show nI 24 * nI a + nI b = _
  rw [pk_mul, nI_add]
theorem zx_16a (a b : Nat) : 16 * nI a + nI b = nI (16 * a + b) := by
  show nI 16 * nI a + nI b = _
  rw [pk_mul, nI_add]
theorem zx_24 (a : Nat) : 24 * nI a = nI (24 * a) := by
  show nI 24 * nI a = _
  rw [pk_mul]
theorem zx_16 (a : Nat) : 16 * nI a = nI (16 * a) := by
  show nI 16 * nI a = _
  rw [pk_mul]
theorem zx_3 (a : Nat) : 3 * nI a = nI (3 * a) := by
  show nI 3 * nI a = _
  rw [pk_mul]
theorem zx_q32 {pos i : Nat} (h : pos + i < 2 ^ 31) : (nI pos + nI i) >>> ((5 : Int32) &&& 31) = nI ((pos + i) / 32) := by
  rw [nI_add]
  exact pk_shrN h _ 5 (by decide)
theorem zx_r32 {pos i : Nat} (h : pos + i < 2 ^ 31) : (nI pos + nI i) &&& 31 = nI ((pos + i) % 32) := by
  rw [nI_add]
  exact pk_andN (by omega) 5 (by decide)
theorem zp_gd {x d : Int32} {i : Nat} (hi : i < 32) {b : Bool} (h : ∀ j, j < 32 → bt x j = (decide (j < i) && bt d j)) (hb : b = bt d i) :
    ∀ j, j < 32 → bt (x ||| ((if b = true then (1 : Int32) else 0) <<< (nI i &&& 31))) j = (decide (j < i + 1) && bt d j) := by
  intro j hj
  rw [b_or, h j hj, b_shl i hi _ hj]
  subst hb
  rcases Nat.lt_trichotomy j i with z | z | z
  · rw [decide_eq_true z, decide_eq_true (show j < i + 1 by omega), decide_eq_false (show ¬ i ≤ j by omega)]
    simp
  · subst z
    rw [decide_eq_false (show ¬ j < j by omega), decide_eq_true (show j < j + 1 by omega), decide_eq_true (Nat.le_refl j), Nat.sub_self]
    cases bt d j
    · rw [if_neg (by decide), b_0]; rfl
    · rw [if_pos rfl, zp_b1 0 (by decide)]; rfl
  · rw [decide_eq_false (show ¬ j < i by omega), decide_eq_false (show ¬ j < i + 1 by omega), decide_eq_true (show i ≤ j by omega)]
    cases bt d i
    · rw [if_neg (by decide), b_0]; rfl
    · rw [if_pos rfl, zp_b1 (j - i) (by omega), decide_eq_false (by omega)]; rfl
section
variable {f_rowCount f_patchCount f_distinct f_conditions f_gathered : Int32} {f_lowStep : Int64} {a_isDeleted a_formOf a_firstValue a_width a_leastStep a_many a_lowest a_highest a_taken a_words a_lengths a_loose a_patchPlace a_patchValue a_buffer a_sorted a_conditionColumn a_conditionLow a_conditionHigh a_chosenSet a_gatheredValue a_kept : Nat → Int32}
theorem zx_bad {post : Int32 → Prop} {c : Nat} (hc : c < 3) (h : post 0) : wpX_badColumn post (f_rowCount, f_patchCount, f_distinct, f_conditions, f_gathered, f_lowStep, a_isDeleted, a_formOf, a_firstValue, a_width, a_leastStep, a_many, a_lowest, a_highest, a_taken, a_words, a_lengths, a_loose, a_patchPlace, a_patchValue, a_buffer, a_sorted, a_conditionColumn, a_conditionLow, a_conditionHigh, a_chosenSet, a_gatheredValue, a_kept) (nI c) :=
  br_f (nI_pos (by omega)) (br_t (nI_lt (b := 3) hc (by decide)) h)
theorem zx_badL {post : Int32 → Prop} {c : Int32} (hc : c < 0) (h : post 1) : wpX_badColumn post (f_rowCount, f_patchCount, f_distinct, f_conditions, f_gathered, f_lowStep, a_isDeleted, a_formOf, a_firstValue, a_width, a_leastStep, a_many, a_lowest, a_highest, a_taken, a_words, a_lengths, a_loose, a_patchPlace, a_patchValue, a_buffer, a_sorted, a_conditionColumn, a_conditionLow, a_conditionHigh, a_chosenSet, a_gatheredValue, a_kept) c := br_t hc h
theorem zx_badH {post : Int32 → Prop} {c : Int32} (hc : nI 3 ≤ c) (h : post 1) : wpX_badColumn post (f_rowCount, f_patchCount, f_distinct, f_conditions, f_gathered, f_lowStep, a_isDeleted, a_formOf, a_firstValue, a_width, a_leastStep, a_many, a_lowest, a_highest, a_taken, a_words, a_lengths, a_loose, a_patchPlace, a_patchValue, a_buffer, a_sorted, a_conditionColumn, a_conditionLow, a_conditionHigh, a_chosenSet, a_gatheredValue, a_kept) c := by
  have h0 : ¬ c < 0 := by
    rw [Int32.lt_iff_toInt_lt]
    rw [Int32.le_iff_toInt_le, show (nI 3).toInt = 3 from by decide] at hc
    rw [show (0 : Int32).toInt = 0 from by decide]
    omega
  exact br_f h0 (br_f (Int32.not_lt.mpr hc) h)
theorem zx_bc {post : Int32 → Prop} {n : Nat} (hn : n < 2 ^ 31) (h : post (nI (n / 16))) : wpX_blockCount post (nI n, f_patchCount, f_distinct, f_conditions, f_gathered, f_lowStep, a_isDeleted, a_formOf, a_firstValue, a_width, a_leastStep, a_many, a_lowest, a_highest, a_taken, a_words, a_lengths, a_loose, a_patchPlace, a_patchValue, a_buffer, a_sorted, a_conditionColumn, a_conditionLow, a_conditionHigh, a_chosenSet, a_gatheredValue, a_kept) :=
  And.intro zx_n16 (by rw [zx_d16 hn]; exact h)
theorem zx_getD6 {post : Int32 → Prop} {fr pos w : Nat} {d : Int32} (hb : 32 * fr + pos + w ≤ 13824) (hw : w ≤ 31)
    (hd : ∀ j, j < w → zp_db a_words fr (pos + j) = bt d j) (hz : ∀ j, w ≤ j → bt d j = false) (hp : post d) :
    ∀ k i x, i + k = w → (∀ j, j < 32 → bt x j = (decide (j < i) && bt d j)) → (wX_getDigits_6 post (nI fr) (nI pos) (nI w) f_rowCount f_patchCount f_distinct f_conditions f_gathered f_lowStep a_isDeleted a_formOf a_firstValue a_width a_leastStep a_many a_lowest a_highest a_taken a_words a_lengths a_loose a_patchPlace a_patchValue a_buffer a_sorted a_conditionColumn a_conditionLow a_conditionHigh a_chosenSet a_gatheredValue a_kept (k + 1) x (nI i)) := by
  intro k
  induction k with
  | zero =>
    intro i x hi hx
    have e : x = d := b_ext (fun j hj => by
      rw [hx j hj]
      by_cases z : j < i
      · rw [decide_eq_true z]; rfl
      · rw [decide_eq_false z, hz j (by omega)]; rfl)
    rw [e]
    exact br_t (nI_le (by omega) (by omega)) hp
  | succ k ih =>
    intro i x hi hx
    refine br_f (nI_ge (by omega) (by omega)) (nm_r (e' := nI (fr + (pos + i) / 32)) (by rw [zx_q32 (by omega), nI_add]) ⟨vp_in_nI (by omega) (by omega), ?_⟩)
    refine nm_r (e' := x ||| ((if bt d i = true then (1 : Int32) else 0) <<< (nI i &&& 31))) ?_ (nm_r (nI_1 i) (ih (i + 1) _ (by omega) (zp_gd (by omega) hx rfl)))
    rw [nI_clamp (by omega), zx_r32 (by omega), zp_bit _ (Nat.mod_lt _ (by decide)), ← hd i (by omega)]
    rfl
theorem zx_getD {post : Int32 → Prop} {fr pos w : Nat} {d : Int32} (hb : 32 * fr + pos + w ≤ 13824) (hw : w ≤ 31)
    (hd : ∀ j, j < w → zp_db a_words fr (pos + j) = bt d j) (hz : ∀ j, w ≤ j → bt d j = false) (hp : post d) : wpX_getDigits post (f_rowCount, f_patchCount, f_distinct, f_conditions, f_gathered, f_lowStep, a_isDeleted, a_formOf, a_firstValue, a_width, a_leastStep, a_many, a_lowest, a_highest, a_taken, a_words, a_lengths, a_loose, a_patchPlace, a_patchValue, a_buffer, a_sorted, a_conditionColumn, a_conditionLow, a_conditionHigh, a_chosenSet, a_gatheredValue, a_kept) (nI fr) (nI pos) (nI w) :=
  Exists.intro (w + 1) (zx_getD6 hb hw hd hz hp w 0 0 (by omega) (fun j hj => by rw [b_0]; rfl))
theorem zx_putD3 {post : SX → Prop} {fr pos w L : Nat} {x : Int32} (hb : pos + w ≤ 32 * L) (hL : fr + L ≤ 432) (hw : w ≤ 31)
    (hp : ∀ W, (∀ k, k < fr ∨ fr + L ≤ k → W k = a_words k) → (∀ q, zp_db W fr q = if pos ≤ q ∧ q < pos + w then bt x (q - pos) else zp_db a_words fr q) → post (f_rowCount, f_patchCount, f_distinct, f_conditions, f_gathered, f_lowStep, a_isDeleted, a_formOf, a_firstValue, a_width, a_leastStep, a_many, a_lowest, a_highest, a_taken, W, a_lengths, a_loose, a_patchPlace, a_patchValue, a_buffer, a_sorted, a_conditionColumn, a_conditionLow, a_conditionHigh, a_chosenSet, a_gatheredValue, a_kept)) :
    ∀ k i W, i + k = w → (∀ k, k < fr ∨ fr + L ≤ k → W k = a_words k) → (∀ q, zp_db W fr q = if pos ≤ q ∧ q < pos + i then bt x (q - pos) else zp_db a_words fr q) →
      (wX_putDigits_3 post (nI fr) (nI pos) (nI w) x f_rowCount f_patchCount f_distinct f_conditions f_gathered f_lowStep (k + 1) (nI i) a_isDeleted a_formOf a_firstValue a_width a_leastStep a_many a_lowest a_highest a_taken W a_lengths a_loose a_patchPlace a_patchValue a_buffer a_sorted a_conditionColumn a_conditionLow a_conditionHigh a_chosenSet a_gatheredValue a_kept) := by
  intro k
  induction k with
  | zero =>
    intro i W hi h1 h2
    have e : i = w := by omega
    subst e
    exact br_t (nI_le (by omega) (by omega)) (hp W h1 h2)
  | succ k ih =>
    intro i W hi h1 h2
    have hin : vp_in (nI (fr + (pos + i) / 32)) 432 := vp_in_nI (by omega) (by omega)
    have hc : (nI (fr + (pos + i) / 32)).toNatClampNeg = fr + (pos + i) / 32 := nI_clamp (by omega)
    refine br_f (nI_ge (by omega) (by omega)) (nm_r (e' := nI (fr + (pos + i) / 32)) (by rw [zx_q32 (by omega), nI_add]) ?_)
    refine nm_r (e' := (1 : Int32) <<< (nI ((pos + i) % 32) &&& 31)) (by rw [zx_r32 (by omega)]) ?_
    have key : ∀ (v : Bool) (y : Int32), v = bt x i → (∀ j, j < 32 → bt y j = if j = (pos + i) % 32 then v else bt (W (fr + (pos + i) / 32)) j) →
        (wX_putDigits_3 post (nI fr) (nI pos) (nI w) x f_rowCount f_patchCount f_distinct f_conditions f_gathered f_lowStep (k + 1) (nI (i + 1)) a_isDeleted a_formOf a_firstValue a_width a_leastStep a_many a_lowest a_highest a_taken (upd W (fr + (pos + i) / 32) y) a_lengths a_loose a_patchPlace a_patchValue a_buffer a_sorted a_conditionColumn a_conditionLow a_conditionHigh a_chosenSet a_gatheredValue a_kept) := by
      intro v y hv hy
      refine ih (i + 1) _ (by omega) ?_ ?_
      · intro t ht
        rw [pk_un (by omega)]
        exact h1 t ht
      · intro q
        rw [zp_db_set W fr (pos + i) v y hy q, h2 q]
        by_cases z : q = pos + i
        · rw [if_pos z, if_pos (by omega), hv, z, Nat.add_sub_cancel_left]
        · rw [if_neg z]
          by_cases z2 : pos ≤ q ∧ q < pos + i
          · rw [if_pos z2, if_pos (by omega)]
          · rw [if_neg z2, if_neg (by omega)]
    refine br_c (fun hc1 => ⟨hin, hin, nm_r (by rw [hc]) (nm_r (nI_1 i) (key true _ ?_ ?_))⟩) (fun hc1 => ⟨hin, hin, nm_r (by rw [hc]) (nm_r (nI_1 i) (key false _ ?_ ?_))⟩)
    · exact ((zp_bit1 x (by omega)).mp hc1).symm
    · exact zp_set1 _ (Nat.mod_lt _ (by decide))
    · cases e : bt x i
      · rfl
      · exact absurd ((zp_bit1 x (by omega)).mpr e) hc1
    · exact zp_set0 _ (Nat.mod_lt _ (by decide))
theorem zx_putD {post : SX → Prop} {fr pos w L : Nat} {x : Int32} (hb : pos + w ≤ 32 * L) (hL : fr + L ≤ 432) (hw : w ≤ 31)
    (hp : ∀ W, (∀ k, k < fr ∨ fr + L ≤ k → W k = a_words k) → (∀ q, zp_db W fr q = if pos ≤ q ∧ q < pos + w then bt x (q - pos) else zp_db a_words fr q) → post (f_rowCount, f_patchCount, f_distinct, f_conditions, f_gathered, f_lowStep, a_isDeleted, a_formOf, a_firstValue, a_width, a_leastStep, a_many, a_lowest, a_highest, a_taken, W, a_lengths, a_loose, a_patchPlace, a_patchValue, a_buffer, a_sorted, a_conditionColumn, a_conditionLow, a_conditionHigh, a_chosenSet, a_gatheredValue, a_kept)) :
    wpX_putDigits post (f_rowCount, f_patchCount, f_distinct, f_conditions, f_gathered, f_lowStep, a_isDeleted, a_formOf, a_firstValue, a_width, a_leastStep, a_many, a_lowest, a_highest, a_taken, a_words, a_lengths, a_loose, a_patchPlace, a_patchValue, a_buffer, a_sorted, a_conditionColumn, a_conditionLow, a_conditionHigh, a_chosenSet, a_gatheredValue, a_kept) (nI fr) (nI pos) (nI w) x :=
  Exists.intro (w + 1) (zx_putD3 hb hL hw hp w 0 a_words (by omega) (fun _ _ => rfl) (fun q => by rw [if_neg (by omega)]))
theorem zp_shr0 {X i : Nat} (hX : X < 2 ^ 62) (hi : i < 64) : lN X >>> ((nI i).toInt64 &&& 63) = 0 ↔ zp_wd X ≤ i := by
  have e : lN X >>> ((nI i).toInt64 &&& 63) = lN (X / 2 ^ i) := pf_shr (by rw [wb_c i hi, wb_tb, wb_sm i hi, BitVec.toNat_ofNat, Nat.mod_eq_of_lt (by omega)]) hX
  have hd : X / 2 ^ i ≤ X := Nat.div_le_self _ _
  rw [e, zp_wd_le]
  show lN (X / 2 ^ i) = lN 0 ↔ _
  rw [pk_lEQ (by omega) (by omega)]
  exact Nat.div_eq_zero_iff_lt (Nat.two_pow_pos i)
theorem zx_wd5 {post : Int32 → Prop} {X : Nat} (hX : X < 2 ^ 40) (hp : post (nI (zp_wd X))) :
    ∀ k i, i + k = 40 → i ≤ zp_wd X → (wX_widthOf_5 post (lN X) f_rowCount f_patchCount f_distinct f_conditions f_gathered f_lowStep a_isDeleted a_formOf a_firstValue a_width a_leastStep a_many a_lowest a_highest a_taken a_words a_lengths a_loose a_patchPlace a_patchValue a_buffer a_sorted a_conditionColumn a_conditionLow a_conditionHigh a_chosenSet a_gatheredValue a_kept (k + 1) (nI i) (nI i)) := by
  intro k
  have hw : zp_wd X ≤ 40 := zp_wd_le.mpr hX
  induction k with
  | zero =>
    intro i hi h
    have e : zp_wd X = i := by omega
    rw [← e]
    exact br_t (nI_le (a := 40) (by omega) (by omega)) hp
  | succ k ih =>
    intro i hi h
    refine br_f (nI_ge (b := 40) (by omega) (by omega)) (br_c (fun hz => ?_) (fun hz => ?_))
    · have e : zp_wd X = i := by
        have := (zp_shr0 (by omega) (by omega)).mp hz
        omega
      rw [← e]
      exact hp
    · have e : ¬ zp_wd X ≤ i := fun q => hz ((zp_shr0 (by omega) (by omega)).mpr q)
      exact nm_r (nI_1 i) (nm_r (nI_1 i) (ih (i + 1) (by omega) (by omega)))
theorem zx_wd {post : Int32 → Prop} {x : Int64} {X : Nat} (hx : x = lN X) (hX : X < 2 ^ 40) (hp : post (nI (zp_wd X))) : wpX_widthOf post (f_rowCount, f_patchCount, f_distinct, f_conditions, f_gathered, f_lowStep, a_isDeleted, a_formOf, a_firstValue, a_width, a_leastStep, a_many, a_lowest, a_highest, a_taken, a_words, a_lengths, a_loose, a_patchPlace, a_patchValue, a_buffer, a_sorted, a_conditionColumn, a_conditionLow, a_conditionHigh, a_chosenSet, a_gatheredValue, a_kept) x := by
  subst hx
  exact Exists.intro 41 (zx_wd5 hX hp 40 0 (by omega) (by omega))
theorem zx_rc4 {post : Int32 → Prop} (hp : post (nI (zp_ct (zp_rn a_buffer) 16))) :
    ∀ k i, i + k = 16 → 1 ≤ i → (wX_runCount_4 post f_rowCount f_patchCount f_distinct f_conditions f_gathered f_lowStep a_isDeleted a_formOf a_firstValue a_width a_leastStep a_many a_lowest a_highest a_taken a_words a_lengths a_loose a_patchPlace a_patchValue a_buffer a_sorted a_conditionColumn a_conditionLow a_conditionHigh a_chosenSet a_gatheredValue a_kept (k + 1) (nI (zp_ct (zp_rn a_buffer) i)) (nI i)) := by
  intro k
  induction k with
  | zero =>
    intro i hi h
    have e : i = 16 := by omega
    subst e
    exact br_t (nI_le (a := 16) (by omega) (by omega)) hp
  | succ k ih =>
    intro i hi h
    have ep : nI i - 1 = nI (i - 1) := pk_sub (b := 1) h
    refine br_f (nI_ge (b := 16) (by omega) (by omega)) ⟨vp_in_nI (by omega) (by omega), ?_⟩
    rw [ep, nI_clamp (by omega), nI_clamp (by omega)]
    refine ⟨vp_in_nI (by omega) (by omega), br_c (fun hz => nm_r (nI_1 i) ?_) (fun hz => nm_r (nI_1 _) (nm_r (nI_1 i) ?_))⟩
    · have e := ih (i + 1) (by omega) (by omega)
      rw [zp_ct_f (f := zp_rn a_buffer) (m := i) (decide_eq_false (by rintro (z | z); omega; exact z hz))] at e
      exact e
    · have e := ih (i + 1) (by omega) (by omega)
      rw [zp_ct_t (f := zp_rn a_buffer) (m := i) (decide_eq_true (Or.inr hz))] at e
      exact e
theorem zx_rc {post : Int32 → Prop} (hp : post (nI (zp_ct (zp_rn a_buffer) 16))) : wpX_runCount post (f_rowCount, f_patchCount, f_distinct, f_conditions, f_gathered, f_lowStep, a_isDeleted, a_formOf, a_firstValue, a_width, a_leastStep, a_many, a_lowest, a_highest, a_taken, a_words, a_lengths, a_loose, a_patchPlace, a_patchValue, a_buffer, a_sorted, a_conditionColumn, a_conditionLow, a_conditionHigh, a_chosenSet, a_gatheredValue, a_kept) :=
  Exists.intro 16 (zx_rc4 hp 15 1 (by omega) (by omega))
end
end
section
/-! the different values in order, and the sizes -/
def zp_fd (S : Nat → Int32) (d : Nat) (p : Nat → Int32) (i : Nat) : Prop :=
  (∀ a b, a < b → b < d → S a < S b) ∧ (∀ k, k < d → ∃ j, j < i ∧ p j = S k) ∧ (∀ j, j < i → ∃ k, k < d ∧ S k = p j) ∧ d = zp_dc p i
theorem zp_fd_0 (S p : Nat → Int32) : zp_fd S 0 p 0 := ⟨fun _ _ _ h => absurd h (by omega), fun _ h => absurd h (by omega), fun _ h => absurd h (by omega), rfl⟩
theorem zp_fd_le {S p : Nat → Int32} {d i : Nat} (h : zp_fd S d p i) : d ≤ i := by
  rw [h.2.2.2]
  exact zp_ct_le _ _
theorem zp_fd_old {S p : Nat → Int32} {d i k : Nat} (h : zp_fd S d p i) (hk : k < d) (e : S k = p i) : zp_fd S d p (i + 1) := by
  obtain ⟨h1, h2, h3, h4⟩ := h
  refine ⟨h1, ?_, ?_, ?_⟩
  · intro a ha
    obtain ⟨j, hj, ej⟩ := h2 a ha
    exact ⟨j, by omega, ej⟩
  · intro j hj
    rcases Nat.lt_or_ge j i with z | z
    · exact h3 j z
    · have : j = i := by omega
      rw [this]
      exact ⟨k, hk, e⟩
  · rw [h4]
    obtain ⟨j, hj, ej⟩ := h2 k hk
    exact (zp_ct_f (f := zp_nw p) (m := i) (decide_eq_false (fun z => z j hj (ej.trans e)))).symm
theorem zp_fd_new {S S' p : Nat → Int32} {d i k : Nat} (h : zp_fd S d p i) (hk : k ≤ d) (lo : ∀ a, a < k → S a < p i) (hi : k < d → p i < S k)
    (e : ∀ a, S' a = if a < k then S a else if a = k then p i else if a ≤ d then S (a - 1) else S a) : zp_fd S' (d + 1) p (i + 1) := by
  obtain ⟨h1, h2, h3, h4⟩ := h
  have hi2 : ∀ a, k ≤ a → a < d → p i < S a := by
    intro a ha hd
    rcases Nat.eq_or_lt_of_le ha with z | z
    · rw [← z]; exact hi (by omega)
    · have := h1 k a z hd
      have := hi (by omega)
      rw [Int32.lt_iff_toInt_lt] at *
      omega
  refine ⟨?_, ?_, ?_, ?_⟩
  · intro a b hab hb
    rw [e a, e b]
    by_cases a1 : a < k
    · rw [if_pos a1]
      by_cases b1 : b < k
      · rw [if_pos b1]; exact h1 a b hab (by omega)
      · rw [if_neg b1]
        by_cases b2 : b = k
        · rw [if_pos b2]; exact lo a a1
        · rw [if_neg b2, if_pos (by omega)]; exact h1 a (b - 1) (by omega) (by omega)
    · rw [if_neg a1, if_neg (show ¬ b < k by omega), if_neg (show ¬ b = k by omega), if_pos (show b ≤ d by omega)]
      by_cases a2 : a = k
      · rw [if_pos a2]; exact hi2 (b - 1) (by omega) (by omega)
      · rw [if_neg a2, if_pos (by omega)]; exact h1 (a - 1) (b - 1) (by omega) (by omega)
  · intro a ha
    rw [e a]
    by_cases a1 : a < k
    · rw [if_pos a1]
      obtain ⟨j, hj, ej⟩ := h2 a (by omega)
      exact ⟨j, by omega, ej⟩
    · rw [if_neg a1]
      by_cases a2 : a = k
      · rw [if_pos a2]; exact ⟨i, by omega, rfl⟩
      · rw [if_neg a2, if_pos (by omega)]
        obtain ⟨j, hj, ej⟩ := h2 (a - 1) (by omega)
        exact ⟨j, by omega, ej⟩
  · intro j hj
    rcases Nat.lt_or_ge j i with z | z
    · obtain ⟨a, ha, ea⟩ := h3 j z
      by_cases a1 : a < k
      · exact ⟨a, by omega, by rw [e a, if_pos a1]; exact ea⟩
      · exact ⟨a + 1, by omega, by rw [e (a + 1), if_neg (by omega), if_neg (by omega), if_pos (by omega), Nat.add_sub_cancel]; exact ea⟩
    · have : j = i := by omega
      rw [this]
      exact ⟨k, by omega, by rw [e k, if_neg (by omega), if_pos rfl]⟩
  · rw [h4]
    refine (zp_ct_t (f := zp_nw p) (m := i) (decide_eq_true ?_)).symm
    intro j hj ej
    obtain ⟨a, ha, ea⟩ := h3 j hj
    rw [ej] at ea
    by_cases a1 : a < k
    · have := lo a a1
      rw [ea] at this
      exact Int32.lt_irrefl this
    · have := hi2 a (by omega) ha
      rw [ea] at this
      exact Int32.lt_irrefl this
theorem zp_fd_le2 {S p : Nat → Int32} {d i : Nat} (h : zp_fd S d p i) {a b : Nat} (hab : a ≤ b) (hb : b < d) : (S a).toInt ≤ (S b).toInt := by
  rcases Nat.eq_or_lt_of_le hab with z | z
  · rw [z]; exact Int.le_refl _
  · have := h.1 a b z hb
    rw [Int32.lt_iff_toInt_lt] at this
    omega
theorem zp_fd_mm {S p : Nat → Int32} {d : Nat} (h : zp_fd S d p 16) : 0 < d ∧ d ≤ 16 ∧ S 0 = zp_mn p 15 ∧ S (d - 1) = zp_mx p 15 := by
  have hle := zp_fd_le h
  obtain ⟨k0, hk0, _⟩ := h.2.2.1 0 (by omega)
  refine ⟨by omega, hle, ?_, ?_⟩
  · obtain ⟨i, hi, ei⟩ := zp_mn_mem p 15
    obtain ⟨k, hk, ek⟩ := h.2.2.1 i (by omega)
    obtain ⟨j, hj, ej⟩ := h.2.1 0 (by omega)
    have a := zp_fd_le2 h (Nat.zero_le k) hk
    have b := zp_mn_le p 15 j (by omega)
    rw [Int32.le_iff_toInt_le, ej] at b
    apply Int32.toInt_inj.mp
    rw [ek, ← ei] at a
    omega
  · obtain ⟨i, hi, ei⟩ := zp_mx_mem p 15
    obtain ⟨k, hk, ek⟩ := h.2.2.1 i (by omega)
    obtain ⟨j, hj, ej⟩ := h.2.1 (d - 1) (by omega)
    have a := zp_fd_le2 h (show k ≤ d - 1 by omega) (by omega)
    have b := zp_mx_ge p 15 j (by omega)
    rw [Int32.le_iff_toInt_le, ej] at b
    apply Int32.toInt_inj.mp
    rw [ek, ← ei] at a
    omega
section
variable {f_rowCount f_patchCount f_distinct f_conditions f_gathered : Int32} {f_lowStep : Int64} {a_isDeleted a_formOf a_firstValue a_width a_leastStep a_many a_lowest a_highest a_taken a_words a_lengths a_loose a_patchPlace a_patchValue a_buffer a_sorted a_conditionColumn a_conditionLow a_conditionHigh a_chosenSet a_gatheredValue a_kept : Nat → Int32}
theorem zx_fd77 {post : SX → Prop} {J7 : Int32 → Int32 → (Nat → Int32) → (Nat → Int32) → (Nat → Int32) → (Nat → Int32) → (Nat → Int32) → (Nat → Int32) → (Nat → Int32) → (Nat → Int32) → (Nat → Int32) → (Nat → Int32) → (Nat → Int32) → (Nat → Int32) → (Nat → Int32) → (Nat → Int32) → (Nat → Int32) → (Nat → Int32) → (Nat → Int32) → (Nat → Int32) → (Nat → Int32) → (Nat → Int32) → (Nat → Int32) → (Nat → Int32) → Prop}
    {i k d : Nat} (hi : i < 16) (hk : k ≤ d) (hd : d < 16)
    (hJ : ∀ S, (∀ a, S a = if a < k then a_sorted a else if a = k then a_buffer i else if a ≤ d then a_sorted (a - 1) else a_sorted a) → J7 (nI (i + 1)) (nI (d + 1)) a_isDeleted a_formOf a_firstValue a_width a_leastStep a_many a_lowest a_highest a_taken a_words a_lengths a_loose a_patchPlace a_patchValue a_buffer S a_conditionColumn a_conditionLow a_conditionHigh a_chosenSet a_gatheredValue a_kept) :
    ∀ e j S, j = k + e → j ≤ d → (∀ a, S a = if j < a ∧ a ≤ d then a_sorted (a - 1) else a_sorted a) → (wX_findDistinct_77 post J7 (nI i) (nI k) f_rowCount f_patchCount (nI d) f_conditions f_gathered f_lowStep (e + 1) (nI j) a_isDeleted a_formOf a_firstValue a_width a_leastStep a_many a_lowest a_highest a_taken a_words a_lengths a_loose a_patchPlace a_patchValue a_buffer S a_conditionColumn a_conditionLow a_conditionHigh a_chosenSet a_gatheredValue a_kept) := by
  intro e
  induction e with
  | zero =>
    intro j S hj hjd hS
    refine br_t (nI_le (by omega) (by omega)) ⟨vp_in_nI (by omega) (by omega), vp_in_nI (by omega) (by omega), nm_r (e' := upd S k (a_buffer i)) (by rw [nI_clamp (by omega), nI_clamp (by omega)]) (nm_r (nI_1 d) (nm_r (nI_1 i) (hJ _ ?_)))⟩
    intro a
    by_cases z : a = k
    · rw [z, pk_us, if_neg (by omega), if_pos rfl]
    · rw [pk_un z, hS a]
      by_cases z2 : a < k
      · rw [if_neg (by omega), if_pos z2]
      · rw [if_neg z2, if_neg z]
        by_cases z3 : a ≤ d
        · rw [if_pos (by omega), if_pos z3]
        · rw [if_neg (by omega), if_neg z3]
  | succ e ih =>
    intro j S hj hjd hS
    have ep : nI j - 1 = nI (j - 1) := pk_sub (b := 1) (by omega)
    have em : nI j + (-1) = nI (j - 1) := by
      obtain ⟨t, rfl⟩ : ∃ t, j = t + 1 := ⟨j - 1, by omega⟩
      exact pk_m1 t
    refine br_f (nI_ge (by omega) (by omega)) ?_
    rw [ep]
    refine ⟨vp_in_nI (by omega) (by omega), vp_in_nI (by omega) (by omega), nm_r (e' := upd S j (S (j - 1))) (by rw [nI_clamp (by omega), nI_clamp (by omega)]) (nm_r em (ih (j - 1) _ (by omega) (by omega) ?_))⟩
    intro a
    by_cases z : a = j
    · rw [z, pk_us, hS (j - 1), if_neg (by omega), if_pos (by omega)]
    · rw [pk_un z, hS a]
      by_cases z2 : j < a ∧ a ≤ d
      · rw [if_pos z2, if_pos (by omega)]
      · rw [if_neg z2, if_neg (by omega)]
theorem zx_fd49 {post : SX → Prop} {J7 : Int32 → Int32 → (Nat → Int32) → (Nat → Int32) → (Nat → Int32) → (Nat → Int32) → (Nat → Int32) → (Nat → Int32) → (Nat → Int32) → (Nat → Int32) → (Nat → Int32) → (Nat → Int32) → (Nat → Int32) → (Nat → Int32) → (Nat → Int32) → (Nat → Int32) → (Nat → Int32) → (Nat → Int32) → (Nat → Int32) → (Nat → Int32) → (Nat → Int32) → (Nat → Int32) → (Nat → Int32) → (Nat → Int32) → Prop}
    {i k d : Nat} (hi : i < 16) (hk : k ≤ d) (h : zp_fd a_sorted d a_buffer i) (lo : ∀ a, a < k → a_sorted a < a_buffer i) (up : k < d → a_buffer i ≤ a_sorted k)
    (hJ : ∀ S d', zp_fd S d' a_buffer (i + 1) → J7 (nI (i + 1)) (nI d') a_isDeleted a_formOf a_firstValue a_width a_leastStep a_many a_lowest a_highest a_taken a_words a_lengths a_loose a_patchPlace a_patchValue a_buffer S a_conditionColumn a_conditionLow a_conditionHigh a_chosenSet a_gatheredValue a_kept) : (wX_findDistinct_49 post J7 (nI i) (nI k) f_rowCount f_patchCount (nI d) f_conditions f_gathered f_lowStep a_isDeleted a_formOf a_firstValue a_width a_leastStep a_many a_lowest a_highest a_taken a_words a_lengths a_loose a_patchPlace a_patchValue a_buffer a_sorted a_conditionColumn a_conditionLow a_conditionHigh a_chosenSet a_gatheredValue a_kept) := by
  have hd := zp_fd_le h
  have ins : (k < d → a_buffer i < a_sorted k) → ∃ n77, (wX_findDistinct_77 post J7 (nI i) (nI k) f_rowCount f_patchCount (nI d) f_conditions f_gathered f_lowStep n77 (nI d) a_isDeleted a_formOf a_firstValue a_width a_leastStep a_many a_lowest a_highest a_taken a_words a_lengths a_loose a_patchPlace a_patchValue a_buffer a_sorted a_conditionColumn a_conditionLow a_conditionHigh a_chosenSet a_gatheredValue a_kept) := fun hlt =>
    ⟨d - k + 1, zx_fd77 hi hk (by omega) (fun S hS => hJ S (d + 1) (zp_fd_new h hk lo hlt hS)) (d - k) d a_sorted (by omega) (Nat.le_refl _) (fun a => by rw [if_neg (by omega)])⟩
  refine pk_eq k d (fun z => ins (fun z2 => absurd z2 (by omega))) (fun z => ⟨vp_in_nI (by omega) (by omega), vp_in_nI (by omega) (by omega), ?_⟩) rfl rfl (by omega) (by omega)
  rw [nI_clamp (by omega), nI_clamp (by omega)]
  refine br_c (fun e => nm_r (nI_1 i) (hJ _ d (zp_fd_old h (by omega) e))) (fun e => ins (fun z2 => ?_))
  exact Int32.lt_of_le_of_ne (up z2) (fun q => e q.symm)
theorem zx_fd17 {post : SX → Prop} {J7 : Int32 → Int32 → (Nat → Int32) → (Nat → Int32) → (Nat → Int32) → (Nat → Int32) → (Nat → Int32) → (Nat → Int32) → (Nat → Int32) → (Nat → Int32) → (Nat → Int32) → (Nat → Int32) → (Nat → Int32) → (Nat → Int32) → (Nat → Int32) → (Nat → Int32) → (Nat → Int32) → (Nat → Int32) → (Nat → Int32) → (Nat → Int32) → (Nat → Int32) → (Nat → Int32) → (Nat → Int32) → (Nat → Int32) → Prop}
    {i d : Nat} (hi : i < 16) (h : zp_fd a_sorted d a_buffer i)
    (hJ : ∀ S d', zp_fd S d' a_buffer (i + 1) → J7 (nI (i + 1)) (nI d') a_isDeleted a_formOf a_firstValue a_width a_leastStep a_many a_lowest a_highest a_taken a_words a_lengths a_loose a_patchPlace a_patchValue a_buffer S a_conditionColumn a_conditionLow a_conditionHigh a_chosenSet a_gatheredValue a_kept) :
    ∀ e k, k + e = d → (∀ a, a < k → a_sorted a < a_buffer i) → (wX_findDistinct_17 post J7 (nI i) f_rowCount f_patchCount (nI d) f_conditions f_gathered f_lowStep a_isDeleted a_formOf a_firstValue a_width a_leastStep a_many a_lowest a_highest a_taken a_words a_lengths a_loose a_patchPlace a_patchValue a_buffer a_sorted a_conditionColumn a_conditionLow a_conditionHigh a_chosenSet a_gatheredValue a_kept (e + 1) (nI k) (nI k)) := by
  intro e
  have hd := zp_fd_le h
  induction e with
  | zero =>
    intro k hk lo
    exact br_t (nI_le (by omega) (by omega)) (zx_fd49 hi (by omega) h lo (fun z => absurd z (by omega)) hJ)
  | succ e ih =>
    intro k hk lo
    refine br_f (nI_ge (by omega) (by omega)) ⟨vp_in_nI (by omega) (by omega), vp_in_nI (by omega) (by omega), ?_⟩
    rw [nI_clamp (by omega), nI_clamp (by omega)]
    refine br_c (fun z => zx_fd49 hi (by omega) h lo (fun _ => z) hJ) (fun z => nm_r (nI_1 k) (nm_r (nI_1 k) (ih (k + 1) (by omega) ?_)))
    intro a ha
    rcases Nat.lt_or_ge a k with q | q
    · exact lo a q
    · have : a = k := by omega
      rw [this]
      exact Int32.not_le.mp z
theorem zx_fd7 {post : SX → Prop} (hp : ∀ S d, zp_fd S d a_buffer 16 → post (f_rowCount, f_patchCount, nI d, f_conditions, f_gathered, f_lowStep, a_isDeleted, a_formOf, a_firstValue, a_width, a_leastStep, a_many, a_lowest, a_highest, a_taken, a_words, a_lengths, a_loose, a_patchPlace, a_patchValue, a_buffer, S, a_conditionColumn, a_conditionLow, a_conditionHigh, a_chosenSet, a_gatheredValue, a_kept)) :
    ∀ e i d S, i + e = 16 → zp_fd S d a_buffer i → (wX_findDistinct_7 post f_rowCount f_patchCount f_conditions f_gathered f_lowStep (e + 1) (nI i) (nI d) a_isDeleted a_formOf a_firstValue a_width a_leastStep a_many a_lowest a_highest a_taken a_words a_lengths a_loose a_patchPlace a_patchValue a_buffer S a_conditionColumn a_conditionLow a_conditionHigh a_chosenSet a_gatheredValue a_kept) := by
  intro e
  induction e with
  | zero =>
    intro i d S hi h
    have e : i = 16 := by omega
    subst e
    exact br_t (nI_le (a := 16) (by omega) (by omega)) (hp S d h)
  | succ e ih =>
    intro i d S hi h
    exact br_f (nI_ge (b := 16) (by omega) (by omega)) ⟨d + 1, zx_fd17 (by omega) h (fun S' d' h' => ih (i + 1) d' S' (by omega) h') d 0 (by omega) (fun a ha => absurd ha (by omega))⟩
theorem zx_fd {post : SX → Prop} (hp : ∀ S d, zp_fd S d a_buffer 16 → post (f_rowCount, f_patchCount, nI d, f_conditions, f_gathered, f_lowStep, a_isDeleted, a_formOf, a_firstValue, a_width, a_leastStep, a_many, a_lowest, a_highest, a_taken, a_words, a_lengths, a_loose, a_patchPlace, a_patchValue, a_buffer, S, a_conditionColumn, a_conditionLow, a_conditionHigh, a_chosenSet, a_gatheredValue, a_kept)) : wpX_findDistinct post (f_rowCount, f_patchCount, f_distinct, f_conditions, f_gathered, f_lowStep, a_isDeleted, a_formOf, a_firstValue, a_width, a_leastStep, a_many, a_lowest, a_highest, a_taken, a_words, a_lengths, a_loose, a_patchPlace, a_patchValue, a_buffer, a_sorted, a_conditionColumn, a_conditionLow, a_conditionHigh, a_chosenSet, a_gatheredValue, a_kept) :=
  Exists.intro 17 (zx_fd7 hp 16 0 0 a_sorted (by omega) (zp_fd_0 _ _))
theorem zx_fw {post : Int32 → Prop} {d : Nat} (h : zp_fd a_sorted d a_buffer 16) (hp : post (nI (zp_wd (zp_fx a_buffer)))) : wpX_frameWidth post (f_rowCount, f_patchCount, nI d, f_conditions, f_gathered, f_lowStep, a_isDeleted, a_formOf, a_firstValue, a_width, a_leastStep, a_many, a_lowest, a_highest, a_taken, a_words, a_lengths, a_loose, a_patchPlace, a_patchValue, a_buffer, a_sorted, a_conditionColumn, a_conditionLow, a_conditionHigh, a_chosenSet, a_gatheredValue, a_kept) := by
  obtain ⟨h0, h1, h2, h3⟩ := zp_fd_mm h
  have ep : nI d - 1 = nI (d - 1) := pk_sub (b := 1) (by omega)
  have e := zp_fx_eq a_buffer
  unfold wpX_frameWidth
  dsimp only
  rw [ep, nI_clamp (by omega), h2, h3]
  exact ⟨vp_in_nI (by omega) (by omega), zx_wd e.1 (by omega) hp⟩
theorem zx_sa {post : Int64 → Prop} {i : Nat} (hi : i < 15) (hp : post (zp_st a_buffer i)) : wpX_stepAt post (f_rowCount, f_patchCount, f_distinct, f_conditions, f_gathered, f_lowStep, a_isDeleted, a_formOf, a_firstValue, a_width, a_leastStep, a_many, a_lowest, a_highest, a_taken, a_words, a_lengths, a_loose, a_patchPlace, a_patchValue, a_buffer, a_sorted, a_conditionColumn, a_conditionLow, a_conditionHigh, a_chosenSet, a_gatheredValue, a_kept) (nI i) := by
  unfold wpX_stepAt
  dsimp only
  rw [nI_1, nI_clamp (by omega), nI_clamp (by omega)]
  exact ⟨vp_in_nI (by omega) (by omega), vp_in_nI (by omega) (by omega), hp⟩
theorem zx_sw95 {post : Int32 → SX → Prop} (z0 : Int32) (hz : zp_ok a_buffer = true → z0 = 1) (hz2 : z0 = 1 → -2147483648 ≤ (zp_sl a_buffer 14).toInt ∧ (zp_sh a_buffer 14).toInt ≤ 2147483647) (h01 : z0 = 0 ∨ z0 = 1)
    (h1 : zp_ok a_buffer = true → post (nI (zp_wd (zp_sx a_buffer))) (f_rowCount, f_patchCount, f_distinct, f_conditions, f_gathered, zp_sl a_buffer 14, a_isDeleted, a_formOf, a_firstValue, a_width, a_leastStep, a_many, a_lowest, a_highest, a_taken, a_words, a_lengths, a_loose, a_patchPlace, a_patchValue, a_buffer, a_sorted, a_conditionColumn, a_conditionLow, a_conditionHigh, a_chosenSet, a_gatheredValue, a_kept))
    (h2 : ¬ zp_ok a_buffer = true → post 10000 (f_rowCount, f_patchCount, f_distinct, f_conditions, f_gathered, zp_sl a_buffer 14, a_isDeleted, a_formOf, a_firstValue, a_width, a_leastStep, a_many, a_lowest, a_highest, a_taken, a_words, a_lengths, a_loose, a_patchPlace, a_patchValue, a_buffer, a_sorted, a_conditionColumn, a_conditionLow, a_conditionHigh, a_chosenSet, a_gatheredValue, a_kept)) : (wX_stepWidth_95 post (zp_sh a_buffer 14) z0 f_rowCount f_patchCount f_distinct f_conditions f_gathered (zp_sl a_buffer 14) a_isDeleted a_formOf a_firstValue a_width a_leastStep a_many a_lowest a_highest a_taken a_words a_lengths a_loose a_patchPlace a_patchValue a_buffer a_sorted a_conditionColumn a_conditionLow a_conditionHigh a_chosenSet a_gatheredValue a_kept) := by
  have e := zp_sx_eq a_buffer
  have w : zp_wd (zp_sx a_buffer) ≤ 34 := zp_wd_le.mpr e.2
  refine zx_wd e.1 (by omega) (br_c (fun z => h2 (fun q => ?_)) (fun z => ?_))
  · rw [hz q] at z
    exact absurd z (by decide)
  · have z1 : z0 = 1 := h01.resolve_left z
    have zz := hz2 z1
    have k : zp_ok a_buffer = true ↔ zp_wd (zp_sx a_buffer) ≤ 31 := by
      constructor
      · intro q
        exact (of_decide_eq_true q).2.2
      · intro q
        exact decide_eq_true ⟨zz.1, zz.2, q⟩
    refine pk_lt 31 (zp_wd (zp_sx a_buffer)) (fun q => h2 (fun y => ?_)) (fun q => h1 (k.mpr q)) rfl rfl (by omega) (by omega)
    have := k.mp y
    omega
theorem zx_sw13 {post : Int32 → SX → Prop}
    (h1 : zp_ok a_buffer = true → post (nI (zp_wd (zp_sx a_buffer))) (f_rowCount, f_patchCount, f_distinct, f_conditions, f_gathered, zp_sl a_buffer 14, a_isDeleted, a_formOf, a_firstValue, a_width, a_leastStep, a_many, a_lowest, a_highest, a_taken, a_words, a_lengths, a_loose, a_patchPlace, a_patchValue, a_buffer, a_sorted, a_conditionColumn, a_conditionLow, a_conditionHigh, a_chosenSet, a_gatheredValue, a_kept))
    (h2 : ¬ zp_ok a_buffer = true → post 10000 (f_rowCount, f_patchCount, f_distinct, f_conditions, f_gathered, zp_sl a_buffer 14, a_isDeleted, a_formOf, a_firstValue, a_width, a_leastStep, a_many, a_lowest, a_highest, a_taken, a_words, a_lengths, a_loose, a_patchPlace, a_patchValue, a_buffer, a_sorted, a_conditionColumn, a_conditionLow, a_conditionHigh, a_chosenSet, a_gatheredValue, a_kept)) :
    ∀ e m, m + e = 14 → (wX_stepWidth_13 post f_rowCount f_patchCount f_distinct f_conditions f_gathered a_isDeleted a_formOf a_firstValue a_width a_leastStep a_many a_lowest a_highest a_taken a_words a_lengths a_loose a_patchPlace a_patchValue a_buffer a_sorted a_conditionColumn a_conditionLow a_conditionHigh a_chosenSet a_gatheredValue a_kept (e + 1) (zp_sh a_buffer m) (nI (m + 1)) (zp_sl a_buffer m)) := by
  intro e
  have n1 : (-2147483648 : Int64).toInt = -2147483648 := by decide
  have n2 : (2147483647 : Int64).toInt = 2147483647 := by decide
  induction e with
  | zero =>
    intro m hm
    have e : m = 14 := by omega
    subst e
    refine br_t (nI_le (a := 16) (b := 16) (by omega) (by omega)) (br_c (fun z => ?_) (fun z => br_c (fun z2 => ?_) (fun z2 => ?_)))
    · rw [Int64.lt_iff_toInt_lt, n1] at z
      exact zx_sw95 0 (fun q => absurd (of_decide_eq_true q).1 (by omega)) (fun q => absurd q (by decide)) (Or.inl rfl) h1 h2
    · rw [Int64.lt_iff_toInt_lt, n2] at z2
      exact zx_sw95 0 (fun q => absurd (of_decide_eq_true q).2.1 (by omega)) (fun q => absurd q (by decide)) (Or.inl rfl) h1 h2
    · rw [Int64.lt_iff_toInt_lt, n1] at z
      rw [Int64.lt_iff_toInt_lt, n2] at z2
      exact zx_sw95 1 (fun _ => rfl) (fun _ => ⟨by omega, by omega⟩) (Or.inr rfl) h1 h2
  | succ e ih =>
    intro m hm
    have g := ih (m + 1) (by omega)
    have hl : zp_sl a_buffer (m + 1) = if zp_sl a_buffer m ≤ zp_st a_buffer (m + 1) then zp_sl a_buffer m else zp_st a_buffer (m + 1) := rfl
    have hh : zp_sh a_buffer (m + 1) = if zp_st a_buffer (m + 1) ≤ zp_sh a_buffer m then zp_sh a_buffer m else zp_st a_buffer (m + 1) := rfl
    refine br_f (by rw [nI_1]; exact nI_ge (b := 16) (by omega) (by omega)) (zx_sa (by omega) (br_c (fun z => br_c (fun z2 => nm_r (nI_1 _) ?_) (fun z2 => nm_r (nI_1 _) ?_)) (fun z => br_c (fun z2 => nm_r (nI_1 _) ?_) (fun z2 => nm_r (nI_1 _) ?_))))
    · rw [hl, hh, if_pos z, if_pos z2] at g; exact g
    · rw [hl, hh, if_pos z, if_neg z2] at g; exact g
    · rw [hl, hh, if_neg z, if_pos z2] at g; exact g
    · rw [hl, hh, if_neg z, if_neg z2] at g; exact g
theorem zx_sw {post : Int32 → SX → Prop}
    (h1 : zp_ok a_buffer = true → post (nI (zp_wd (zp_sx a_buffer))) (f_rowCount, f_patchCount, f_distinct, f_conditions, f_gathered, zp_sl a_buffer 14, a_isDeleted, a_formOf, a_firstValue, a_width, a_leastStep, a_many, a_lowest, a_highest, a_taken, a_words, a_lengths, a_loose, a_patchPlace, a_patchValue, a_buffer, a_sorted, a_conditionColumn, a_conditionLow, a_conditionHigh, a_chosenSet, a_gatheredValue, a_kept))
    (h2 : ¬ zp_ok a_buffer = true → post 10000 (f_rowCount, f_patchCount, f_distinct, f_conditions, f_gathered, zp_sl a_buffer 14, a_isDeleted, a_formOf, a_firstValue, a_width, a_leastStep, a_many, a_lowest, a_highest, a_taken, a_words, a_lengths, a_loose, a_patchPlace, a_patchValue, a_buffer, a_sorted, a_conditionColumn, a_conditionLow, a_conditionHigh, a_chosenSet, a_gatheredValue, a_kept)) : wpX_stepWidth post (f_rowCount, f_patchCount, f_distinct, f_conditions, f_gathered, f_lowStep, a_isDeleted, a_formOf, a_firstValue, a_width, a_leastStep, a_many, a_lowest, a_highest, a_taken, a_words, a_lengths, a_loose, a_patchPlace, a_patchValue, a_buffer, a_sorted, a_conditionColumn, a_conditionLow, a_conditionHigh, a_chosenSet, a_gatheredValue, a_kept) := by
  unfold wpX_stepWidth
  exact zx_sa (i := 0) (by omega) ⟨15, zx_sw13 h1 h2 14 0 (by omega)⟩
theorem zx_size {post : Int32 → SX → Prop} {d f : Nat} (h : zp_fd a_sorted d a_buffer 16) (hf1 : 1 ≤ f) (hf5 : f ≤ 5)
    (hp : ∀ ls, post (nI (zp_sz a_buffer f)) (f_rowCount, f_patchCount, nI d, f_conditions, f_gathered, ls, a_isDeleted, a_formOf, a_firstValue, a_width, a_leastStep, a_many, a_lowest, a_highest, a_taken, a_words, a_lengths, a_loose, a_patchPlace, a_patchValue, a_buffer, a_sorted, a_conditionColumn, a_conditionLow, a_conditionHigh, a_chosenSet, a_gatheredValue, a_kept)) : wpX_sizeOf post (f_rowCount, f_patchCount, nI d, f_conditions, f_gathered, f_lowStep, a_isDeleted, a_formOf, a_firstValue, a_width, a_leastStep, a_many, a_lowest, a_highest, a_taken, a_words, a_lengths, a_loose, a_patchPlace, a_patchValue, a_buffer, a_sorted, a_conditionColumn, a_conditionLow, a_conditionHigh, a_chosenSet, a_gatheredValue, a_kept) (nI f) := by
  obtain ⟨h0, hd, _, _⟩ := zp_fd_mm h
  have hdc : zp_dc a_buffer 16 = d := h.2.2.2.symm
  have hc : f = 1 ∨ f = 2 ∨ f = 3 ∨ f = 4 ∨ f = 5 := by omega
  rcases hc with rfl | rfl | rfl | rfl | rfl
  · rw [zp_sz1, hdc] at hp
    refine br_f (by decide) (br_t rfl (pk_eq d 1 (fun z => ?_) (fun z => ?_) rfl rfl (by omega) (by omega)))
    · have := hp f_lowStep
      rw [if_pos z] at this
      exact this
    · have := hp f_lowStep
      rw [if_neg z] at this
      exact this
  · rw [zp_sz2, ← pk_mul] at hp
    exact br_f (by decide) (br_f (by decide) (br_t rfl (zx_rc (hp f_lowStep))))
  · rw [zp_sz3, hdc] at hp
    refine br_f (by decide) (br_f (by decide) (br_f (by decide) (br_t rfl (pk_le d 8 (fun z => ?_) (fun z => ?_) rfl rfl (by omega) (by omega)))))
    · have q := hp f_lowStep
      rw [if_pos z, ← nI_add, ← pk_mul, ← pk_mul] at q
      have ep : nI d - 1 = nI (d - 1) := pk_sub (b := 1) (by omega)
      exact zx_wd (by rw [ep, nI_l (by omega)]) (by omega) q
    · have q := hp f_lowStep
      rw [if_neg (by omega)] at q
      exact q
  · rw [zp_sz4] at hp
    have w : zp_wd (zp_fx a_buffer) ≤ 32 := zp_wd_le.mpr (zp_fx_eq a_buffer).2
    refine br_f (by decide) (br_f (by decide) (br_f (by decide) (br_f (by decide) (br_t rfl (zx_fw h (pk_le _ 31 (fun z => ?_) (fun z => ?_) rfl rfl (by omega) (by omega)))))))
    · have q := hp f_lowStep
      rw [if_pos z, ← nI_add, ← pk_mul] at q
      exact q
    · have q := hp f_lowStep
      rw [if_neg (by omega)] at q
      exact q
  · rw [zp_sz5] at hp
    refine br_f (by decide) (br_f (by decide) (br_f (by decide) (br_f (by decide) (br_f (by decide) (zx_sw (fun z => ?_) (fun z => ?_))))))
    · have q := hp (zp_sl a_buffer 14)
      have w : zp_wd (zp_sx a_buffer) ≤ 31 := (of_decide_eq_true z).2.2
      rw [if_pos z, ← nI_add, ← pk_mul] at q
      exact pk_eq (zp_wd (zp_sx a_buffer)) 10000 (fun y => absurd y (by omega)) (fun _ => q) rfl rfl (by omega) (by omega)
    · have q := hp (zp_sl a_buffer 14)
      rw [if_neg z] at q
      exact br_t rfl q
end
end
section
/-! packing: runs -/
def zp_ru (W L : Nat → Int32) (at' : Nat) (p : Nat → Int32) (n i : Nat) (s : Nat → Nat) : Prop :=
  s 0 = 0 ∧ s n = i ∧ n ≤ i ∧ (0 < i → 0 < n) ∧ (∀ k, k ≤ n → s k ≤ i) ∧
  (∀ k, k < n → s k < s (k + 1) ∧ L (16 * at' + k) = nI (s (k + 1) - s k) ∧ ∀ j, s k ≤ j → j < s (k + 1) → p j = W (24 * at' + k))
theorem zp_ru_same {W L L' : Nat → Int32} {at' : Nat} {p : Nat → Int32} {n i : Nat} {s : Nat → Nat} (h : zp_ru W L at' p n i s) (hi : 0 < i) (e : p i = p (i - 1))
    (hL : L' = upd L (16 * at' + n - 1) (L (16 * at' + n - 1) + 1)) : zp_ru W L' at' p n (i + 1) (fun k => if k = n then i + 1 else s k) := by
  obtain ⟨h1, h2, h3, h4, h5, h6⟩ := h
  have hn := h4 hi
  refine ⟨?_, ?_, by omega, fun _ => hn, ?_, ?_⟩
  · show (if 0 = n then i + 1 else s 0) = 0
    rw [if_neg (by omega)]; exact h1
  · show (if n = n then i + 1 else s n) = i + 1
    rw [if_pos rfl]
  · intro k hk
    show (if k = n then i + 1 else s k) ≤ i + 1
    have := h5 k hk
    split <;> omega
  · intro k hk
    show (if k = n then i + 1 else s k) < (if k + 1 = n then i + 1 else s (k + 1)) ∧ L' (16 * at' + k) = nI ((if k + 1 = n then i + 1 else s (k + 1)) - (if k = n then i + 1 else s k)) ∧ ∀ j, (if k = n then i + 1 else s k) ≤ j → j < (if k + 1 = n then i + 1 else s (k + 1)) → p j = W (24 * at' + k)
    obtain ⟨a1, a2, a3⟩ := h6 k hk
    rw [if_neg (show ¬ k = n by omega)]
    by_cases z : k + 1 = n
    · rw [if_pos z]
      have sk : s (k + 1) = i := by rw [z]; exact h2
      rw [sk] at a1 a2 a3
      refine ⟨by omega, ?_, ?_⟩
      · rw [hL, show 16 * at' + n - 1 = 16 * at' + k by omega, pk_us, a2, nI_1]
        congr 1
        omega
      · intro j hj hj2
        rcases Nat.lt_or_ge j i with y | y
        · exact a3 j hj y
        · have : j = i := by omega
          rw [this, e]
          exact a3 (i - 1) (by omega) (by omega)
    · rw [if_neg z]
      refine ⟨a1, ?_, a3⟩
      rw [hL, pk_un (by omega)]
      exact a2
theorem zp_ru_new {W L W' L' : Nat → Int32} {at' : Nat} {p : Nat → Int32} {n i : Nat} {s : Nat → Nat} (h : zp_ru W L at' p n i s)
    (hW : W' = upd W (24 * at' + n) (p i)) (hL : L' = upd (upd L (16 * at' + n) 0) (16 * at' + n) (upd L (16 * at' + n) 0 (16 * at' + n) + 1)) : zp_ru W' L' at' p (n + 1) (i + 1) (fun k => if k = n + 1 then i + 1 else s k) := by
  obtain ⟨h1, h2, h3, h4, h5, h6⟩ := h
  refine ⟨?_, ?_, by omega, fun _ => by omega, ?_, ?_⟩
  · show (if 0 = n + 1 then i + 1 else s 0) = 0
    rw [if_neg (by omega)]; exact h1
  · show (if n + 1 = n + 1 then i + 1 else s (n + 1)) = i + 1
    rw [if_pos rfl]
  · intro k hk
    show (if k = n + 1 then i + 1 else s k) ≤ i + 1
    by_cases z : k = n + 1
    · rw [if_pos z]; omega
    · rw [if_neg z]
      have := h5 k (by omega)
      omega
  · intro k hk
    show (if k = n + 1 then i + 1 else s k) < (if k + 1 = n + 1 then i + 1 else s (k + 1)) ∧ L' (16 * at' + k) = nI ((if k + 1 = n + 1 then i + 1 else s (k + 1)) - (if k = n + 1 then i + 1 else s k)) ∧ ∀ j, (if k = n + 1 then i + 1 else s k) ≤ j → j < (if k + 1 = n + 1 then i + 1 else s (k + 1)) → p j = W' (24 * at' + k)
    rw [if_neg (show ¬ k = n + 1 by omega)]
    by_cases z : k = n
    · rw [if_pos (by omega), z, h2]
      refine ⟨by omega, ?_, ?_⟩
      · rw [hL, pk_us, pk_us, show i + 1 - i = 1 by omega]
        rfl
      · intro j hj hj2
        have : j = i := by omega
        rw [this, hW, pk_us]
    · rw [if_neg (by omega)]
      obtain ⟨a1, a2, a3⟩ := h6 k (by omega)
      refine ⟨a1, ?_, ?_⟩
      · rw [hL, pk_un (by omega), pk_un (by omega)]
        exact a2
      · intro j hj hj2
        rw [hW, pk_un (by omega)]
        exact a3 j hj hj2
/-! digits written one number behind another -/
def zp_dgs (W : Nat → Int32) (fr w : Nat) (d : Nat → Int32) (m : Nat) : Prop := ∀ i, i < m → ∀ j, j < w → zp_db W fr (i * w + j) = bt (d i) j
theorem zp_dgs_0 (W : Nat → Int32) (fr w : Nat) (d : Nat → Int32) : zp_dgs W fr w d 0 := fun i hi => absurd hi (by omega)
theorem zp_dgs_s {W W' : Nat → Int32} {fr w m : Nat} {d : Nat → Int32} (h : zp_dgs W fr w d m) (hq : ∀ q, zp_db W' fr q = if m * w ≤ q ∧ q < m * w + w then bt (d m) (q - m * w) else zp_db W fr q) : zp_dgs W' fr w d (m + 1) := by
  intro i hi j hj
  rw [hq]
  rcases Nat.lt_or_ge i m with z | z
  · have h1 : (i + 1) * w ≤ m * w := Nat.mul_le_mul_right w z
    rw [Nat.succ_mul] at h1
    rw [if_neg (by omega)]
    exact h i z j hj
  · have e : i = m := by omega
    subst e
    rw [if_pos (by omega), Nat.add_sub_cancel_left]
theorem zp_fd_e {S p : Nat → Int32} {d : Nat} (h : zp_fd S d p 16) : ∃ e : Nat → Nat, ∀ i, i < 16 → e i < d ∧ S (e i) = p i := by
  have hx : ∀ i, ∃ k, i < 16 → k < d ∧ S k = p i := by
    intro i
    by_cases z : i < 16
    · obtain ⟨k, hk⟩ := h.2.2.1 i z
      exact ⟨k, fun _ => hk⟩
    · exact ⟨0, fun q => absurd q z⟩
  exact ⟨fun i => (hx i).choose, fun i hi => (hx i).choose_spec hi⟩
theorem zp_ex {P : Nat → Nat → Prop} {m : Nat} (h : ∀ i, i < m → ∃ k, P i k) : ∃ e : Nat → Nat, ∀ i, i < m → P i (e i) := by
  have hx : ∀ i, ∃ k, i < m → P i k := by
    intro i
    by_cases z : i < m
    · obtain ⟨k, hk⟩ := h i z
      exact ⟨k, fun _ => hk⟩
    · exact ⟨0, fun q => absurd q z⟩
  exact ⟨fun i => (hx i).choose, fun i hi => (hx i).choose_spec hi⟩
def zp_fr (W W0 : Nat → Int32) (a b : Nat) : Prop := ∀ k, k < a ∨ b ≤ k → W k = W0 k
theorem zp_fr_r (W : Nat → Int32) (a b : Nat) : zp_fr W W a b := fun _ _ => rfl
theorem zp_fr_u {W W0 : Nat → Int32} {a b k : Nat} {x : Int32} (h : zp_fr W W0 a b) (h1 : a ≤ k) (h2 : k < b) : zp_fr (upd W k x) W0 a b := fun j hj => by
  rw [pk_un (by omega)]
  exact h j hj
theorem zp_fr_t {W W1 W0 : Nat → Int32} {a b c d : Nat} (h : zp_fr W1 W0 a b) (h2 : ∀ k, k < c ∨ d ≤ k → W k = W1 k) (h3 : a ≤ c) (h4 : d ≤ b) : zp_fr W W0 a b := fun j hj => by
  rw [h2 j (by omega)]
  exact h j hj
section
variable {f_rowCount f_patchCount f_distinct f_conditions f_gathered : Int32} {f_lowStep : Int64} {a_isDeleted a_formOf a_firstValue a_width a_leastStep a_many a_lowest a_highest a_taken a_words a_lengths a_loose a_patchPlace a_patchValue a_buffer a_sorted a_conditionColumn a_conditionLow a_conditionHigh a_chosenSet a_gatheredValue a_kept : Nat → Int32}
theorem zx_pr63 {post : SX → Prop} {J4 : Int32 → Int32 → (Nat → Int32) → (Nat → Int32) → (Nat → Int32) → (Nat → Int32) → (Nat → Int32) → (Nat → Int32) → (Nat → Int32) → (Nat → Int32) → (Nat → Int32) → (Nat → Int32) → (Nat → Int32) → (Nat → Int32) → (Nat → Int32) → (Nat → Int32) → (Nat → Int32) → (Nat → Int32) → (Nat → Int32) → (Nat → Int32) → (Nat → Int32) → (Nat → Int32) → (Nat → Int32) → (Nat → Int32) → Prop}
    {at' n i : Nat} (hat : at' < 18) (hn : 0 < n) (hn2 : n ≤ 16) (hi : i < 16)
    (hJ : J4 (nI n) (nI (i + 1)) a_isDeleted a_formOf a_firstValue a_width a_leastStep a_many a_lowest a_highest a_taken a_words (upd a_lengths (16 * at' + n - 1) (a_lengths (16 * at' + n - 1) + 1)) a_loose a_patchPlace a_patchValue a_buffer a_sorted a_conditionColumn a_conditionLow a_conditionHigh a_chosenSet a_gatheredValue a_kept) : (wX_packRuns_63 post J4 (nI at') (nI n) (nI i) f_rowCount f_patchCount f_distinct f_conditions f_gathered f_lowStep a_isDeleted a_formOf a_firstValue a_width a_leastStep a_many a_lowest a_highest a_taken a_words a_lengths a_loose a_patchPlace a_patchValue a_buffer a_sorted a_conditionColumn a_conditionLow a_conditionHigh a_chosenSet a_gatheredValue a_kept) := by
  have e : 16 * nI at' + nI n - 1 = nI (16 * at' + n - 1) := by
    rw [zx_16a]
    exact pk_sub (b := 1) (by omega)
  unfold wX_packRuns_63
  rw [e, nI_clamp (by omega)]
  exact ⟨vp_in_nI (by omega) (by omega), vp_in_nI (by omega) (by omega), nm_e (nm_r (nI_1 i) hJ)⟩
theorem zx_pr31 {post : SX → Prop} {J4 : Int32 → Int32 → (Nat → Int32) → (Nat → Int32) → (Nat → Int32) → (Nat → Int32) → (Nat → Int32) → (Nat → Int32) → (Nat → Int32) → (Nat → Int32) → (Nat → Int32) → (Nat → Int32) → (Nat → Int32) → (Nat → Int32) → (Nat → Int32) → (Nat → Int32) → (Nat → Int32) → (Nat → Int32) → (Nat → Int32) → (Nat → Int32) → (Nat → Int32) → (Nat → Int32) → (Nat → Int32) → (Nat → Int32) → Prop}
    {at' n i : Nat} (hat : at' < 18) (hn2 : n < 16) (hi : i < 16)
    (hJ : J4 (nI (n + 1)) (nI (i + 1)) a_isDeleted a_formOf a_firstValue a_width a_leastStep a_many a_lowest a_highest a_taken (upd a_words (24 * at' + n) (a_buffer i)) (upd (upd a_lengths (16 * at' + n) 0) (16 * at' + n) (upd a_lengths (16 * at' + n) 0 (16 * at' + n) + 1)) a_loose a_patchPlace a_patchValue a_buffer a_sorted a_conditionColumn a_conditionLow a_conditionHigh a_chosenSet a_gatheredValue a_kept) : (wX_packRuns_31 post J4 (nI at') (nI n) (nI i) f_rowCount f_patchCount f_distinct f_conditions f_gathered f_lowStep a_isDeleted a_formOf a_firstValue a_width a_leastStep a_many a_lowest a_highest a_taken a_words a_lengths a_loose a_patchPlace a_patchValue a_buffer a_sorted a_conditionColumn a_conditionLow a_conditionHigh a_chosenSet a_gatheredValue a_kept) := by
  unfold wX_packRuns_31
  rw [zx_16a, zx_24a, nI_clamp (by omega), nI_clamp (by omega), nI_clamp (by omega)]
  exact ⟨vp_in_nI (by omega) (by omega), vp_in_nI (by omega) (by omega), nm_e ⟨vp_in_nI (by omega) (by omega), nm_e (nm_r (nI_1 n) (zx_pr63 hat (by omega) (by omega) hi hJ))⟩⟩
theorem zx_pr4 {post : SX → Prop} {at' : Nat} (hat : at' < 18)
    (hp : ∀ W L m, zp_fr W a_words (24 * at') (24 * at' + 24) → zp_fr L a_lengths (16 * at') (16 * at' + 16) → zp_r2 (nI m) W L at' a_buffer → post (f_rowCount, f_patchCount, f_distinct, f_conditions, f_gathered, f_lowStep, a_isDeleted, a_formOf, a_firstValue, a_width, a_leastStep, upd a_many at' (nI m), a_lowest, a_highest, a_taken, W, L, a_loose, a_patchPlace, a_patchValue, a_buffer, a_sorted, a_conditionColumn, a_conditionLow, a_conditionHigh, a_chosenSet, a_gatheredValue, a_kept)) :
    ∀ e i n s W L, i + e = 16 → zp_ru W L at' a_buffer n i s → zp_fr W a_words (24 * at') (24 * at' + 24) → zp_fr L a_lengths (16 * at') (16 * at' + 16) →
      (wX_packRuns_4 post (nI at') f_rowCount f_patchCount f_distinct f_conditions f_gathered f_lowStep (e + 1) (nI n) (nI i) a_isDeleted a_formOf a_firstValue a_width a_leastStep a_many a_lowest a_highest a_taken W L a_loose a_patchPlace a_patchValue a_buffer a_sorted a_conditionColumn a_conditionLow a_conditionHigh a_chosenSet a_gatheredValue a_kept) := by
  intro e
  induction e with
  | zero =>
    intro i n s W L hi h hW hL
    have e : i = 16 := by omega
    subst e
    refine br_t (nI_le (a := 16) (by omega) (by omega)) ⟨vp_in_nI hat (by omega), nm_r (e' := upd a_many at' (nI n)) (by rw [nI_clamp (by omega)]) (hp W L n hW hL ?_)⟩
    obtain ⟨h1, h2, h3, h4, h5, h6⟩ := h
    exact ⟨n, s, rfl, h3, h1, h2, h5, fun k hk => ⟨Nat.le_of_lt (h6 k hk).1, (h6 k hk).2⟩⟩
  | succ e ih =>
    intro i n s W L hi h hW hL
    have hn := h.2.2.1
    have ep : 0 < i → nI i - 1 = nI (i - 1) := fun q => pk_sub (b := 1) q
    have new : (wX_packRuns_31 post (wX_packRuns_4 post (nI at') f_rowCount f_patchCount f_distinct f_conditions f_gathered f_lowStep (e + 1)) (nI at') (nI n) (nI i) f_rowCount f_patchCount f_distinct f_conditions f_gathered f_lowStep a_isDeleted a_formOf a_firstValue a_width a_leastStep a_many a_lowest a_highest a_taken W L a_loose a_patchPlace a_patchValue a_buffer a_sorted a_conditionColumn a_conditionLow a_conditionHigh a_chosenSet a_gatheredValue a_kept) :=
      zx_pr31 hat (by omega) (by omega) (ih (i + 1) (n + 1) _ _ _ (by omega) (zp_ru_new h rfl rfl) (zp_fr_u hW (by omega) (by omega)) (zp_fr_u (zp_fr_u hL (by omega) (by omega)) (by omega) (by omega)))
    refine br_f (nI_ge (b := 16) (by omega) (by omega)) (pk_eq i 0 (fun z => new) (fun z => ?_) rfl rfl (by omega) (by omega))
    rw [ep (by omega), nI_clamp (by omega), nI_clamp (by omega)]
    refine ⟨vp_in_nI (by omega) (by omega), vp_in_nI (by omega) (by omega), br_c (fun q => ?_) (fun q => new)⟩
    have hn0 := h.2.2.2.1 (by omega)
    exact zx_pr63 hat hn0 (by omega) (by omega) (ih (i + 1) n _ _ _ (by omega) (zp_ru_same h (by omega) q rfl) hW (zp_fr_u hL (by omega) (by omega)))
theorem zx_pr {post : SX → Prop} {at' : Nat} (hat : at' < 18)
    (hp : ∀ W L m, zp_fr W a_words (24 * at') (24 * at' + 24) → zp_fr L a_lengths (16 * at') (16 * at' + 16) → zp_r2 (nI m) W L at' a_buffer → post (f_rowCount, f_patchCount, f_distinct, f_conditions, f_gathered, f_lowStep, a_isDeleted, a_formOf, a_firstValue, a_width, a_leastStep, upd a_many at' (nI m), a_lowest, a_highest, a_taken, W, L, a_loose, a_patchPlace, a_patchValue, a_buffer, a_sorted, a_conditionColumn, a_conditionLow, a_conditionHigh, a_chosenSet, a_gatheredValue, a_kept)) :
    wpX_packRuns post (f_rowCount, f_patchCount, f_distinct, f_conditions, f_gathered, f_lowStep, a_isDeleted, a_formOf, a_firstValue, a_width, a_leastStep, a_many, a_lowest, a_highest, a_taken, a_words, a_lengths, a_loose, a_patchPlace, a_patchValue, a_buffer, a_sorted, a_conditionColumn, a_conditionLow, a_conditionHigh, a_chosenSet, a_gatheredValue, a_kept) (nI at') :=
  Exists.intro 17 (zx_pr4 hat hp 16 0 0 (fun _ => 0) a_words a_lengths (by omega) ⟨rfl, rfl, by omega, fun q => q, fun _ _ => Nat.le_refl 0, fun k hk => absurd hk (by omega)⟩ (zp_fr_r _ _ _) (zp_fr_r _ _ _))
theorem zx_pl6 {post : Int32 → Prop} {fr d : Nat} {x : Int32} (hb : fr + d ≤ 432) (hp : ∀ k, k ≤ d → (∀ a, a < k → a_words (fr + a) < x) → (k < d → x ≤ a_words (fr + k)) → post (nI k)) :
    ∀ e k, k + e = d → (∀ a, a < k → a_words (fr + a) < x) → (wX_placeInList_6 post (nI fr) (nI d) x f_rowCount f_patchCount f_distinct f_conditions f_gathered f_lowStep a_isDeleted a_formOf a_firstValue a_width a_leastStep a_many a_lowest a_highest a_taken a_words a_lengths a_loose a_patchPlace a_patchValue a_buffer a_sorted a_conditionColumn a_conditionLow a_conditionHigh a_chosenSet a_gatheredValue a_kept (e + 1) (nI k) (nI k)) := by
  intro e
  induction e with
  | zero =>
    intro k hk lo
    exact br_t (nI_le (by omega) (by omega)) (hp k (by omega) lo (fun q => absurd q (by omega)))
  | succ e ih =>
    intro k hk lo
    refine br_f (nI_ge (by omega) (by omega)) ?_
    rw [nI_add, nI_clamp (by omega)]
    refine ⟨vp_in_nI (by omega) (by omega), br_c (fun z => hp k (by omega) lo (fun _ => z)) (fun z => nm_r (nI_1 k) (nm_r (nI_1 k) (ih (k + 1) (by omega) ?_)))⟩
    intro a ha
    rcases Nat.lt_or_ge a k with q | q
    · exact lo a q
    · have : a = k := by omega
      rw [this]
      exact Int32.not_le.mp z
theorem zx_pl {post : Int32 → Prop} {fr d : Nat} {x : Int32} (hb : fr + d ≤ 432) (hp : ∀ k, k ≤ d → (∀ a, a < k → a_words (fr + a) < x) → (k < d → x ≤ a_words (fr + k)) → post (nI k)) :
    wpX_placeInList post (f_rowCount, f_patchCount, f_distinct, f_conditions, f_gathered, f_lowStep, a_isDeleted, a_formOf, a_firstValue, a_width, a_leastStep, a_many, a_lowest, a_highest, a_taken, a_words, a_lengths, a_loose, a_patchPlace, a_patchValue, a_buffer, a_sorted, a_conditionColumn, a_conditionLow, a_conditionHigh, a_chosenSet, a_gatheredValue, a_kept) (nI fr) (nI d) x :=
  Exists.intro (d + 1) (zx_pl6 hb hp d 0 (by omega) (fun a ha => absurd ha (by omega)))
theorem zx_pk62 {post : SX → Prop} {at' d w : Nat} {ee : Nat → Nat} (hat : at' < 18) (hd : d ≤ 8) (hw : w ≤ 3) (hwd : a_width at' = nI w)
    (srt : ∀ a b, a < b → b < d → a_sorted a < a_sorted b) (he : ∀ i, i < 16 → ee i < d ∧ a_sorted (ee i) = a_buffer i)
    (hp : ∀ W, (∀ k, k < d → W (24 * at' + k) = a_sorted k) → zp_dgs W (24 * at' + 8) w (fun i => nI (ee i)) 16 → zp_fr W a_words (24 * at') (24 * at' + 24) → post (f_rowCount, f_patchCount, nI d, f_conditions, f_gathered, f_lowStep, a_isDeleted, a_formOf, a_firstValue, a_width, a_leastStep, a_many, a_lowest, a_highest, a_taken, W, a_lengths, a_loose, a_patchPlace, a_patchValue, a_buffer, a_sorted, a_conditionColumn, a_conditionLow, a_conditionHigh, a_chosenSet, a_gatheredValue, a_kept)) :
    ∀ e i W, i + e = 16 → (∀ k, k < d → W (24 * at' + k) = a_sorted k) → zp_dgs W (24 * at' + 8) w (fun i => nI (ee i)) i → zp_fr W a_words (24 * at') (24 * at' + 24) →
      (wX_packList_62 post (nI at') (e + 1) (nI i) f_rowCount f_patchCount (nI d) f_conditions f_gathered f_lowStep a_isDeleted a_formOf a_firstValue a_width a_leastStep a_many a_lowest a_highest a_taken W a_lengths a_loose a_patchPlace a_patchValue a_buffer a_sorted a_conditionColumn a_conditionLow a_conditionHigh a_chosenSet a_gatheredValue a_kept) := by
  intro e
  induction e with
  | zero =>
    intro i W hi h1 h2 h3
    have e : i = 16 := by omega
    subst e
    exact br_t (nI_le (a := 16) (by omega) (by omega)) (hp W h1 h2 h3)
  | succ e ih =>
    intro i W hi h1 h2 h3
    have hii := he i (by omega)
    refine br_f (nI_ge (b := 16) (by omega) (by omega)) ⟨vp_in_nI (by omega) (by omega), ?_⟩
    rw [nI_clamp (by omega), nI_clamp (by omega), hwd, zx_24]
    refine zx_pl (by omega) (fun k hk lo up => ?_)
    have ek : k = ee i := by
      rcases Nat.lt_trichotomy k (ee i) with z | z | z
      · have a1 := up (by omega)
        rw [h1 k (by omega)] at a1
        have a2 := srt k (ee i) z hii.1
        rw [hii.2] at a2
        exact absurd (Int32.lt_of_le_of_lt a1 a2) Int32.lt_irrefl
      · exact z
      · have a1 := lo (ee i) z
        rw [h1 (ee i) hii.1, hii.2] at a1
        exact absurd a1 Int32.lt_irrefl
    subst ek
    have hm : i * w + w ≤ 16 * 3 := by
      have := Nat.mul_le_mul (show i + 1 ≤ 16 by omega) hw
      rw [Nat.succ_mul] at this
      exact this
    refine ⟨vp_in_nI hat (by omega), vp_in_nI hat (by omega), ?_⟩
    rw [pk_mul, show nI (24 * at') + 8 = nI (24 * at' + 8) from nI_add _ 8]
    refine zx_putD (L := 2) (by omega) (by omega) (by omega) (fun W' f1 f2 => nm_r (nI_1 i) (ih (i + 1) W' (by omega) ?_ ?_ ?_))
    · intro t ht
      rw [f1 _ (by omega)]
      exact h1 t ht
    · exact zp_dgs_s h2 f2
    · exact zp_fr_t h3 f1 (by omega) (by omega)
theorem zx_pk29 {post : SX → Prop} {at' d w : Nat} {ee : Nat → Nat} (hat : at' < 18) (hd : d ≤ 8) (hw : w ≤ 3) (hwd : a_width at' = nI w)
    (srt : ∀ a b, a < b → b < d → a_sorted a < a_sorted b) (he : ∀ i, i < 16 → ee i < d ∧ a_sorted (ee i) = a_buffer i)
    (hp : ∀ W, (∀ k, k < d → W (24 * at' + k) = a_sorted k) → zp_dgs W (24 * at' + 8) w (fun i => nI (ee i)) 16 → zp_fr W a_words (24 * at') (24 * at' + 24) → post (f_rowCount, f_patchCount, nI d, f_conditions, f_gathered, f_lowStep, a_isDeleted, a_formOf, a_firstValue, a_width, a_leastStep, a_many, a_lowest, a_highest, a_taken, W, a_lengths, a_loose, a_patchPlace, a_patchValue, a_buffer, a_sorted, a_conditionColumn, a_conditionLow, a_conditionHigh, a_chosenSet, a_gatheredValue, a_kept)) :
    ∀ e i W, i + e = d → (∀ k, k < i → W (24 * at' + k) = a_sorted k) → zp_fr W a_words (24 * at') (24 * at' + 24) →
      (wX_packList_29 post (nI at') f_rowCount f_patchCount (nI d) f_conditions f_gathered f_lowStep (e + 1) (nI i) a_isDeleted a_formOf a_firstValue a_width a_leastStep a_many a_lowest a_highest a_taken W a_lengths a_loose a_patchPlace a_patchValue a_buffer a_sorted a_conditionColumn a_conditionLow a_conditionHigh a_chosenSet a_gatheredValue a_kept) := by
  intro e
  induction e with
  | zero =>
    intro i W hi h1 h3
    have e : i = d := by omega
    subst e
    exact br_t (nI_le (by omega) (by omega)) ⟨17, zx_pk62 hat hd hw hwd srt he (fun W' a1 a2 a3 => hp W' a1 a2 (zp_fr_t h3 a3 (by omega) (by omega))) 16 0 W (by omega) h1 (zp_dgs_0 _ _ _ _) (zp_fr_r _ _ _)⟩
  | succ e ih =>
    intro i W hi h1 h3
    refine br_f (nI_ge (by omega) (by omega)) ⟨vp_in_nI (by omega) (by omega), ?_⟩
    rw [zx_24a, nI_clamp (by omega), nI_clamp (by omega)]
    refine ⟨vp_in_nI (by omega) (by omega), nm_e (nm_r (nI_1 i) (ih (i + 1) _ (by omega) ?_ (zp_fr_u h3 (by omega) (by omega))))⟩
    intro t ht
    by_cases z : t = i
    · rw [z, pk_us]
    · rw [pk_un (by omega)]
      exact h1 t (by omega)
theorem zx_pkL {post : SX → Prop} {at' d : Nat} (hat : at' < 18) (hd : d ≤ 8) (h : zp_fd a_sorted d a_buffer 16)
    (hp : ∀ W w, zp_fr W a_words (24 * at') (24 * at' + 24) → zp_r3 (nI d) (nI w) W at' a_buffer → post (f_rowCount, f_patchCount, nI d, f_conditions, f_gathered, f_lowStep, a_isDeleted, a_formOf, a_firstValue, upd a_width at' (nI w), a_leastStep, upd a_many at' (nI d), a_lowest, a_highest, a_taken, W, a_lengths, a_loose, a_patchPlace, a_patchValue, a_buffer, a_sorted, a_conditionColumn, a_conditionLow, a_conditionHigh, a_chosenSet, a_gatheredValue, a_kept)) :
    wpX_packList post (f_rowCount, f_patchCount, nI d, f_conditions, f_gathered, f_lowStep, a_isDeleted, a_formOf, a_firstValue, a_width, a_leastStep, a_many, a_lowest, a_highest, a_taken, a_words, a_lengths, a_loose, a_patchPlace, a_patchValue, a_buffer, a_sorted, a_conditionColumn, a_conditionLow, a_conditionHigh, a_chosenSet, a_gatheredValue, a_kept) (nI at') := by
  obtain ⟨h0, _, _, _⟩ := zp_fd_mm h
  obtain ⟨ee, he⟩ := zp_fd_e h
  have ep : nI d - 1 = nI (d - 1) := pk_sub (b := 1) (by omega)
  have hw : zp_wd (d - 1) ≤ 3 := zp_wd_le.mpr (by omega)
  have hlt := zp_wd_lt (d - 1)
  refine And.intro (vp_in_nI hat (by omega)) ?_
  rw [nI_clamp (by omega), ep, nI_l (by omega)]
  refine nm_e (zx_wd rfl (by omega) ⟨vp_in_nI hat (by omega), nm_e ⟨d + 1, ?_⟩⟩)
  refine zx_pk29 hat hd hw pk_us h.1 he (fun W a1 a2 a3 => hp W _ a3 ?_) d 0 a_words (by omega) (fun k hk => absurd hk (by omega)) (zp_fr_r _ _ _)
  refine ⟨d, zp_wd (d - 1), ee, rfl, rfl, hd, hw, ?_, ?_⟩
  · intro a b hab hb
    rw [a1 a (by omega), a1 b hb]
    exact h.1 a b hab hb
  · intro i hi
    obtain ⟨b1, b2⟩ := he i hi
    exact ⟨b1, by omega, by rw [a1 _ b1]; exact b2, a2 i hi⟩
theorem zx_pf24 {post : SX → Prop} {at' w : Nat} {dd : Nat → Int32} (hat : at' < 18) (hw : w ≤ 31) (hwd : a_width at' = nI w)
    (he : ∀ i, i < 16 → a_buffer i - a_sorted 0 = dd i)
    (hp : ∀ W, zp_dgs W (24 * at') w dd 16 → zp_fr W a_words (24 * at') (24 * at' + 24) → post (f_rowCount, f_patchCount, f_distinct, f_conditions, f_gathered, f_lowStep, a_isDeleted, a_formOf, a_firstValue, a_width, a_leastStep, a_many, a_lowest, a_highest, a_taken, W, a_lengths, a_loose, a_patchPlace, a_patchValue, a_buffer, a_sorted, a_conditionColumn, a_conditionLow, a_conditionHigh, a_chosenSet, a_gatheredValue, a_kept)) :
    ∀ e i W, i + e = 16 → zp_dgs W (24 * at') w dd i → zp_fr W a_words (24 * at') (24 * at' + 24) →
      (wX_packFrame_24 post (nI at') (e + 1) (nI i) f_rowCount f_patchCount f_distinct f_conditions f_gathered f_lowStep a_isDeleted a_formOf a_firstValue a_width a_leastStep a_many a_lowest a_highest a_taken W a_lengths a_loose a_patchPlace a_patchValue a_buffer a_sorted a_conditionColumn a_conditionLow a_conditionHigh a_chosenSet a_gatheredValue a_kept) := by
  intro e
  induction e with
  | zero =>
    intro i W hi h2 h3
    have e : i = 16 := by omega
    subst e
    exact br_t (nI_le (a := 16) (by omega) (by omega)) (hp W h2 h3)
  | succ e ih =>
    intro i W hi h2 h3
    have hm : i * w + w ≤ 16 * 31 := by
      have := Nat.mul_le_mul (show i + 1 ≤ 16 by omega) hw
      rw [Nat.succ_mul] at this
      exact this
    refine br_f (nI_ge (b := 16) (by omega) (by omega)) ⟨vp_in_nI hat (by omega), vp_in_nI hat (by omega), vp_in_nI (by omega) (by omega), ?_⟩
    rw [nI_clamp (by omega), nI_clamp (by omega), hwd, zx_24, pk_mul, he i (by omega)]
    exact zx_putD (L := 16) (by omega) (by omega) (by omega) (fun W' f1 f2 => nm_r (nI_1 i) (ih (i + 1) W' (by omega) (zp_dgs_s h2 f2) (zp_fr_t h3 f1 (by omega) (by omega))))
theorem zx_pkF {post : SX → Prop} {at' d : Nat} (hat : at' < 18) (h : zp_fd a_sorted d a_buffer 16) (hf : zp_wd (zp_fx a_buffer) ≤ 31)
    (hp : ∀ W w, zp_fr W a_words (24 * at') (24 * at' + 24) → zp_r4 (a_sorted 0) (nI w) W at' a_buffer → post (f_rowCount, f_patchCount, nI d, f_conditions, f_gathered, f_lowStep, a_isDeleted, a_formOf, upd a_firstValue at' (a_sorted 0), upd a_width at' (nI w), a_leastStep, a_many, a_lowest, a_highest, a_taken, W, a_lengths, a_loose, a_patchPlace, a_patchValue, a_buffer, a_sorted, a_conditionColumn, a_conditionLow, a_conditionHigh, a_chosenSet, a_gatheredValue, a_kept)) :
    wpX_packFrame post (f_rowCount, f_patchCount, nI d, f_conditions, f_gathered, f_lowStep, a_isDeleted, a_formOf, a_firstValue, a_width, a_leastStep, a_many, a_lowest, a_highest, a_taken, a_words, a_lengths, a_loose, a_patchPlace, a_patchValue, a_buffer, a_sorted, a_conditionColumn, a_conditionLow, a_conditionHigh, a_chosenSet, a_gatheredValue, a_kept) (nI at') := by
  obtain ⟨_, _, hs, _⟩ := zp_fd_mm h
  have hw : zp_wd (zp_fx a_buffer) ≤ 31 := hf
  obtain ⟨D, hD⟩ := zp_ex (fun i hi => zp_fr_d a_buffer (i := i) hi hf)
  refine And.intro (vp_in_nI hat (by omega)) ?_
  rw [nI_clamp (by omega)]
  refine nm_e (zx_fw h ⟨vp_in_nI hat (by omega), nm_e ⟨17, ?_⟩⟩)
  refine zx_pf24 (dd := fun i => nI (D i)) hat hw pk_us (fun i hi => by rw [hs]; exact (hD i hi).2.1) (fun W a1 a2 => hp W _ a2 ?_) 16 0 a_words (by omega) (zp_dgs_0 _ _ _ _) (zp_fr_r _ _ _)
  refine ⟨_, D, rfl, hw, fun i hi => ⟨(hD i hi).1, ?_, a1 i hi⟩⟩
  rw [hs]
  exact (hD i hi).2.2
theorem zx_ps35 {post : SX → Prop} {at' w : Nat} {dd : Nat → Int32} (hat : at' < 18) (hw : w ≤ 31) (hwd : a_width at' = nI w)
    (he : ∀ i, i < 15 → (zp_st a_buffer i - f_lowStep).toInt32 = dd i)
    (hp : ∀ W, zp_dgs W (24 * at') w dd 15 → zp_fr W a_words (24 * at') (24 * at' + 24) → post (f_rowCount, f_patchCount, f_distinct, f_conditions, f_gathered, f_lowStep, a_isDeleted, a_formOf, a_firstValue, a_width, a_leastStep, a_many, a_lowest, a_highest, a_taken, W, a_lengths, a_loose, a_patchPlace, a_patchValue, a_buffer, a_sorted, a_conditionColumn, a_conditionLow, a_conditionHigh, a_chosenSet, a_gatheredValue, a_kept)) :
    ∀ e i W, i + e = 15 → zp_dgs W (24 * at') w dd i → zp_fr W a_words (24 * at') (24 * at' + 24) →
      (wX_packSteps_35 post (nI at') (e + 1) (nI i) f_rowCount f_patchCount f_distinct f_conditions f_gathered f_lowStep a_isDeleted a_formOf a_firstValue a_width a_leastStep a_many a_lowest a_highest a_taken W a_lengths a_loose a_patchPlace a_patchValue a_buffer a_sorted a_conditionColumn a_conditionLow a_conditionHigh a_chosenSet a_gatheredValue a_kept) := by
  intro e
  induction e with
  | zero =>
    intro i W hi h2 h3
    have e : i = 15 := by omega
    subst e
    exact br_t (nI_le (a := 16) (b := 16) (by omega) (by omega)) (hp W h2 h3)
  | succ e ih =>
    intro i W hi h2 h3
    have hm : i * w + w ≤ 16 * 31 := by
      have := Nat.mul_le_mul (show i + 1 ≤ 16 by omega) hw
      rw [Nat.succ_mul] at this
      exact this
    refine br_f (by rw [nI_1]; exact nI_ge (b := 16) (by omega) (by omega)) (zx_sa (by omega) ⟨vp_in_nI hat (by omega), vp_in_nI hat (by omega), ?_⟩)
    rw [nI_clamp (by omega), hwd, zx_24, pk_mul, he i (by omega)]
    exact zx_putD (L := 16) (by omega) (by omega) (by omega) (fun W' f1 f2 => nm_r (nI_1 i) (ih (i + 1) W' (by omega) (zp_dgs_s h2 f2) (zp_fr_t h3 f1 (by omega) (by omega))))
theorem zx_pkS {post : SX → Prop} {at' : Nat} (hat : at' < 18) (hk : zp_ok a_buffer = true)
    (hp : ∀ W w, zp_fr W a_words (24 * at') (24 * at' + 24) → zp_r5 (a_buffer 0) (nI w) (zp_sl a_buffer 14).toInt32 W at' a_buffer →
      post (f_rowCount, f_patchCount, f_distinct, f_conditions, f_gathered, zp_sl a_buffer 14, a_isDeleted, a_formOf, upd a_firstValue at' (a_buffer 0), upd a_width at' (nI w), upd a_leastStep at' (zp_sl a_buffer 14).toInt32, a_many, a_lowest, a_highest, a_taken, W, a_lengths, a_loose, a_patchPlace, a_patchValue, a_buffer, a_sorted, a_conditionColumn, a_conditionLow, a_conditionHigh, a_chosenSet, a_gatheredValue, a_kept)) :
    wpX_packSteps post (f_rowCount, f_patchCount, f_distinct, f_conditions, f_gathered, f_lowStep, a_isDeleted, a_formOf, a_firstValue, a_width, a_leastStep, a_many, a_lowest, a_highest, a_taken, a_words, a_lengths, a_loose, a_patchPlace, a_patchValue, a_buffer, a_sorted, a_conditionColumn, a_conditionLow, a_conditionHigh, a_chosenSet, a_gatheredValue, a_kept) (nI at') := by
  have hw : zp_wd (zp_sx a_buffer) ≤ 31 := (of_decide_eq_true hk).2.2
  obtain ⟨D, hD⟩ := zp_ex (fun i hi => zp_st_d a_buffer (i := i) hi hk)
  refine And.intro (vp_in_nI hat (by omega)) ?_
  rw [nI_clamp (by omega)]
  refine nm_e (zx_sw (fun _ => ⟨vp_in_nI hat (by omega), nm_e ⟨vp_in_nI hat (by omega), nm_e ⟨16, ?_⟩⟩⟩) (fun q => absurd hk q))
  refine zx_ps35 (dd := fun i => nI (D i)) hat hw pk_us (fun i hi => (hD i hi).2.1) (fun W a1 a2 => hp W _ a2 ?_) 15 0 a_words (by omega) (zp_dgs_0 _ _ _ _) (zp_fr_r _ _ _)
  exact ⟨_, D, rfl, hw, rfl, fun i hi => ⟨(hD i hi).1, (hD i hi).2.2, a1 i hi⟩⟩
theorem zx_pa177 {post : SX → Prop} {at' : Nat} (hat : at' < 18)
    (hp : ∀ W, (∀ i, i < 16 → W (24 * at' + i) = a_buffer i) → zp_fr W a_words (24 * at') (24 * at' + 24) → post (f_rowCount, f_patchCount, f_distinct, f_conditions, f_gathered, f_lowStep, a_isDeleted, a_formOf, a_firstValue, a_width, a_leastStep, a_many, a_lowest, a_highest, a_taken, W, a_lengths, a_loose, a_patchPlace, a_patchValue, a_buffer, a_sorted, a_conditionColumn, a_conditionLow, a_conditionHigh, a_chosenSet, a_gatheredValue, a_kept)) :
    ∀ e i W, i + e = 16 → (∀ j, j < i → W (24 * at' + j) = a_buffer j) → zp_fr W a_words (24 * at') (24 * at' + 24) →
      (wX_pack_177 post (nI at') f_rowCount f_patchCount f_distinct f_conditions f_gathered f_lowStep (e + 1) (nI i) a_isDeleted a_formOf a_firstValue a_width a_leastStep a_many a_lowest a_highest a_taken W a_lengths a_loose a_patchPlace a_patchValue a_buffer a_sorted a_conditionColumn a_conditionLow a_conditionHigh a_chosenSet a_gatheredValue a_kept) := by
  intro e
  induction e with
  | zero =>
    intro i W hi h2 h3
    have e : i = 16 := by omega
    subst e
    exact br_t (nI_le (a := 16) (by omega) (by omega)) (hp W h2 h3)
  | succ e ih =>
    intro i W hi h2 h3
    refine br_f (nI_ge (b := 16) (by omega) (by omega)) ⟨vp_in_nI (by omega) (by omega), ?_⟩
    rw [zx_24a, nI_clamp (by omega), nI_clamp (by omega)]
    refine ⟨vp_in_nI (by omega) (by omega), nm_e (nm_r (nI_1 i) (ih (i + 1) _ (by omega) ?_ (zp_fr_u h3 (by omega) (by omega))))⟩
    intro t ht
    by_cases z : t = i
    · rw [z, pk_us]
    · rw [pk_un (by omega)]
      exact h2 t (by omega)
end
end
section
/-! packing a column: the best form -/
def zp_ag (f g : Nat → Int32) (at' : Nat) : Prop := ∀ k, k ≠ at' → f k = g k
theorem zp_ag_r (f : Nat → Int32) (at' : Nat) : zp_ag f f at' := fun _ _ => rfl
theorem zp_ag_u (f : Nat → Int32) (at' : Nat) (x : Int32) : zp_ag (upd f at' x) f at' := fun _ h => pk_un h
def zp_ba (fo fv wd ls mn lo hi tk W L : Nat → Int32) (at' : Nat) (p : Nat → Int32) : Prop :=
  zp_bk (fo at') (fv at') (wd at') (ls at') (mn at') (lo at') (hi at') (tk at') W L at' p
theorem zp_sz_10 (p : Nat → Int32) (f : Nat) : zp_sz p f ≤ 10000 := by
  have hc : f = 0 ∨ f = 1 ∨ f = 2 ∨ f = 3 ∨ f = 4 ∨ ∃ g, f = g + 5 := by
    rcases f with _ | _ | _ | _ | _ | f
    · exact Or.inl rfl
    · exact Or.inr (Or.inl rfl)
    · exact Or.inr (Or.inr (Or.inl rfl))
    · exact Or.inr (Or.inr (Or.inr (Or.inl rfl)))
    · exact Or.inr (Or.inr (Or.inr (Or.inr (Or.inl rfl))))
    · exact Or.inr (Or.inr (Or.inr (Or.inr (Or.inr ⟨f, rfl⟩))))
  rcases hc with rfl | rfl | rfl | rfl | rfl | ⟨g, rfl⟩
  · show 512 ≤ 10000
    omega
  · rw [zp_sz1]
    split <;> omega
  · rw [zp_sz2]
    have := zp_ct_le (zp_rn p) 16
    omega
  · rw [zp_sz3]
    split
    · have : zp_wd (zp_dc p 16 - 1) ≤ 3 := zp_wd_le.mpr (by omega)
      omega
    · omega
  · rw [zp_sz4]
    split <;> omega
  · rw [zp_sz6]
    split
    · rename_i h
      have := (of_decide_eq_true h).2.2
      omega
    · omega
section
variable {f_rowCount f_patchCount f_distinct f_conditions f_gathered : Int32} {f_lowStep : Int64} {a_isDeleted a_formOf a_firstValue a_width a_leastStep a_many a_lowest a_highest a_taken a_words a_lengths a_loose a_patchPlace a_patchValue a_buffer a_sorted a_conditionColumn a_conditionLow a_conditionHigh a_chosenSet a_gatheredValue a_kept : Nat → Int32}
theorem zx_paE {post : SX → Prop} {at' d : Nat} (hat : at' < 18) (h : zp_fd a_sorted d a_buffer 16)
    (hp : ∀ fo fv wd ls mn lo hi tk W L S d lst, zp_ag fo a_formOf at' → zp_ag fv a_firstValue at' → zp_ag wd a_width at' → zp_ag ls a_leastStep at' → zp_ag mn a_many at' → zp_ag lo a_lowest at' → zp_ag hi a_highest at' → zp_ag tk a_taken at' →
      zp_fr W a_words (24 * at') (24 * at' + 24) → zp_fr L a_lengths (16 * at') (16 * at' + 16) → zp_ba fo fv wd ls mn lo hi tk W L at' a_buffer →
      post (f_rowCount, f_patchCount, d, f_conditions, f_gathered, lst, a_isDeleted, fo, fv, wd, ls, mn, lo, hi, tk, W, L, a_loose, a_patchPlace, a_patchValue, a_buffer, S, a_conditionColumn, a_conditionLow, a_conditionHigh, a_chosenSet, a_gatheredValue, a_kept)) (e : Nat) :
    (wX_pack_13 post (nI at') (e + 1) (nI (zp_bs a_buffer)) (nI (zp_sz a_buffer (zp_bs a_buffer))) (nI 6) f_rowCount f_patchCount (nI d) f_conditions f_gathered f_lowStep a_isDeleted a_formOf a_firstValue a_width a_leastStep a_many a_lowest a_highest a_taken a_words a_lengths a_loose a_patchPlace a_patchValue a_buffer a_sorted a_conditionColumn a_conditionLow a_conditionHigh a_chosenSet a_gatheredValue a_kept) := by
  obtain ⟨h0, hd, hs0, hs1⟩ := zp_fd_mm h
  have hv := vp_in_nI hat (show 18 < 2 ^ 31 by omega)
  have ep : nI d - 1 = nI (d - 1) := pk_sub (b := 1) (by omega)
  have hb6 := zp_bs_lt a_buffer
  refine br_t (nI_lt (a := 5) (b := 6) (by omega) (by omega)) ?_
  rw [ep, nI_clamp (show at' < 2 ^ 31 by omega), nI_clamp (show d - 1 < 2 ^ 31 by omega), hs0, hs1]
  refine ⟨hv, nm_e ⟨hv, nm_e ⟨hv, nm_e ⟨vp_in_nI (by omega) (by omega), hv, nm_e ?_⟩⟩⟩⟩
  refine pk_eq (zp_bs a_buffer) 1 (fun hb => ?_) (fun h1 => ?_) rfl rfl (by omega) (by omega)
  · refine ⟨hv, nm_e (hp _ _ _ _ _ _ _ _ _ _ _ _ _ (zp_ag_u _ _ _) (zp_ag_u _ _ _) (zp_ag_r _ _) (zp_ag_r _ _) (zp_ag_r _ _) (zp_ag_u _ _ _) (zp_ag_u _ _ _) (zp_ag_u _ _ _) (zp_fr_r _ _ _) (zp_fr_r _ _ _) ?_)⟩
    refine ⟨pk_us, pk_us, pk_us, pk_us, fun z => absurd z (by omega), fun _ => ?_, fun z => absurd z (by omega), fun z => absurd z (by omega), fun z => absurd z (by omega), fun z => absurd z (by omega)⟩
    intro i hi
    have hdc : d = 1 := by rw [h.2.2.2]; exact zp_bs1 hb
    obtain ⟨k, hk, ek⟩ := h.2.2.1 i hi
    obtain ⟨k2, hk2, ek2⟩ := h.2.2.1 0 (by omega)
    rw [pk_us, ← ek, ← ek2, show k = 0 by omega, show k2 = 0 by omega]
  refine pk_eq (zp_bs a_buffer) 2 (fun hb => ?_) (fun h2 => ?_) rfl rfl (by omega) (by omega)
  · refine zx_pr hat (fun W L m f1 f2 r => hp _ _ _ _ _ _ _ _ _ _ _ _ _ (zp_ag_u _ _ _) (zp_ag_r _ _) (zp_ag_r _ _) (zp_ag_r _ _) (zp_ag_u _ _ _) (zp_ag_u _ _ _) (zp_ag_u _ _ _) (zp_ag_u _ _ _) f1 f2 ?_)
    refine ⟨pk_us, pk_us, pk_us, pk_us, fun z => absurd z (by omega), fun z => absurd z (by omega), fun _ => ?_, fun z => absurd z (by omega), fun z => absurd z (by omega), fun z => absurd z (by omega)⟩
    rw [pk_us]
    exact r
  refine pk_eq (zp_bs a_buffer) 3 (fun hb => ?_) (fun h3 => ?_) rfl rfl (by omega) (by omega)
  · have hd8 : d ≤ 8 := by rw [h.2.2.2]; exact zp_bs3 hb
    refine zx_pkL hat hd8 h (fun W w f1 r => hp _ _ _ _ _ _ _ _ _ _ _ _ _ (zp_ag_u _ _ _) (zp_ag_r _ _) (zp_ag_u _ _ _) (zp_ag_r _ _) (zp_ag_u _ _ _) (zp_ag_u _ _ _) (zp_ag_u _ _ _) (zp_ag_u _ _ _) f1 (zp_fr_r _ _ _) ?_)
    refine ⟨pk_us, pk_us, pk_us, pk_us, fun z => absurd z (by omega), fun z => absurd z (by omega), fun z => absurd z (by omega), fun _ => ?_, fun z => absurd z (by omega), fun z => absurd z (by omega)⟩
    rw [pk_us, pk_us]
    exact r
  refine pk_eq (zp_bs a_buffer) 4 (fun hb => ?_) (fun h4 => ?_) rfl rfl (by omega) (by omega)
  · refine zx_pkF hat h (zp_bs4 hb) (fun W w f1 r => hp _ _ _ _ _ _ _ _ _ _ _ _ _ (zp_ag_u _ _ _) (zp_ag_u _ _ _) (zp_ag_u _ _ _) (zp_ag_r _ _) (zp_ag_r _ _) (zp_ag_u _ _ _) (zp_ag_u _ _ _) (zp_ag_u _ _ _) f1 (zp_fr_r _ _ _) ?_)
    refine ⟨pk_us, pk_us, pk_us, pk_us, fun z => absurd z (by omega), fun z => absurd z (by omega), fun z => absurd z (by omega), fun z => absurd z (by omega), fun _ => ?_, fun z => absurd z (by omega)⟩
    rw [pk_us, pk_us]
    exact r
  refine pk_eq (zp_bs a_buffer) 5 (fun hb => ?_) (fun h5 => ?_) rfl rfl (by omega) (by omega)
  · refine zx_pkS hat (zp_bs5 hb) (fun W w f1 r => hp _ _ _ _ _ _ _ _ _ _ _ _ _ (zp_ag_u _ _ _) (zp_ag_u _ _ _) (zp_ag_u _ _ _) (zp_ag_u _ _ _) (zp_ag_r _ _) (zp_ag_u _ _ _) (zp_ag_u _ _ _) (zp_ag_u _ _ _) f1 (zp_fr_r _ _ _) ?_)
    refine ⟨pk_us, pk_us, pk_us, pk_us, fun z => absurd z (by omega), fun z => absurd z (by omega), fun z => absurd z (by omega), fun z => absurd z (by omega), fun z => absurd z (by omega), fun _ => ?_⟩
    rw [pk_us, pk_us, pk_us]
    exact r
  · refine ⟨17, zx_pa177 hat (fun W a1 f1 => hp _ _ _ _ _ _ _ _ _ _ _ _ _ (zp_ag_u _ _ _) (zp_ag_r _ _) (zp_ag_r _ _) (zp_ag_r _ _) (zp_ag_r _ _) (zp_ag_u _ _ _) (zp_ag_u _ _ _) (zp_ag_u _ _ _) f1 (zp_fr_r _ _ _) ?_) 16 0 a_words (by omega) (fun j hj => absurd hj (by omega)) (zp_fr_r _ _ _)⟩
    exact ⟨pk_us, pk_us, pk_us, pk_us, fun _ => a1, fun z => absurd z (by omega), fun z => absurd z (by omega), fun z => absurd z (by omega), fun z => absurd z (by omega), fun z => absurd z (by omega)⟩
theorem zx_pa13 {post : SX → Prop} {at' d : Nat} (hat : at' < 18) (h : zp_fd a_sorted d a_buffer 16)
    (hp : ∀ fo fv wd ls mn lo hi tk W L S d lst, zp_ag fo a_formOf at' → zp_ag fv a_firstValue at' → zp_ag wd a_width at' → zp_ag ls a_leastStep at' → zp_ag mn a_many at' → zp_ag lo a_lowest at' → zp_ag hi a_highest at' → zp_ag tk a_taken at' →
      zp_fr W a_words (24 * at') (24 * at' + 24) → zp_fr L a_lengths (16 * at') (16 * at' + 16) → zp_ba fo fv wd ls mn lo hi tk W L at' a_buffer →
      post (f_rowCount, f_patchCount, d, f_conditions, f_gathered, lst, a_isDeleted, fo, fv, wd, ls, mn, lo, hi, tk, W, L, a_loose, a_patchPlace, a_patchValue, a_buffer, S, a_conditionColumn, a_conditionLow, a_conditionHigh, a_chosenSet, a_gatheredValue, a_kept)) :
    ∀ e f lst, f + e = 5 → (wX_pack_13 post (nI at') (e + 1) (nI (zp_bf a_buffer f)) (nI (zp_sz a_buffer (zp_bf a_buffer f))) (nI (f + 1)) f_rowCount f_patchCount (nI d) f_conditions f_gathered lst a_isDeleted a_formOf a_firstValue a_width a_leastStep a_many a_lowest a_highest a_taken a_words a_lengths a_loose a_patchPlace a_patchValue a_buffer a_sorted a_conditionColumn a_conditionLow a_conditionHigh a_chosenSet a_gatheredValue a_kept) := by
  intro e
  induction e with
  | zero =>
    intro f lst hf
    have e : f = 5 := by omega
    subst e
    exact zx_paE hat h hp 0
  | succ e ih =>
    intro f lst hf
    have b1 := zp_sz_10 a_buffer (f + 1)
    have b2 := zp_sz_10 a_buffer (zp_bf a_buffer f)
    have hs : zp_bf a_buffer (f + 1) = if zp_sz a_buffer (zp_bf a_buffer f) ≤ zp_sz a_buffer (f + 1) then zp_bf a_buffer f else f + 1 := rfl
    refine br_f (nI_nlt (b := f + 1) (a := 5) (by omega) (by omega)) (zx_size h (by omega) (by omega) (fun ls => ?_))
    refine pk_le (zp_sz a_buffer (zp_bf a_buffer f)) (zp_sz a_buffer (f + 1)) (fun z => ?_) (fun z => ?_) rfl rfl (by omega) (by omega)
    · have g := ih (f + 1) ls (by omega)
      rw [hs, if_pos z] at g
      exact br_t (nI_le z (by omega)) (nm_r (nI_1 _) g)
    · have g := ih (f + 1) ls (by omega)
      rw [hs, if_neg (by omega)] at g
      exact br_f (nI_ge z (by omega)) (nm_r (nI_1 _) g)
theorem zx_pack {post : SX → Prop} {at' : Nat} (hat : at' < 18)
    (hp : ∀ fo fv wd ls mn lo hi tk W L S d lst, zp_ag fo a_formOf at' → zp_ag fv a_firstValue at' → zp_ag wd a_width at' → zp_ag ls a_leastStep at' → zp_ag mn a_many at' → zp_ag lo a_lowest at' → zp_ag hi a_highest at' → zp_ag tk a_taken at' →
      zp_fr W a_words (24 * at') (24 * at' + 24) → zp_fr L a_lengths (16 * at') (16 * at' + 16) → zp_ba fo fv wd ls mn lo hi tk W L at' a_buffer →
      post (f_rowCount, f_patchCount, d, f_conditions, f_gathered, lst, a_isDeleted, fo, fv, wd, ls, mn, lo, hi, tk, W, L, a_loose, a_patchPlace, a_patchValue, a_buffer, S, a_conditionColumn, a_conditionLow, a_conditionHigh, a_chosenSet, a_gatheredValue, a_kept)) :
    wpX_pack post (f_rowCount, f_patchCount, f_distinct, f_conditions, f_gathered, f_lowStep, a_isDeleted, a_formOf, a_firstValue, a_width, a_leastStep, a_many, a_lowest, a_highest, a_taken, a_words, a_lengths, a_loose, a_patchPlace, a_patchValue, a_buffer, a_sorted, a_conditionColumn, a_conditionLow, a_conditionHigh, a_chosenSet, a_gatheredValue, a_kept) (nI at') := by
  unfold wpX_pack
  exact zx_fd (fun S d h => ⟨6, zx_pa13 hat h hp 5 0 f_lowStep (by omega)⟩)
end
end
section
/-! unpacking -/
section
variable {f_rowCount f_patchCount f_distinct f_conditions f_gathered : Int32} {f_lowStep : Int64} {a_isDeleted a_formOf a_firstValue a_width a_leastStep a_many a_lowest a_highest a_taken a_words a_lengths a_loose a_patchPlace a_patchValue a_buffer a_sorted a_conditionColumn a_conditionLow a_conditionHigh a_chosenSet a_gatheredValue a_kept : Nat → Int32}
theorem zx_ur17 {post : SX → Prop} {J4 : Int32 → Int32 → (Nat → Int32) → (Nat → Int32) → (Nat → Int32) → (Nat → Int32) → (Nat → Int32) → (Nat → Int32) → (Nat → Int32) → (Nat → Int32) → (Nat → Int32) → (Nat → Int32) → (Nat → Int32) → (Nat → Int32) → (Nat → Int32) → (Nat → Int32) → (Nat → Int32) → (Nat → Int32) → (Nat → Int32) → (Nat → Int32) → (Nat → Int32) → (Nat → Int32) → (Nat → Int32) → (Nat → Int32) → Prop}
    {p : Nat → Int32} {at' k a b : Nat} (hat : at' < 18) (hk : k < 16) (hab : a ≤ b) (hb : b ≤ 16) (hl : a_lengths (16 * at' + k) = nI (b - a)) (hv : ∀ i, a ≤ i → i < b → p i = a_words (24 * at' + k))
    (hJ : ∀ B, (∀ i, i < b → B i = p i) → J4 (nI b) (nI (k + 1)) a_isDeleted a_formOf a_firstValue a_width a_leastStep a_many a_lowest a_highest a_taken a_words a_lengths a_loose a_patchPlace a_patchValue B a_sorted a_conditionColumn a_conditionLow a_conditionHigh a_chosenSet a_gatheredValue a_kept) :
    ∀ e j B, j + e = b - a → (∀ i, i < a + j → B i = p i) → (wX_unpackRuns_17 post J4 (nI at') (nI k) f_rowCount f_patchCount f_distinct f_conditions f_gathered f_lowStep (e + 1) (nI (a + j)) (nI j) a_isDeleted a_formOf a_firstValue a_width a_leastStep a_many a_lowest a_highest a_taken a_words a_lengths a_loose a_patchPlace a_patchValue B a_sorted a_conditionColumn a_conditionLow a_conditionHigh a_chosenSet a_gatheredValue a_kept) := by
  intro e
  induction e with
  | zero =>
    intro j B hj hB
    refine And.intro (by rw [zx_16a]; exact vp_in_nI (by omega) (by omega)) ?_
    rw [zx_16a, nI_clamp (by omega), hl, show a + j = b by omega]
    exact br_t (nI_le (by omega) (by omega)) (nm_r (nI_1 k) (hJ B (fun i hi => hB i (by omega))))
  | succ e ih =>
    intro j B hj hB
    refine And.intro (by rw [zx_16a]; exact vp_in_nI (by omega) (by omega)) ?_
    rw [zx_16a, zx_24a, nI_clamp (by omega), nI_clamp (by omega), nI_clamp (by omega), hl]
    refine br_f (nI_ge (by omega) (by omega)) ⟨vp_in_nI (by omega) (by omega), vp_in_nI (by omega) (by omega), nm_e (nm_r (nI_1 _) (nm_r (nI_1 _) (ih (j + 1) _ (by omega) ?_)))⟩
    intro i hi
    by_cases z : i = a + j
    · rw [z, pk_us]
      exact (hv _ (by omega) (by omega)).symm
    · rw [pk_un z]
      exact hB i (by omega)
theorem zx_ur4 {post : SX → Prop} {p : Nat → Int32} {at' m : Nat} {s : Nat → Nat} (hat : at' < 18) (hm : a_many at' = nI m) (hm16 : m ≤ 16) (hsm : s m = 16) (hs : ∀ k, k ≤ m → s k ≤ 16)
    (hr : ∀ k, k < m → s k ≤ s (k + 1) ∧ a_lengths (16 * at' + k) = nI (s (k + 1) - s k) ∧ ∀ i, s k ≤ i → i < s (k + 1) → p i = a_words (24 * at' + k))
    (hp : ∀ B, (∀ i, i < 16 → B i = p i) → post (f_rowCount, f_patchCount, f_distinct, f_conditions, f_gathered, f_lowStep, a_isDeleted, a_formOf, a_firstValue, a_width, a_leastStep, a_many, a_lowest, a_highest, a_taken, a_words, a_lengths, a_loose, a_patchPlace, a_patchValue, B, a_sorted, a_conditionColumn, a_conditionLow, a_conditionHigh, a_chosenSet, a_gatheredValue, a_kept)) :
    ∀ e k x B, k + e = m → x = nI (s k) → (∀ i, i < s k → B i = p i) → (wX_unpackRuns_4 post (nI at') f_rowCount f_patchCount f_distinct f_conditions f_gathered f_lowStep (e + 1) x (nI k) a_isDeleted a_formOf a_firstValue a_width a_leastStep a_many a_lowest a_highest a_taken a_words a_lengths a_loose a_patchPlace a_patchValue B a_sorted a_conditionColumn a_conditionLow a_conditionHigh a_chosenSet a_gatheredValue a_kept) := by
  intro e
  induction e with
  | zero =>
    intro k x B hk hx hB
    subst hx
    have e : k = m := by omega
    subst e
    refine And.intro (vp_in_nI hat (by omega)) ?_
    rw [nI_clamp (by omega), hm]
    exact br_t (nI_le (by omega) (by omega)) (hp B (by rw [← hsm]; exact hB))
  | succ e ih =>
    intro k x B hk hx hB
    subst hx
    obtain ⟨r1, r2, r3⟩ := hr k (by omega)
    have r4 := hs (k + 1) (by omega)
    refine And.intro (vp_in_nI hat (by omega)) ?_
    rw [nI_clamp (by omega), hm]
    refine br_f (nI_ge (by omega) (by omega)) ⟨s (k + 1) - s k + 1, ?_⟩
    exact zx_ur17 (a := s k) (b := s (k + 1)) hat (by omega) r1 r4 r2 r3 (fun B' hB' => ih (k + 1) _ B' (by omega) rfl hB') (s (k + 1) - s k) 0 B (by omega) hB
theorem zx_us14 {post : SX → Prop} {p : Nat → Int32} {at' w : Nat} {D : Nat → Nat} (hat : at' < 18) (hw : a_width at' = nI w) (hw31 : w ≤ 31)
    (hr : ∀ i, i < 15 → D i < 2 ^ w ∧ p (i + 1) = (p i + a_leastStep at') + nI (D i) ∧ ∀ j, j < w → zp_db a_words (24 * at') (i * w + j) = bt (nI (D i)) j)
    (hp : ∀ B, (∀ i, i < 16 → B i = p i) → post (f_rowCount, f_patchCount, f_distinct, f_conditions, f_gathered, f_lowStep, a_isDeleted, a_formOf, a_firstValue, a_width, a_leastStep, a_many, a_lowest, a_highest, a_taken, a_words, a_lengths, a_loose, a_patchPlace, a_patchValue, B, a_sorted, a_conditionColumn, a_conditionLow, a_conditionHigh, a_chosenSet, a_gatheredValue, a_kept)) :
    ∀ e i B, i + e = 15 → (∀ j, j ≤ i → B j = p j) → (wX_unpackSteps_14 post (nI at') f_rowCount f_patchCount f_distinct f_conditions f_gathered f_lowStep (e + 1) (nI i) a_isDeleted a_formOf a_firstValue a_width a_leastStep a_many a_lowest a_highest a_taken a_words a_lengths a_loose a_patchPlace a_patchValue B a_sorted a_conditionColumn a_conditionLow a_conditionHigh a_chosenSet a_gatheredValue a_kept) := by
  intro e
  induction e with
  | zero =>
    intro i B hi hB
    have e : i = 15 := by omega
    subst e
    exact br_t (nI_le (a := 16) (b := 16) (by omega) (by omega)) (hp B (fun j hj => hB j (by omega)))
  | succ e ih =>
    intro i B hi hB
    obtain ⟨r1, r2, r3⟩ := hr i (by omega)
    have hm : i * w + w ≤ 16 * 31 := by
      have := Nat.mul_le_mul (show i + 1 ≤ 16 by omega) hw31
      rw [Nat.succ_mul] at this
      exact this
    refine br_f (by rw [nI_1]; exact nI_ge (b := 16) (by omega) (by omega)) ⟨vp_in_nI hat (by omega), vp_in_nI hat (by omega), ?_⟩
    rw [nI_1, nI_clamp (by omega), nI_clamp (by omega), nI_clamp (by omega), hw, zx_24, pk_mul]
    refine zx_getD (d := nI (D i)) (by omega) hw31 r3 (fun j hj => zp_bt_small r1 hj) ⟨vp_in_nI (by omega) (by omega), vp_in_nI hat (by omega), vp_in_nI (by omega) (by omega), nm_e (nm_e (ih (i + 1) _ (by omega) ?_))⟩
    intro j hj
    by_cases z : j = i + 1
    · rw [z, pk_us, r2, hB i (Nat.le_refl _)]
    · rw [pk_un z]
      exact hB j (by omega)
theorem zx_ua {post : Int32 → Prop} {p : Nat → Int32} {at' i : Nat} (hat : at' < 18) (hi : i < 16) (h : (zp_ba a_formOf a_firstValue a_width a_leastStep a_many a_lowest a_highest a_taken a_words a_lengths at' p)) (h2 : zp_bs p ≠ 2) (h5 : zp_bs p ≠ 5)
    (hp : post (p i)) : wpX_unpackedAt post (f_rowCount, f_patchCount, f_distinct, f_conditions, f_gathered, f_lowStep, a_isDeleted, a_formOf, a_firstValue, a_width, a_leastStep, a_many, a_lowest, a_highest, a_taken, a_words, a_lengths, a_loose, a_patchPlace, a_patchValue, a_buffer, a_sorted, a_conditionColumn, a_conditionLow, a_conditionHigh, a_chosenSet, a_gatheredValue, a_kept) (nI at') (nI i) := by
  obtain ⟨e1, _, _, _, r0, r1, _, r3, r4, _⟩ := h
  have hv := vp_in_nI hat (show 18 < 2 ^ 31 by omega)
  have hb6 := zp_bs_lt p
  refine And.intro hv ?_
  rw [nI_clamp (by omega), zx_24, e1]
  refine nm_e (pk_eq (zp_bs p) 1 (fun hb => ⟨hv, ?_⟩) (fun h1 => ?_) rfl rfl (by omega) (by omega))
  · rw [← r1 hb i hi]
    exact hp
  refine pk_eq (zp_bs p) 3 (fun hb => ⟨hv, hv, ?_⟩) (fun h3 => ?_) rfl rfl (by omega) (by omega)
  · obtain ⟨d, w, ee, a1, a2, a3, a4, a5, a6⟩ := r3 hb
    obtain ⟨b1, b2, b3, b4⟩ := a6 i hi
    have hm : i * w + w ≤ 16 * 3 := by
      have := Nat.mul_le_mul (show i + 1 ≤ 16 by omega) a4
      rw [Nat.succ_mul] at this
      exact this
    rw [a2, pk_mul, show nI (24 * at') + 8 = nI (24 * at' + 8) from nI_add _ 8]
    refine zx_getD (d := nI (ee i)) (by omega) (by omega) b4 (fun j hj => zp_bt_small b2 hj) ?_
    rw [nI_add, nI_clamp (by omega), b3]
    exact ⟨vp_in_nI (by omega) (by omega), hp⟩
  refine pk_eq (zp_bs p) 4 (fun hb => ⟨hv, hv, hv, ?_⟩) (fun h4 => ?_) rfl rfl (by omega) (by omega)
  · obtain ⟨w, D, a2, a4, a6⟩ := r4 hb
    obtain ⟨b1, b2, b3⟩ := a6 i hi
    have hm : i * w + w ≤ 16 * 31 := by
      have := Nat.mul_le_mul (show i + 1 ≤ 16 by omega) a4
      rw [Nat.succ_mul] at this
      exact this
    have hD : D i < 2 ^ 31 := Nat.lt_of_lt_of_le b1 (Nat.pow_le_pow_right (by decide) a4)
    rw [a2, pk_mul]
    refine zx_getD (d := nI (D i)) (by omega) a4 b3 (fun j hj => zp_bt_small b1 hj) ?_
    have e : a_firstValue at' + nI (D i) = p i := by
      apply Int32.toInt_inj.mp
      have q1 := (p i).le_toInt
      have q2 := (p i).toInt_lt
      rw [Int32.toInt_add, nI_toInt hD, ← b2]
      exact Int.bmod_eq_of_le (by omega) (by omega)
    rw [e]
    exact hp
  · rw [nI_add, nI_clamp (by omega), r0 (by omega) i hi]
    exact ⟨vp_in_nI (by omega) (by omega), hp⟩
theorem zx_up35 {post : SX → Prop} {p : Nat → Int32} {at' : Nat} (hat : at' < 18) (h : (zp_ba a_formOf a_firstValue a_width a_leastStep a_many a_lowest a_highest a_taken a_words a_lengths at' p)) (h2 : zp_bs p ≠ 2) (h5 : zp_bs p ≠ 5)
    (hp : ∀ B, (∀ i, i < 16 → B i = p i) → post (f_rowCount, f_patchCount, f_distinct, f_conditions, f_gathered, f_lowStep, a_isDeleted, a_formOf, a_firstValue, a_width, a_leastStep, a_many, a_lowest, a_highest, a_taken, a_words, a_lengths, a_loose, a_patchPlace, a_patchValue, B, a_sorted, a_conditionColumn, a_conditionLow, a_conditionHigh, a_chosenSet, a_gatheredValue, a_kept)) :
    ∀ e i B, i + e = 16 → (∀ j, j < i → B j = p j) → (wX_unpack_35 post (nI at') f_rowCount f_patchCount f_distinct f_conditions f_gathered f_lowStep (e + 1) (nI i) a_isDeleted a_formOf a_firstValue a_width a_leastStep a_many a_lowest a_highest a_taken a_words a_lengths a_loose a_patchPlace a_patchValue B a_sorted a_conditionColumn a_conditionLow a_conditionHigh a_chosenSet a_gatheredValue a_kept) := by
  intro e
  induction e with
  | zero =>
    intro i B hi hB
    have e : i = 16 := by omega
    subst e
    exact br_t (nI_le (a := 16) (by omega) (by omega)) (hp B hB)
  | succ e ih =>
    intro i B hi hB
    refine br_f (nI_ge (b := 16) (by omega) (by omega)) (zx_ua hat (by omega) h h2 h5 ⟨vp_in_nI (by omega) (by omega), nm_r (e' := upd B i (p i)) (by rw [nI_clamp (by omega)]) (nm_r (nI_1 i) (ih (i + 1) _ (by omega) ?_))⟩)
    intro j hj
    by_cases z : j = i
    · rw [z, pk_us]
    · rw [pk_un z]
      exact hB j (by omega)
theorem zx_unpack {post : SX → Prop} {p : Nat → Int32} {at' : Nat} (hat : at' < 18) (h : (zp_ba a_formOf a_firstValue a_width a_leastStep a_many a_lowest a_highest a_taken a_words a_lengths at' p))
    (hp : ∀ B, (∀ i, i < 16 → B i = p i) → post (f_rowCount, f_patchCount, f_distinct, f_conditions, f_gathered, f_lowStep, a_isDeleted, a_formOf, a_firstValue, a_width, a_leastStep, a_many, a_lowest, a_highest, a_taken, a_words, a_lengths, a_loose, a_patchPlace, a_patchValue, B, a_sorted, a_conditionColumn, a_conditionLow, a_conditionHigh, a_chosenSet, a_gatheredValue, a_kept)) : wpX_unpack post (f_rowCount, f_patchCount, f_distinct, f_conditions, f_gathered, f_lowStep, a_isDeleted, a_formOf, a_firstValue, a_width, a_leastStep, a_many, a_lowest, a_highest, a_taken, a_words, a_lengths, a_loose, a_patchPlace, a_patchValue, a_buffer, a_sorted, a_conditionColumn, a_conditionLow, a_conditionHigh, a_chosenSet, a_gatheredValue, a_kept) (nI at') := by
  have h' := h
  obtain ⟨e1, _, _, _, _, _, r2, _, _, r5⟩ := h'
  have hv := vp_in_nI hat (show 18 < 2 ^ 31 by omega)
  have hb6 := zp_bs_lt p
  refine And.intro hv ?_
  rw [nI_clamp (by omega), e1]
  refine nm_e (pk_eq (zp_bs p) 2 (fun hb => ?_) (fun h2 => pk_eq (zp_bs p) 5 (fun hb => ?_) (fun h5 => ?_) rfl rfl (by omega) (by omega)) rfl rfl (by omega) (by omega))
  · obtain ⟨m, s, a1, a2, a3, a4, a5, a6⟩ := r2 hb
    exact Exists.intro (m + 1) (zx_ur4 hat a1 a2 a4 a5 a6 (fun B hB => hp B hB) m 0 0 a_buffer (by omega) (by rw [a3]; rfl) (fun i hi => absurd hi (by omega)))
  · obtain ⟨w, D, a1, a2, a0, a3⟩ := r5 hb
    refine And.intro hv ?_
    rw [nI_clamp (by omega), a0]
    refine nm_e (Exists.intro 16 (zx_us14 hat a1 a2 a3 (fun B hB => hp B hB) 15 0 _ (by omega) ?_))
    intro j hj
    rw [show j = 0 by omega, pk_us]
  · exact Exists.intro 17 (zx_up35 hat h h2 h5 hp 16 0 a_buffer (by omega) (fun j hj => absurd hj (by omega)))
end
end
section
/-! the table as it lies: packed blocks, loose rows, patches -/
def zp_bl (n : Nat) (fo fv wd ls mn lo hi tk W L : Nat → Int32) (pk : Nat → Int32) : Prop :=
  ∀ b c, b < n / 16 → c < 3 → zp_ba fo fv wd ls mn lo hi tk W L (3 * b + c) (fun i => pk (48 * b + 3 * i + c))
def zp_lo (n : Nat) (lo va : Nat → Int32) : Prop := ∀ i c, i < n % 16 → c < 3 → lo (3 * i + c) = va (48 * (n / 16) + 3 * i + c)
def zp_pl (n pc : Nat) (pl : Nat → Nat) (pp pv va pk pd : Nat → Int32) : Prop :=
  (∀ k, k < pc → pp k = nI (pl k) ∧ pl k < 48 * (n / 16) ∧ pv k = va (pl k) ∧ pd (pl k) = 1) ∧ (∀ k j, k < pc → j < pc → pl k = pl j → k = j) ∧
  (∀ q, q < 48 * (n / 16) → (∀ k, k < pc → pl k ≠ q) → va q = pk q ∧ pd q = 0)
def zp_pt (n pc : Nat) (pp pv va pk pd : Nat → Int32) : Prop := ∃ pl : Nat → Nat, zp_pl n pc pl pp pv va pk pd
/-- the values of a column of a block under the first k patches -/
def zp_ov (pl : Nat → Nat) (pv : Nat → Int32) (b c : Nat) (p : Nat → Int32) : Nat → Nat → Int32
  | 0 => p
  | k + 1 => fun i => if pl k = 48 * b + 3 * i + c then pv k else zp_ov pl pv b c p k i
theorem zp_ov_no {pl : Nat → Nat} {pv : Nat → Int32} {b c : Nat} {p : Nat → Int32} {i : Nat} : ∀ k, (∀ j, j < k → pl j ≠ 48 * b + 3 * i + c) → zp_ov pl pv b c p k i = p i := by
  intro k
  induction k with
  | zero => exact fun _ => rfl
  | succ k ih =>
    intro h
    show (if pl k = 48 * b + 3 * i + c then pv k else zp_ov pl pv b c p k i) = p i
    rw [if_neg (h k (by omega))]
    exact ih (fun j hj => h j (by omega))
theorem zp_ov_yes {pl : Nat → Nat} {pv : Nat → Int32} {b c : Nat} {p : Nat → Int32} {i : Nat} {x : Int32} : ∀ k, (∃ j, j < k ∧ pl j = 48 * b + 3 * i + c) → (∀ j, j < k → pl j = 48 * b + 3 * i + c → pv j = x) → zp_ov pl pv b c p k i = x := by
  intro k
  induction k with
  | zero =>
    rintro ⟨j, hj, _⟩
    exact absurd hj (by omega)
  | succ k ih =>
    rintro ⟨j, hj, e⟩ h
    show (if pl k = 48 * b + 3 * i + c then pv k else zp_ov pl pv b c p k i) = x
    by_cases z : pl k = 48 * b + 3 * i + c
    · rw [if_pos z]
      exact h k (by omega) z
    · rw [if_neg z]
      refine ih ⟨j, ?_, e⟩ (fun j hj => h j (by omega))
      rcases Nat.lt_or_ge j k with y | y
      · exact y
      · exact absurd (show pl k = 48 * b + 3 * i + c by rw [show k = j by omega]; exact e) z
theorem zp_ov_end {n pc : Nat} {pl : Nat → Nat} {pp pv va pk pd : Nat → Int32} (h : zp_pl n pc pl pp pv va pk pd) {b c i : Nat} (hb : b < n / 16) (hc : c < 3) (hi : i < 16) :
    zp_ov pl pv b c (fun i => pk (48 * b + 3 * i + c)) pc i = va (48 * b + 3 * i + c) := by
  by_cases z : ∃ j, j < pc ∧ pl j = 48 * b + 3 * i + c
  · exact zp_ov_yes pc z (fun j hj e => by rw [(h.1 j hj).2.2.1, e])
  · rw [zp_ov_no pc (fun j hj e => z ⟨j, hj, e⟩)]
    exact (h.2.2 _ (by omega) (fun k hk e => z ⟨k, hk, e⟩)).1.symm
theorem zp_pl_ix {q b c i : Nat} (hc : c < 3) (hi : i < 16) : q = 48 * b + 3 * i + c ↔ q % 3 = c ∧ q / 3 / 16 = b ∧ q / 3 % 16 = i := by omega
section
variable {f_rowCount f_patchCount f_distinct f_conditions f_gathered : Int32} {f_lowStep : Int64} {a_isDeleted a_formOf a_firstValue a_width a_leastStep a_many a_lowest a_highest a_taken a_words a_lengths a_loose a_patchPlace a_patchValue a_buffer a_sorted a_conditionColumn a_conditionLow a_conditionHigh a_chosenSet a_gatheredValue a_kept : Nat → Int32} {a_values a_packed a_patched a_gone a_columns a_lows a_highs : Nat → Int32}
theorem zx_pat2 {post : Int32 → Prop} {pc q : Nat} {pl : Nat → Nat} (hc : pc ≤ 20) (hpp : ∀ k, k < pc → a_patchPlace k = nI (pl k) ∧ pl k < 288) (hq : q < 288)
    (h1 : ∀ k, k < pc → pl k = q → post (nI k)) (h2 : (∀ k, k < pc → pl k ≠ q) → post (-1)) :
    ∀ e k, k + e = pc → (∀ j, j < k → pl j ≠ q) → (wX_patchAt_2 post (nI q) f_rowCount (nI pc) f_distinct f_conditions f_gathered f_lowStep a_isDeleted a_formOf a_firstValue a_width a_leastStep a_many a_lowest a_highest a_taken a_words a_lengths a_loose a_patchPlace a_patchValue a_buffer a_sorted a_conditionColumn a_conditionLow a_conditionHigh a_chosenSet a_gatheredValue a_kept (e + 1) (nI k)) := by
  intro e
  induction e with
  | zero =>
    intro k hk h
    exact br_t (nI_le (by omega) (by omega)) (h2 (fun j hj => h j (by omega)))
  | succ e ih =>
    intro k hk h
    obtain ⟨p1, p2⟩ := hpp k (by omega)
    refine br_f (nI_ge (by omega) (by omega)) ⟨vp_in_nI (by omega) (by omega), ?_⟩
    rw [nI_clamp (by omega), p1]
    refine pk_eq (pl k) q (fun z => h1 k (by omega) z) (fun z => nm_r (nI_1 k) (ih (k + 1) (by omega) ?_)) rfl rfl (by omega) (by omega)
    intro j hj
    rcases Nat.lt_or_ge j k with y | y
    · exact h j y
    · rw [show j = k by omega]
      exact z
theorem zx_pat {post : Int32 → Prop} {pc q : Nat} {pl : Nat → Nat} (hc : pc ≤ 20) (hpp : ∀ k, k < pc → a_patchPlace k = nI (pl k) ∧ pl k < 288) (hq : q < 288)
    (h1 : ∀ k, k < pc → pl k = q → post (nI k)) (h2 : (∀ k, k < pc → pl k ≠ q) → post (-1)) : wpX_patchAt post (f_rowCount, nI pc, f_distinct, f_conditions, f_gathered, f_lowStep, a_isDeleted, a_formOf, a_firstValue, a_width, a_leastStep, a_many, a_lowest, a_highest, a_taken, a_words, a_lengths, a_loose, a_patchPlace, a_patchValue, a_buffer, a_sorted, a_conditionColumn, a_conditionLow, a_conditionHigh, a_chosenSet, a_gatheredValue, a_kept) (nI q) :=
  Exists.intro (pc + 1) (zx_pat2 hc hpp hq h1 h2 pc 0 (by omega) (fun j hj => absurd hj (by omega)))
theorem zx_ld55 {post : SX → Prop} {pc b c : Nat} {pl : Nat → Nat} {p : Nat → Int32} (hc : pc ≤ 20) (hpp : ∀ k, k < pc → a_patchPlace k = nI (pl k) ∧ pl k < 288) (hb : b < 6) (hc3 : c < 3)
    (hp : ∀ B, (∀ i, i < 16 → B i = zp_ov pl a_patchValue b c p pc i) → post (f_rowCount, nI pc, f_distinct, f_conditions, f_gathered, f_lowStep, a_isDeleted, a_formOf, a_firstValue, a_width, a_leastStep, a_many, a_lowest, a_highest, a_taken, a_words, a_lengths, a_loose, a_patchPlace, a_patchValue, B, a_sorted, a_conditionColumn, a_conditionLow, a_conditionHigh, a_chosenSet, a_gatheredValue, a_kept)) :
    ∀ e k B, k + e = pc → (∀ i, i < 16 → B i = zp_ov pl a_patchValue b c p k i) → (wX_load_55 post (nI b) (nI c) f_rowCount (nI pc) f_distinct f_conditions f_gathered f_lowStep (e + 1) (nI k) a_isDeleted a_formOf a_firstValue a_width a_leastStep a_many a_lowest a_highest a_taken a_words a_lengths a_loose a_patchPlace a_patchValue B a_sorted a_conditionColumn a_conditionLow a_conditionHigh a_chosenSet a_gatheredValue a_kept) := by
  intro e
  induction e with
  | zero =>
    intro k B hk h
    have e : k = pc := by omega
    subst e
    exact br_t (nI_le (by omega) (by omega)) (hp B h)
  | succ e ih =>
    intro k B hk h
    obtain ⟨p1, p2⟩ := hpp k (by omega)
    have hv : vp_in (nI k) 20 := vp_in_nI (by omega) (by omega)
    have skip : ¬ (pl k % 3 = c ∧ pl k / 3 / 16 = b) → (wX_load_55 post (nI b) (nI c) f_rowCount (nI pc) f_distinct f_conditions f_gathered f_lowStep (e + 1) (nI (k + 1)) a_isDeleted a_formOf a_firstValue a_width a_leastStep a_many a_lowest a_highest a_taken a_words a_lengths a_loose a_patchPlace a_patchValue B a_sorted a_conditionColumn a_conditionLow a_conditionHigh a_chosenSet a_gatheredValue a_kept) := fun z => ih (k + 1) B (by omega) (fun i hi => by
      show B i = (if pl k = 48 * b + 3 * i + c then a_patchValue k else zp_ov pl a_patchValue b c p k i)
      rw [if_neg (by omega)]
      exact h i hi)
    refine br_f (nI_ge (by omega) (by omega)) ⟨hv, zx_n3, ?_⟩
    rw [nI_clamp (by omega), p1, zx_m3 (by omega), zx_d3 (by omega)]
    refine nm_e ⟨hv, zx_n3, pk_eq (pl k % 3) c (fun z => ⟨zx_n16, ?_⟩) (fun z => nm_r (nI_1 k) (skip (by omega))) rfl rfl (by omega) (by omega)⟩
    rw [zx_m16 (by omega), zx_d16 (by omega), nI_clamp (by omega)]
    refine pk_eq (pl k / 3 / 16) b (fun z2 => ⟨zx_n16, hv, vp_in_nI (by omega) (by omega), nm_e (nm_r (nI_1 k) (ih (k + 1) _ (by omega) (fun i hi => ?_)))⟩) (fun z2 => nm_r (nI_1 k) (skip (by omega))) rfl rfl (by omega) (by omega)
    show _ = (if pl k = 48 * b + 3 * i + c then a_patchValue k else zp_ov pl a_patchValue b c p k i)
    by_cases y : i = pl k / 3 % 16
    · rw [y, pk_us, if_pos (by omega)]
    · rw [pk_un y, if_neg (by omega)]
      exact h i hi
theorem zx_ld10 {post : SX → Prop} {n c : Nat} (hn : n ≤ 96) (hc : c < 3) (hl : (zp_lo n a_loose a_values))
    (hp : ∀ B, (∀ i, i < n % 16 → B i = a_values (48 * (n / 16) + 3 * i + c)) → post (nI n, f_patchCount, f_distinct, f_conditions, f_gathered, f_lowStep, a_isDeleted, a_formOf, a_firstValue, a_width, a_leastStep, a_many, a_lowest, a_highest, a_taken, a_words, a_lengths, a_loose, a_patchPlace, a_patchValue, B, a_sorted, a_conditionColumn, a_conditionLow, a_conditionHigh, a_chosenSet, a_gatheredValue, a_kept)) :
    ∀ e i B, i + e = n % 16 → (∀ j, j < i → B j = a_values (48 * (n / 16) + 3 * j + c)) → (wX_load_10 post (nI c) (nI n) f_patchCount f_distinct f_conditions f_gathered f_lowStep (e + 1) (nI i) a_isDeleted a_formOf a_firstValue a_width a_leastStep a_many a_lowest a_highest a_taken a_words a_lengths a_loose a_patchPlace a_patchValue B a_sorted a_conditionColumn a_conditionLow a_conditionHigh a_chosenSet a_gatheredValue a_kept) := by
  intro e
  induction e with
  | zero =>
    intro i B hi h
    have e : i = n % 16 := by omega
    subst e
    refine And.intro zx_n16 ?_
    rw [zx_m16 (by omega)]
    exact br_t (nI_le (by omega) (by omega)) (hp B h)
  | succ e ih =>
    intro i B hi h
    refine And.intro zx_n16 ?_
    rw [zx_m16 (by omega), zx_3a, nI_clamp (by omega), nI_clamp (by omega)]
    refine br_f (nI_ge (by omega) (by omega)) ⟨vp_in_nI (by omega) (by omega), vp_in_nI (by omega) (by omega), nm_e (nm_r (nI_1 i) (ih (i + 1) _ (by omega) (fun j hj => ?_)))⟩
    by_cases y : j = i
    · rw [y, pk_us]
      exact hl i c (by omega) hc
    · rw [pk_un y]
      exact h j (by omega)
theorem zx_load {post : SX → Prop} {n pc b c : Nat} (hn : n ≤ 96) (hpc : pc ≤ 20) (hb : b ≤ n / 16) (hc : c < 3) (hB : (zp_bl n a_formOf a_firstValue a_width a_leastStep a_many a_lowest a_highest a_taken a_words a_lengths a_packed)) (hL : (zp_lo n a_loose a_values)) (hP : (zp_pt n pc a_patchPlace a_patchValue a_values a_packed a_patched))
    (hp : ∀ B, (∀ i, i < 16 → 16 * b + i < n → B i = a_values (48 * b + 3 * i + c)) → post (nI n, nI pc, f_distinct, f_conditions, f_gathered, f_lowStep, a_isDeleted, a_formOf, a_firstValue, a_width, a_leastStep, a_many, a_lowest, a_highest, a_taken, a_words, a_lengths, a_loose, a_patchPlace, a_patchValue, B, a_sorted, a_conditionColumn, a_conditionLow, a_conditionHigh, a_chosenSet, a_gatheredValue, a_kept)) :
    wpX_load post (nI n, nI pc, f_distinct, f_conditions, f_gathered, f_lowStep, a_isDeleted, a_formOf, a_firstValue, a_width, a_leastStep, a_many, a_lowest, a_highest, a_taken, a_words, a_lengths, a_loose, a_patchPlace, a_patchValue, a_buffer, a_sorted, a_conditionColumn, a_conditionLow, a_conditionHigh, a_chosenSet, a_gatheredValue, a_kept) (nI b) (nI c) := by
  unfold wpX_load
  refine zx_bc (by omega) (pk_eq b (n / 16) (fun z => ?_) (fun z => ?_) rfl rfl (by omega) (by omega))
  · refine ⟨n % 16 + 1, zx_ld10 hn hc hL (fun B h => hp B (fun i hi h2 => ?_)) (n % 16) 0 a_buffer (by omega) (fun j hj => absurd hj (by omega))⟩
    rw [z]
    exact h i (by omega)
  · obtain ⟨pl, hpl⟩ := hP
    rw [zx_3a]
    refine zx_unpack (by omega) (hB b c (by omega) hc) (fun B h => ⟨pc + 1, zx_ld55 hpc (fun k hk => ⟨(hpl.1 k hk).1, by have := (hpl.1 k hk).2.1; omega⟩) (by omega) hc (fun B' h' => hp B' (fun i hi _ => ?_)) pc 0 B (by omega) h⟩)
    rw [h' i hi]
    exact zp_ov_end hpl (by omega) hc hi
theorem zx_va {post : Int32 → SX → Prop} {n pc r c : Nat} (hn : n ≤ 96) (hpc : pc ≤ 20) (hr : r < n) (hc : c < 3) (hB : (zp_bl n a_formOf a_firstValue a_width a_leastStep a_many a_lowest a_highest a_taken a_words a_lengths a_packed)) (hL : (zp_lo n a_loose a_values)) (hP : (zp_pt n pc a_patchPlace a_patchValue a_values a_packed a_patched))
    (hp : ∀ B, post (a_values (3 * r + c)) (nI n, nI pc, f_distinct, f_conditions, f_gathered, f_lowStep, a_isDeleted, a_formOf, a_firstValue, a_width, a_leastStep, a_many, a_lowest, a_highest, a_taken, a_words, a_lengths, a_loose, a_patchPlace, a_patchValue, B, a_sorted, a_conditionColumn, a_conditionLow, a_conditionHigh, a_chosenSet, a_gatheredValue, a_kept)) :
    wpX_valueAt post (nI n, nI pc, f_distinct, f_conditions, f_gathered, f_lowStep, a_isDeleted, a_formOf, a_firstValue, a_width, a_leastStep, a_many, a_lowest, a_highest, a_taken, a_words, a_lengths, a_loose, a_patchPlace, a_patchValue, a_buffer, a_sorted, a_conditionColumn, a_conditionLow, a_conditionHigh, a_chosenSet, a_gatheredValue, a_kept) (nI r) (nI c) := by
  unfold wpX_valueAt
  dsimp only
  rw [zx_m16 (by omega), zx_d16 (by omega)]
  refine ⟨zx_n16, nm_e (zx_bc (by omega) (pk_eq (r / 16) (n / 16) (fun z => ⟨zx_n16, ?_⟩) (fun z => ?_) rfl rfl (by omega) (by omega)))⟩
  · rw [zx_3a, nI_clamp (by omega)]
    refine ⟨vp_in_nI (by omega) (by omega), ?_⟩
    rw [hL (r % 16) c (by omega) hc, show 48 * (n / 16) + 3 * (r % 16) + c = 3 * r + c by omega]
    exact hp a_buffer
  · obtain ⟨pl, hpl⟩ := hP
    rw [zx_3a r c, zx_3a (r / 16) c]
    refine zx_pat hpc (fun k hk => ⟨(hpl.1 k hk).1, by have := (hpl.1 k hk).2.1; omega⟩) (by omega) (fun k hk e => br_f ?_ ⟨vp_in_nI (by omega) (by omega), ?_⟩) (fun hno => br_t rfl ?_)
    · intro q
      have := congrArg Int32.toInt q
      rw [nI_toInt (by omega), show (-1 : Int32).toInt = -1 from by decide] at this
      omega
    · rw [nI_clamp (by omega), (hpl.1 k hk).2.2.1, e]
      exact hp a_buffer
    · refine zx_unpack (by omega) (hB (r / 16) c (by omega) hc) (fun B h => ⟨zx_n16, vp_in_nI (by omega) (by omega), ?_⟩)
      show post (B (nI (r % 16)).toNatClampNeg) (nI n, nI pc, f_distinct, f_conditions, f_gathered, f_lowStep, a_isDeleted, a_formOf, a_firstValue, a_width, a_leastStep, a_many, a_lowest, a_highest, a_taken, a_words, a_lengths, a_loose, a_patchPlace, a_patchValue, B, a_sorted, a_conditionColumn, a_conditionLow, a_conditionHigh, a_chosenSet, a_gatheredValue, a_kept)
      rw [nI_clamp (by omega), h (r % 16) (by omega)]
      show post (a_packed (48 * (r / 16) + 3 * (r % 16) + c)) _
      have e : 48 * (r / 16) + 3 * (r % 16) + c = 3 * r + c := by omega
      rw [e, ← (hpl.2.2 (3 * r + c) (by omega) hno).1]
      exact hp B
theorem zx_nrO {post : Int32 → Prop} {n : Nat} (hn : n ≤ 96) {x : Int32} (hx : x < 0 ∨ nI n ≤ x) (hp : post 1) : wpX_noRow post (nI n, f_patchCount, f_distinct, f_conditions, f_gathered, f_lowStep, a_isDeleted, a_formOf, a_firstValue, a_width, a_leastStep, a_many, a_lowest, a_highest, a_taken, a_words, a_lengths, a_loose, a_patchPlace, a_patchValue, a_buffer, a_sorted, a_conditionColumn, a_conditionLow, a_conditionHigh, a_chosenSet, a_gatheredValue, a_kept) x := by
  by_cases z : x < 0
  · exact br_t z hp
  · exact br_f z (br_t (hx.resolve_left z) hp)
theorem zx_nr {post : Int32 → Prop} {n r : Nat} (hn : n ≤ 96) (hr : r < n) (h0 : a_isDeleted r = 0 → post 0) (h1 : ¬ a_isDeleted r = 0 → post 1) : wpX_noRow post (nI n, f_patchCount, f_distinct, f_conditions, f_gathered, f_lowStep, a_isDeleted, a_formOf, a_firstValue, a_width, a_leastStep, a_many, a_lowest, a_highest, a_taken, a_words, a_lengths, a_loose, a_patchPlace, a_patchValue, a_buffer, a_sorted, a_conditionColumn, a_conditionLow, a_conditionHigh, a_chosenSet, a_gatheredValue, a_kept) (nI r) := by
  refine br_f (nI_pos (by omega)) (br_f (nI_ge hr (by omega)) ⟨vp_in_nI (by omega) (by omega), ?_⟩)
  rw [nI_clamp (by omega)]
  exact br_c h0 h1
end
end
section
/-! the loose rows become a block; a new row -/
theorem zp_ba_keep {fo fv wd ls mn lo hi tk W L fo' fv' wd' ls' mn' lo' hi' tk' W' L' : Nat → Int32} {at' k : Nat} {p : Nat → Int32} (h : zp_ba fo fv wd ls mn lo hi tk W L k p) (hk : k ≠ at')
    (a1 : zp_ag fo' fo at') (a2 : zp_ag fv' fv at') (a3 : zp_ag wd' wd at') (a4 : zp_ag ls' ls at') (a5 : zp_ag mn' mn at') (a6 : zp_ag lo' lo at') (a7 : zp_ag hi' hi at') (a8 : zp_ag tk' tk at')
    (f1 : zp_fr W' W (24 * at') (24 * at' + 24)) (f2 : zp_fr L' L (16 * at') (16 * at' + 16)) : zp_ba fo' fv' wd' ls' mn' lo' hi' tk' W' L' k p := by
  unfold zp_ba
  rw [a1 k hk, a2 k hk, a3 k hk, a4 k hk, a5 k hk, a6 k hk, a7 k hk, a8 k hk]
  exact zp_bk_congr h (fun j hj => f1 _ (by omega)) (fun j hj => f2 _ (by omega))
section
variable {f_rowCount f_patchCount f_distinct f_conditions f_gathered : Int32} {f_lowStep : Int64} {a_isDeleted a_formOf a_firstValue a_width a_leastStep a_many a_lowest a_highest a_taken a_words a_lengths a_loose a_patchPlace a_patchValue a_buffer a_sorted a_conditionColumn a_conditionLow a_conditionHigh a_chosenSet a_gatheredValue a_kept : Nat → Int32} {a_values a_packed a_patched a_gone a_columns a_lows a_highs : Nat → Int32}
theorem zx_pl16 {post : SX → Prop} {J9 : Int32 → Int32 → Int32 → Int32 → Int32 → Int32 → Int64 → (Nat → Int32) → (Nat → Int32) → (Nat → Int32) → (Nat → Int32) → (Nat → Int32) → (Nat → Int32) → (Nat → Int32) → (Nat → Int32) → (Nat → Int32) → (Nat → Int32) → (Nat → Int32) → (Nat → Int32) → (Nat → Int32) → (Nat → Int32) → (Nat → Int32) → (Nat → Int32) → (Nat → Int32) → (Nat → Int32) → (Nat → Int32) → (Nat → Int32) → (Nat → Int32) → (Nat → Int32) → Prop}
    {b c : Nat} {P : Nat → Nat → Int32} (hb : b < 6) (hc : c < 3) (h : ∀ k, k < 3 * b + c → (zp_ba a_formOf a_firstValue a_width a_leastStep a_many a_lowest a_highest a_taken a_words a_lengths k (P k))) (hl : ∀ i, i < 16 → a_loose (3 * i + c) = P (3 * b + c) i)
    (hJ : ∀ fo fv wd ls mn lo hi tk W L B S d lst, (∀ k, k < 3 * b + c + 1 → zp_ba fo fv wd ls mn lo hi tk W L k (P k)) →
      J9 (nI (c + 1)) f_rowCount f_patchCount d f_conditions f_gathered lst a_isDeleted fo fv wd ls mn lo hi tk W L a_loose a_patchPlace a_patchValue B S a_conditionColumn a_conditionLow a_conditionHigh a_chosenSet a_gatheredValue a_kept) :
    ∀ e i B, i + e = 16 → (∀ j, j < i → B j = P (3 * b + c) j) → (wX_packLoose_16 post J9 (nI b) (nI c) f_rowCount f_patchCount f_distinct f_conditions f_gathered f_lowStep (e + 1) (nI i) a_isDeleted a_formOf a_firstValue a_width a_leastStep a_many a_lowest a_highest a_taken a_words a_lengths a_loose a_patchPlace a_patchValue B a_sorted a_conditionColumn a_conditionLow a_conditionHigh a_chosenSet a_gatheredValue a_kept) := by
  intro e
  induction e with
  | zero =>
    intro i B hi hB
    have e : i = 16 := by omega
    subst e
    refine br_t (nI_le (a := 16) (by omega) (by omega)) ?_
    rw [zx_3a]
    refine zx_pack (by omega) (fun fo fv wd ls mn lo hi tk W L S d lst a1 a2 a3 a4 a5 a6 a7 a8 f1 f2 hba => nm_r (nI_1 c) (hJ fo fv wd ls mn lo hi tk W L B S d lst (fun k hk => ?_)))
    rcases Nat.lt_or_ge k (3 * b + c) with z | z
    · exact zp_ba_keep (h k z) (by omega) a1 a2 a3 a4 a5 a6 a7 a8 f1 f2
    · rw [show k = 3 * b + c by omega]
      exact zp_bk_p hba (fun i hi => hB i hi)
  | succ e ih =>
    intro i B hi hB
    refine br_f (nI_ge (b := 16) (by omega) (by omega)) ?_
    rw [zx_3a, nI_clamp (by omega), nI_clamp (by omega)]
    refine ⟨vp_in_nI (by omega) (by omega), vp_in_nI (by omega) (by omega), nm_e (nm_r (nI_1 i) (ih (i + 1) _ (by omega) (fun j hj => ?_)))⟩
    by_cases y : j = i
    · rw [y, pk_us]
      exact hl i (by omega)
    · rw [pk_un y]
      exact hB j (by omega)
theorem zx_pl9 {post : SX → Prop} {b : Nat} {P : Nat → Nat → Int32} (hb : b < 6) (hl : ∀ c, c < 3 → ∀ i, i < 16 → a_loose (3 * i + c) = P (3 * b + c) i)
    (hp : ∀ fo fv wd ls mn lo hi tk W L B S d lst, (∀ k, k < 3 * b + 3 → zp_ba fo fv wd ls mn lo hi tk W L k (P k)) →
      post (f_rowCount, f_patchCount, d, f_conditions, f_gathered, lst, a_isDeleted, fo, fv, wd, ls, mn, lo, hi, tk, W, L, a_loose, a_patchPlace, a_patchValue, B, S, a_conditionColumn, a_conditionLow, a_conditionHigh, a_chosenSet, a_gatheredValue, a_kept)) :
    ∀ e c fo fv wd ls mn lo hi tk W L B S d lst, c + e = 3 → (∀ k, k < 3 * b + c → zp_ba fo fv wd ls mn lo hi tk W L k (P k)) →
      (wX_packLoose_9 post (nI b) (e + 1) (nI c) f_rowCount f_patchCount d f_conditions f_gathered lst a_isDeleted fo fv wd ls mn lo hi tk W L a_loose a_patchPlace a_patchValue B S a_conditionColumn a_conditionLow a_conditionHigh a_chosenSet a_gatheredValue a_kept) := by
  intro e
  induction e with
  | zero =>
    intro c fo fv wd ls mn lo hi tk W L B S d lst hc h
    have e : c = 3 := by omega
    subst e
    exact br_t (nI_le (a := 3) (by omega) (by omega)) (hp fo fv wd ls mn lo hi tk W L B S d lst h)
  | succ e ih =>
    intro c fo fv wd ls mn lo hi tk W L B S d lst hc h
    refine br_f (nI_ge (b := 3) (by omega) (by omega)) ⟨17, ?_⟩
    exact zx_pl16 hb (by omega) h (hl c (by omega)) (fun fo fv wd ls mn lo hi tk W L B S d lst h' => ih (c + 1) fo fv wd ls mn lo hi tk W L B S d lst (by omega) h') 16 0 B (by omega) (fun j hj => absurd hj (by omega))
theorem zx_pkLoose {post : SX → Prop} {b n : Nat} {P : Nat → Nat → Int32} (hb : b < 6) (hn : n / 16 = b + 1) (hn2 : n < 2 ^ 31) (hl : ∀ c, c < 3 → ∀ i, i < 16 → a_loose (3 * i + c) = P (3 * b + c) i)
    (h : ∀ k, k < 3 * b → (zp_ba a_formOf a_firstValue a_width a_leastStep a_many a_lowest a_highest a_taken a_words a_lengths k (P k)))
    (hp : ∀ fo fv wd ls mn lo hi tk W L B S d lst, (∀ k, k < 3 * b + 3 → zp_ba fo fv wd ls mn lo hi tk W L k (P k)) →
      post (nI n, f_patchCount, d, f_conditions, f_gathered, lst, a_isDeleted, fo, fv, wd, ls, mn, lo, hi, tk, W, L, a_loose, a_patchPlace, a_patchValue, B, S, a_conditionColumn, a_conditionLow, a_conditionHigh, a_chosenSet, a_gatheredValue, a_kept)) :
    wpX_packLoose post (nI n, f_patchCount, f_distinct, f_conditions, f_gathered, f_lowStep, a_isDeleted, a_formOf, a_firstValue, a_width, a_leastStep, a_many, a_lowest, a_highest, a_taken, a_words, a_lengths, a_loose, a_patchPlace, a_patchValue, a_buffer, a_sorted, a_conditionColumn, a_conditionLow, a_conditionHigh, a_chosenSet, a_gatheredValue, a_kept) := by
  unfold wpX_packLoose
  refine zx_bc hn2 ?_
  rw [hn]
  exact nm_r (nI_pred b) ⟨4, zx_pl9 hb hl hp 3 0 _ _ _ _ _ _ _ _ _ _ _ _ _ _ (by omega) h⟩
/-- three stores into the loose rows -/
theorem zp_l3 {f : Nat → Int32} {x y z : Int32} {i : Nat} : ∀ {j c : Nat}, c < 3 → upd (upd (upd f (3 * i) x) (3 * i + 1) y) (3 * i + 2) z (3 * j + c) =
    if j = i then (if c = 0 then x else if c = 1 then y else z) else f (3 * j + c) := by
  intro j c hc
  by_cases e : j = i
  · subst e
    rw [if_pos rfl]
    have hc : c = 0 ∨ c = 1 ∨ c = 2 := by omega
    rcases hc with rfl | rfl | rfl
    · rw [pk_un (by omega), pk_un (by omega), Nat.add_zero, pk_us]; rfl
    · rw [pk_un (by omega), pk_us]; rfl
    · rw [pk_us]; rfl
  · rw [if_neg e, pk_un (by omega), pk_un (by omega), pk_un (by omega)]
theorem zp_pick {f : Nat → Int32} {n c : Nat} {x y z : Int32} (hc : c < 3) (e0 : f (3 * n) = x) (e1 : f (3 * n + 1) = y) (e2 : f (3 * n + 2) = z) : f (3 * n + c) = if c = 0 then x else if c = 1 then y else z := by
  have hc : c = 0 ∨ c = 1 ∨ c = 2 := by omega
  rcases hc with rfl | rfl | rfl
  · exact e0
  · exact e1
  · exact e2
theorem zx_addRow {post : Int32 → SX → Prop} {n : Nat} {x y z : Int32} {va' pk' : Nat → Int32} (hn : n < 96) (hB : (zp_bl n a_formOf a_firstValue a_width a_leastStep a_many a_lowest a_highest a_taken a_words a_lengths a_packed)) (hL : (zp_lo n a_loose a_values))
    (e0 : va' (3 * n) = x) (e1 : va' (3 * n + 1) = y) (e2 : va' (3 * n + 2) = z) (ev : ∀ q, q < 3 * n → va' q = a_values q) (ek : ∀ q, q < 48 * (n / 16) → pk' q = a_packed q)
    (en : n % 16 = 15 → ∀ q, 48 * (n / 16) ≤ q → q < 48 * (n / 16) + 48 → pk' q = va' q)
    (hp : ∀ fo fv wd ls mn lo hi tk W L l B S d lst, zp_bl (n + 1) fo fv wd ls mn lo hi tk W L pk' → zp_lo (n + 1) l va' →
      post (nI n) (nI (n + 1), f_patchCount, d, f_conditions, f_gathered, lst, upd a_isDeleted n 0, fo, fv, wd, ls, mn, lo, hi, tk, W, L, l, a_patchPlace, a_patchValue, B, S, a_conditionColumn, a_conditionLow, a_conditionHigh, a_chosenSet, a_gatheredValue, a_kept)) :
    wpX_addRow post (nI n, f_patchCount, f_distinct, f_conditions, f_gathered, f_lowStep, a_isDeleted, a_formOf, a_firstValue, a_width, a_leastStep, a_many, a_lowest, a_highest, a_taken, a_words, a_lengths, a_loose, a_patchPlace, a_patchValue, a_buffer, a_sorted, a_conditionColumn, a_conditionLow, a_conditionHigh, a_chosenSet, a_gatheredValue, a_kept) x y z := by
  unfold wpX_addRow
  dsimp only
  rw [zx_m16 (by omega)]
  refine ⟨zx_n16, nm_e ?_⟩
  rw [zx_3, show nI (3 * (n % 16)) + 1 = nI (3 * (n % 16) + 1) from nI_1 _, show nI (3 * (n % 16)) + 2 = nI (3 * (n % 16) + 2) from nI_add _ 2, nI_clamp (by omega), nI_clamp (by omega), nI_clamp (by omega), nI_clamp (by omega)]
  refine ⟨vp_in_nI (by omega) (by omega), nm_e ⟨vp_in_nI (by omega) (by omega), nm_e ⟨vp_in_nI (by omega) (by omega), nm_e ⟨vp_in_nI hn (by omega), nm_r (e' := upd a_isDeleted n 0) rfl (nm_r (nI_1 n) ?_)⟩⟩⟩⟩
  have hva : ∀ j c, c < 3 → j ≤ n % 16 → upd (upd (upd a_loose (3 * (n % 16)) x) (3 * (n % 16) + 1) y) (3 * (n % 16) + 2) z (3 * j + c) = va' (48 * (n / 16) + 3 * j + c) := by
    intro j c hc hj
    rw [zp_l3 hc]
    by_cases q : j = n % 16
    · rw [if_pos q, show 48 * (n / 16) + 3 * j + c = 3 * n + c by omega, zp_pick hc e0 e1 e2]
    · rw [if_neg q, ev _ (by omega)]
      exact hL j c (by omega) hc
  refine pk_eq (n % 16) 15 (fun h15 => ?_) (fun h15 => ?_) rfl rfl (by omega) (by omega)
  · refine zx_pkLoose (P := fun k i => pk' (48 * (k / 3) + 3 * i + k % 3)) (b := n / 16) (by omega) (by omega) (by omega) ?_ ?_ (fun fo fv wd ls mn lo hi tk W L B S d lst h => ?_)
    · intro c hc i hi
      rw [hva i c hc (by omega)]
      show _ = pk' (48 * ((3 * (n / 16) + c) / 3) + 3 * i + (3 * (n / 16) + c) % 3)
      rw [show 48 * ((3 * (n / 16) + c) / 3) + 3 * i + (3 * (n / 16) + c) % 3 = 48 * (n / 16) + 3 * i + c by omega]
      exact (en h15 _ (by omega) (by omega)).symm
    · intro k hk
      have g := hB (k / 3) (k % 3) (by omega) (by omega)
      rw [show 3 * (k / 3) + k % 3 = k by omega] at g
      exact zp_bk_p g (fun i hi => (ek _ (by omega)).symm)
    · have q := hp fo fv wd ls mn lo hi tk W L (upd (upd (upd a_loose (3 * (n % 16)) x) (3 * (n % 16) + 1) y) (3 * (n % 16) + 2) z) B S d lst (fun b c hb hc => ?_) (fun i c hi hc => absurd hi (by omega))
      · rw [← nI_pred n] at q
        exact q
      · exact zp_bk_p (h (3 * b + c) (by omega)) (fun i hi => by
          show pk' (48 * ((3 * b + c) / 3) + 3 * i + (3 * b + c) % 3) = pk' (48 * b + 3 * i + c)
          rw [show 48 * ((3 * b + c) / 3) + 3 * i + (3 * b + c) % 3 = 48 * b + 3 * i + c by omega])
  · have q := hp a_formOf a_firstValue a_width a_leastStep a_many a_lowest a_highest a_taken a_words a_lengths (upd (upd (upd a_loose (3 * (n % 16)) x) (3 * (n % 16) + 1) y) (3 * (n % 16) + 2) z) a_buffer a_sorted f_distinct f_lowStep (fun b c hb hc => ?_) (fun i c hi hc => ?_)
    · rw [← nI_pred n] at q
      exact q
    · exact zp_bk_p (hB b c (by omega) hc) (fun i hi => (ek _ (by omega)).symm)
    · rw [show (n + 1) / 16 = n / 16 by omega]
      exact hva i c hc (by omega)
end
end
section
/-! conditions: rows within bounds, as bits -/
def zp_wi (x lo hi : Int32) : Bool := decide (lo ≤ x) && decide (x ≤ hi)
theorem zp_wi_f1 {x lo hi : Int32} (h : x < lo) : zp_wi x lo hi = false := by
  unfold zp_wi
  rw [decide_eq_false (Int32.not_le.mpr h)]; rfl
theorem zp_wi_f2 {x lo hi : Int32} (h : hi < x) : zp_wi x lo hi = false := by
  unfold zp_wi
  rw [decide_eq_false (Int32.not_le.mpr h), Bool.and_false]
theorem zp_wi_t {x lo hi : Int32} (h1 : ¬ x < lo) (h2 : ¬ hi < x) : zp_wi x lo hi = true := by
  unfold zp_wi
  rw [decide_eq_true (Int32.not_lt.mp h1), decide_eq_true (Int32.not_lt.mp h2)]; rfl
theorem zp_bp_run {s : Int32} {a b : Nat} {f : Nat → Bool} (h : zp_bp s a f) (hab : a ≤ b) (hb : b ≤ 16) (hf : ∀ i, a ≤ i → i < b → f i = true) :
    zp_bp (s ||| ((((1 : Int32) <<< (nI (b - a) &&& 31)) - 1) <<< (nI a &&& 31))) b f := by
  intro i hi
  rw [b_or, h i hi, zp_ones (by omega) (by omega) hi]
  rcases Nat.lt_or_ge i a with z | z
  · rw [decide_eq_true z, decide_eq_true (show i < b by omega), decide_eq_false (by omega), Bool.or_false]
  · rw [decide_eq_false (show ¬ i < a by omega)]
    rcases Nat.lt_or_ge i b with y | y
    · rw [decide_eq_true (show a ≤ i ∧ i < a + (b - a) by omega), decide_eq_true y, hf i z y]; rfl
    · rw [decide_eq_false (show ¬ (a ≤ i ∧ i < a + (b - a)) by omega), decide_eq_false (show ¬ i < b by omega)]; rfl
theorem zp_bp_skip {s : Int32} {a b : Nat} {f : Nat → Bool} (h : zp_bp s a f) (hab : a ≤ b) (hf : ∀ i, a ≤ i → i < b → f i = false) : zp_bp s b f := by
  intro i hi
  rw [h i hi]
  rcases Nat.lt_or_ge i a with z | z
  · rw [decide_eq_true z, decide_eq_true (show i < b by omega)]
  · rw [decide_eq_false (show ¬ i < a by omega)]
    rcases Nat.lt_or_ge i b with y | y
    · rw [hf i z y, Bool.and_false, Bool.and_false]
    · rw [decide_eq_false (show ¬ i < b by omega)]
theorem zp_bp_s1 {s : Int32} {f : Nat → Bool} {i0 : Nat} (h : zp_bp s 16 f) (hi : i0 < 16) : zp_bp (s ||| ((1 : Int32) <<< (nI i0 &&& 31))) 16 (fun i => if i = i0 then true else f i) := by
  intro i hi2
  rw [zp_set1 s (by omega) i hi2, h i hi2]
  dsimp only
  by_cases z : i = i0
  · rw [if_pos z, if_pos z, decide_eq_true (by omega)]; rfl
  · rw [if_neg z, if_neg z]
theorem zp_bp_s0 {s : Int32} {f : Nat → Bool} {i0 : Nat} (h : zp_bp s 16 f) (hi : i0 < 16) : zp_bp (s &&& (((1 : Int32) <<< (nI i0 &&& 31)) ^^^ (-1))) 16 (fun i => if i = i0 then false else f i) := by
  intro i hi2
  rw [zp_set0 s (by omega) i hi2, h i hi2]
  dsimp only
  by_cases z : i = i0
  · rw [if_pos z, if_pos z, Bool.and_false]
  · rw [if_neg z, if_neg z]
section
variable {f_rowCount f_patchCount f_distinct f_conditions f_gathered : Int32} {f_lowStep : Int64} {a_isDeleted a_formOf a_firstValue a_width a_leastStep a_many a_lowest a_highest a_taken a_words a_lengths a_loose a_patchPlace a_patchValue a_buffer a_sorted a_conditionColumn a_conditionLow a_conditionHigh a_chosenSet a_gatheredValue a_kept : Nat → Int32} {a_values a_packed a_patched a_gone a_columns a_lows a_highs : Nat → Int32}
theorem zx_iw {post : Int32 → Prop} {x lo ub : Int32} (h1 : zp_wi x lo ub = true → post 1) (h0 : zp_wi x lo ub = false → post 0) : wpX_isWithin post (f_rowCount, f_patchCount, f_distinct, f_conditions, f_gathered, f_lowStep, a_isDeleted, a_formOf, a_firstValue, a_width, a_leastStep, a_many, a_lowest, a_highest, a_taken, a_words, a_lengths, a_loose, a_patchPlace, a_patchValue, a_buffer, a_sorted, a_conditionColumn, a_conditionLow, a_conditionHigh, a_chosenSet, a_gatheredValue, a_kept) x lo ub :=
  br_c (fun z => h0 (zp_wi_f1 z)) (fun z => br_c (fun y => h0 (zp_wi_f2 y)) (fun y => h1 (zp_wi_t z y)))
theorem zx_rw9 {post : Int32 → Prop} {p : Nat → Int32} {at' m : Nat} {s : Nat → Nat} {lo ub : Int32} (hat : at' < 18) (hm : a_many at' = nI m) (hm16 : m ≤ 16) (hsm : s m = 16) (hs : ∀ k, k ≤ m → s k ≤ 16)
    (hr : ∀ k, k < m → s k ≤ s (k + 1) ∧ a_lengths (16 * at' + k) = nI (s (k + 1) - s k) ∧ ∀ i, s k ≤ i → i < s (k + 1) → p i = a_words (24 * at' + k))
    (hp : ∀ z, zp_bp z 16 (fun i => zp_wi (p i) lo ub) → post z) :
    ∀ e k x z, k + e = m → x = nI (s k) → zp_bp z (s k) (fun i => zp_wi (p i) lo ub) → (wX_runsWithin_9 post (nI at') lo ub f_rowCount f_patchCount f_distinct f_conditions f_gathered f_lowStep a_isDeleted a_formOf a_firstValue a_width a_leastStep a_many a_lowest a_highest a_taken a_words a_lengths a_loose a_patchPlace a_patchValue a_buffer a_sorted a_conditionColumn a_conditionLow a_conditionHigh a_chosenSet a_gatheredValue a_kept (e + 1) z x (nI k)) := by
  intro e
  induction e with
  | zero =>
    intro k x z hk hx hz
    have e : k = m := by omega
    subst e
    refine And.intro (vp_in_nI hat (by omega)) ?_
    rw [nI_clamp (by omega), hm]
    rw [hsm] at hz
    exact br_t (nI_le (by omega) (by omega)) (hp z hz)
  | succ e ih =>
    intro k x z hk hx hz
    subst hx
    obtain ⟨r1, r2, r3⟩ := hr k (by omega)
    have r4 := hs (k + 1) (by omega)
    refine And.intro (vp_in_nI hat (by omega)) ?_
    rw [zx_16a, zx_24a, nI_clamp (by omega), nI_clamp (by omega), nI_clamp (by omega), hm, r2]
    refine br_f (nI_ge (by omega) (by omega)) ⟨vp_in_nI (by omega) (by omega), nm_e ⟨vp_in_nI (by omega) (by omega), zx_iw (fun hw => br_f (by decide) (nm_e (nm_e (nm_r (nI_1 k) (ih (k + 1) _ _ (by omega) ?_ ?_))))) (fun hw => br_t rfl (nm_e (nm_r (nI_1 k) (ih (k + 1) _ _ (by omega) ?_ ?_))))⟩⟩
    · rw [nI_add, show s k + (s (k + 1) - s k) = s (k + 1) by omega]
    · refine zp_bp_run hz r1 r4 (fun i hi hi2 => ?_)
      show zp_wi (p i) lo ub = true
      rw [r3 i hi hi2]
      exact hw
    · rw [nI_add, show s k + (s (k + 1) - s k) = s (k + 1) by omega]
    · refine zp_bp_skip hz r1 (fun i hi hi2 => ?_)
      show zp_wi (p i) lo ub = false
      rw [r3 i hi hi2]
      exact hw
theorem zx_lw23 {post : Int32 → Prop} {p : Nat → Int32} {at' d w k0 : Nat} {ee : Nat → Nat} {lo ub : Int32} (hat : at' < 18) (hwd : a_width at' = nI w) (hw : w ≤ 3) (hd : d ≤ 8)
    (srt : ∀ a b, a < b → b < d → a_words (24 * at' + a) < a_words (24 * at' + b))
    (hr : ∀ i, i < 16 → ee i < d ∧ ee i < 2 ^ w ∧ a_words (24 * at' + ee i) = p i ∧ ∀ j, j < w → zp_db a_words (24 * at' + 8) (i * w + j) = bt (nI (ee i)) j)
    (hk : k0 ≤ d) (h1 : ∀ a, a < k0 → a_words (24 * at' + a) < lo) (h2 : k0 < d → lo ≤ a_words (24 * at' + k0))
    (hp : ∀ z, zp_bp z 16 (fun i => zp_wi (p i) lo ub) → post z) :
    ∀ e i z, i + e = 16 → zp_bp z i (fun i => zp_wi (p i) lo ub) → (wX_listWithin_23 post (nI at') ub (nI k0) f_rowCount f_patchCount f_distinct f_conditions f_gathered f_lowStep a_isDeleted a_formOf a_firstValue a_width a_leastStep a_many a_lowest a_highest a_taken a_words a_lengths a_loose a_patchPlace a_patchValue a_buffer a_sorted a_conditionColumn a_conditionLow a_conditionHigh a_chosenSet a_gatheredValue a_kept (e + 1) z (nI i)) := by
  intro e
  induction e with
  | zero =>
    intro i z hi hz
    have e : i = 16 := by omega
    subst e
    exact br_t (nI_le (a := 16) (by omega) (by omega)) (hp z hz)
  | succ e ih =>
    intro i z hi hz
    obtain ⟨b1, b2, b3, b4⟩ := hr i (by omega)
    have hm : i * w + w ≤ 16 * 3 := by
      have := Nat.mul_le_mul (show i + 1 ≤ 16 by omega) hw
      rw [Nat.succ_mul] at this
      exact this
    refine br_f (nI_ge (b := 16) (by omega) (by omega)) ⟨vp_in_nI hat (by omega), vp_in_nI hat (by omega), ?_⟩
    rw [nI_clamp (by omega), hwd, zx_24, pk_mul, show nI (24 * at') + 8 = nI (24 * at' + 8) from nI_add _ 8]
    refine zx_getD (d := nI (ee i)) (by omega) (by omega) b4 (fun j hj => zp_bt_small b2 hj) (pk_lt (ee i) k0 (fun y => nm_r (nI_1 i) (ih (i + 1) z (by omega) (zp_bp_f hz ?_))) (fun y => ?_) rfl rfl (by omega) (by omega))
    · show zp_wi (p i) lo ub = false
      rw [← b3]
      exact zp_wi_f1 (h1 _ y)
    · have hlo : ¬ p i < lo := by
        rw [← b3]
        apply Int32.not_lt.mpr
        rcases Nat.eq_or_lt_of_le y with q | q
        · rw [← q]
          exact h2 (by omega)
        · have a1 := srt _ _ q b1
          have a2 := h2 (by omega)
          rw [Int32.le_iff_toInt_le] at *
          rw [Int32.lt_iff_toInt_lt] at a1
          omega
      rw [nI_add, nI_clamp (by omega), b3]
      exact ⟨vp_in_nI (by omega) (by omega), br_c (fun q => nm_r (nI_1 i) (ih (i + 1) z (by omega) (zp_bp_f hz (zp_wi_f2 q)))) (fun q => nm_e (nm_r (nI_1 i) (ih (i + 1) _ (by omega) (zp_bp_t hz (by omega) (zp_wi_t hlo q)))))⟩
theorem zx_fw30 {post : Int32 → Prop} {p : Nat → Int32} {at' w : Nat} {D : Nat → Nat} {lo ub : Int32} (hat : at' < 18) (hwd : a_width at' = nI w) (hw : w ≤ 31)
    (hr : ∀ i, i < 16 → D i < 2 ^ w ∧ (p i).toInt = (a_firstValue at').toInt + D i ∧ ∀ j, j < w → zp_db a_words (24 * at') (i * w + j) = bt (nI (D i)) j)
    (hp : ∀ z, zp_bp z 16 (fun i => zp_wi (p i) lo ub) → post z) :
    ∀ e i z, i + e = 16 → zp_bp z i (fun i => zp_wi (p i) lo ub) → (wX_frameWithin_30 post (nI at') (lo.toInt64 - (a_firstValue at').toInt64) (ub.toInt64 - (a_firstValue at').toInt64) f_rowCount f_patchCount f_distinct f_conditions f_gathered f_lowStep a_isDeleted a_formOf a_firstValue a_width a_leastStep a_many a_lowest a_highest a_taken a_words a_lengths a_loose a_patchPlace a_patchValue a_buffer a_sorted a_conditionColumn a_conditionLow a_conditionHigh a_chosenSet a_gatheredValue a_kept (e + 1) z (nI i)) := by
  intro e
  induction e with
  | zero =>
    intro i z hi hz
    have e : i = 16 := by omega
    subst e
    exact br_t (nI_le (a := 16) (by omega) (by omega)) (hp z hz)
  | succ e ih =>
    intro i z hi hz
    obtain ⟨b1, b2, b3⟩ := hr i (by omega)
    have hm : i * w + w ≤ 16 * 31 := by
      have := Nat.mul_le_mul (show i + 1 ≤ 16 by omega) hw
      rw [Nat.succ_mul] at this
      exact this
    have hD : D i < 2 ^ 31 := Nat.lt_of_lt_of_le b1 (Nat.pow_le_pow_right (by decide) hw)
    have c1 : (nI (D i)).toInt64 < lo.toInt64 - (a_firstValue at').toInt64 ↔ p i < lo := by
      rw [Int64.lt_iff_toInt_lt, zp_dif, Int32.toInt_toInt64, nI_toInt hD, Int32.lt_iff_toInt_lt]
      omega
    have c2 : ub.toInt64 - (a_firstValue at').toInt64 < (nI (D i)).toInt64 ↔ ub < p i := by
      rw [Int64.lt_iff_toInt_lt, zp_dif, Int32.toInt_toInt64, nI_toInt hD, Int32.lt_iff_toInt_lt]
      omega
    refine br_f (nI_ge (b := 16) (by omega) (by omega)) ⟨vp_in_nI hat (by omega), vp_in_nI hat (by omega), ?_⟩
    rw [nI_clamp (show at' < 2 ^ 31 by omega), hwd, zx_24, pk_mul]
    refine zx_getD (d := nI (D i)) (by omega) (by omega) b3 (fun j hj => zp_bt_small b1 hj) (br_c (fun q => nm_r (nI_1 i) (ih (i + 1) z (by omega) (zp_bp_f hz (zp_wi_f1 (c1.mp q))))) (fun q => br_c (fun q2 => nm_r (nI_1 i) (ih (i + 1) z (by omega) (zp_bp_f hz (zp_wi_f2 (c2.mp q2))))) (fun q2 => nm_e (nm_r (nI_1 i) (ih (i + 1) _ (by omega) (zp_bp_t hz (by omega) (zp_wi_t (fun y => q (c1.mpr y)) (fun y => q2 (c2.mpr y)))))))))
theorem zx_pw111 {post : Int32 → SX → Prop} {p : Nat → Int32} {lo ub : Int32} (hB : ∀ i, i < 16 → a_buffer i = p i) (hp : ∀ z, zp_bp z 16 (fun i => zp_wi (p i) lo ub) → post z (f_rowCount, f_patchCount, f_distinct, f_conditions, f_gathered, f_lowStep, a_isDeleted, a_formOf, a_firstValue, a_width, a_leastStep, a_many, a_lowest, a_highest, a_taken, a_words, a_lengths, a_loose, a_patchPlace, a_patchValue, a_buffer, a_sorted, a_conditionColumn, a_conditionLow, a_conditionHigh, a_chosenSet, a_gatheredValue, a_kept)) :
    ∀ e i z, i + e = 16 → zp_bp z i (fun i => zp_wi (p i) lo ub) → (wX_packedWithin_111 post lo ub f_rowCount f_patchCount f_distinct f_conditions f_gathered f_lowStep a_isDeleted a_formOf a_firstValue a_width a_leastStep a_many a_lowest a_highest a_taken a_words a_lengths a_loose a_patchPlace a_patchValue a_buffer a_sorted a_conditionColumn a_conditionLow a_conditionHigh a_chosenSet a_gatheredValue a_kept (e + 1) z (nI i)) := by
  intro e
  induction e with
  | zero =>
    intro i z hi hz
    have e : i = 16 := by omega
    subst e
    exact br_t (nI_le (a := 16) (by omega) (by omega)) (hp z hz)
  | succ e ih =>
    intro i z hi hz
    refine br_f (nI_ge (b := 16) (by omega) (by omega)) ⟨vp_in_nI (by omega) (by omega), ?_⟩
    rw [nI_clamp (by omega), hB i (by omega)]
    exact zx_iw (fun q => br_f (by decide) (nm_e (nm_r (nI_1 i) (ih (i + 1) _ (by omega) (zp_bp_t hz (by omega) q))))) (fun q => br_t rfl (nm_r (nI_1 i) (ih (i + 1) z (by omega) (zp_bp_f hz q))))
theorem zx_pw50 {post : Int32 → SX → Prop} {p : Nat → Int32} {at' : Nat} {lo ub : Int32} (hat : at' < 18) (h : (zp_ba a_formOf a_firstValue a_width a_leastStep a_many a_lowest a_highest a_taken a_words a_lengths at' p))
    (hp : ∀ z B, zp_bp z 16 (fun i => zp_wi (p i) lo ub) → post z (f_rowCount, f_patchCount, f_distinct, f_conditions, f_gathered, f_lowStep, a_isDeleted, a_formOf, a_firstValue, a_width, a_leastStep, a_many, a_lowest, a_highest, a_taken, a_words, a_lengths, a_loose, a_patchPlace, a_patchValue, B, a_sorted, a_conditionColumn, a_conditionLow, a_conditionHigh, a_chosenSet, a_gatheredValue, a_kept)) : (wX_packedWithin_50 post (nI at') lo ub f_rowCount f_patchCount f_distinct f_conditions f_gathered f_lowStep a_isDeleted a_formOf a_firstValue a_width a_leastStep a_many a_lowest a_highest a_taken a_words a_lengths a_loose a_patchPlace a_patchValue a_buffer a_sorted a_conditionColumn a_conditionLow a_conditionHigh a_chosenSet a_gatheredValue a_kept) := by
  have h' := h
  obtain ⟨e1, _, _, _, _, _, r2, r3, r4, _⟩ := h'
  have hv := vp_in_nI hat (show 18 < 2 ^ 31 by omega)
  have hb6 := zp_bs_lt p
  refine And.intro hv ?_
  rw [nI_clamp (by omega), e1]
  refine nm_e (pk_eq (zp_bs p) 2 (fun hb => ?_) (fun h2 => pk_eq (zp_bs p) 3 (fun hb => ?_) (fun h3 => pk_eq (zp_bs p) 4 (fun hb => ?_) (fun h4 => ?_) rfl rfl (by omega) (by omega)) rfl rfl (by omega) (by omega)) rfl rfl (by omega) (by omega))
  · obtain ⟨m, s, a1, a2, a3, a4, a5, a6⟩ := r2 hb
    exact Exists.intro (m + 1) (zx_rw9 hat a1 a2 a4 a5 a6 (fun z hz => hp z a_buffer hz) m 0 0 0 (by omega) (by rw [a3]; rfl) (by rw [a3]; exact zp_bp_0 _))
  · obtain ⟨d, w, ee, a1, a2, a3, a4, a5, a6⟩ := r3 hb
    refine And.intro hv ?_
    rw [nI_clamp (by omega), a1, zx_24]
    exact zx_pl (by omega) (fun k hk l1 l2 => ⟨17, zx_lw23 hat a2 a4 a3 a5 a6 hk l1 l2 (fun z hz => hp z a_buffer hz) 16 0 0 (by omega) (zp_bp_0 _)⟩)
  · obtain ⟨w, D, a2, a4, a6⟩ := r4 hb
    refine And.intro hv ?_
    rw [nI_clamp (by omega)]
    exact nm_e ⟨hv, nm_e ⟨17, zx_fw30 hat a2 a4 a6 (fun z hz => hp z a_buffer hz) 16 0 0 (by omega) (zp_bp_0 _)⟩⟩
  · exact zx_unpack hat h (fun B hB => ⟨17, zx_pw111 hB (fun z hz => hp z B hz) 16 0 0 (by omega) (zp_bp_0 _)⟩)
theorem zx_pw {post : Int32 → SX → Prop} {p : Nat → Int32} {at' : Nat} {lo ub : Int32} (hat : at' < 18) (h : (zp_ba a_formOf a_firstValue a_width a_leastStep a_many a_lowest a_highest a_taken a_words a_lengths at' p))
    (hp : ∀ z B, zp_bp z 16 (fun i => zp_wi (p i) lo ub) → post z (f_rowCount, f_patchCount, f_distinct, f_conditions, f_gathered, f_lowStep, a_isDeleted, a_formOf, a_firstValue, a_width, a_leastStep, a_many, a_lowest, a_highest, a_taken, a_words, a_lengths, a_loose, a_patchPlace, a_patchValue, B, a_sorted, a_conditionColumn, a_conditionLow, a_conditionHigh, a_chosenSet, a_gatheredValue, a_kept)) : wpX_packedWithin post (f_rowCount, f_patchCount, f_distinct, f_conditions, f_gathered, f_lowStep, a_isDeleted, a_formOf, a_firstValue, a_width, a_leastStep, a_many, a_lowest, a_highest, a_taken, a_words, a_lengths, a_loose, a_patchPlace, a_patchValue, a_buffer, a_sorted, a_conditionColumn, a_conditionLow, a_conditionHigh, a_chosenSet, a_gatheredValue, a_kept) (nI at') lo ub := by
  have h' := h
  obtain ⟨_, _, e3, e4, _⟩ := h'
  have hv := vp_in_nI hat (show 18 < 2 ^ 31 by omega)
  unfold wpX_packedWithin
  dsimp only
  rw [nI_clamp (by omega), e3, e4]
  refine br_c (fun q => hp 0 a_buffer (zp_bp_z (fun i hi => ?_))) (fun q => ⟨hv, br_c (fun q2 => hp 0 a_buffer (zp_bp_z (fun i hi => ?_))) (fun q2 => ⟨hv, br_c (fun q3 => ⟨hv, br_c (fun q4 => zx_pw50 hat h hp) (fun q4 => ⟨hv, br_c (fun q5 => zx_pw50 hat h hp) (fun q5 => hp 65535 a_buffer (zp_bp_congr zp_bp_all (fun i hi => ?_)))⟩)⟩) (fun q3 => hp 0 a_buffer (zp_bp_z (fun i hi => ?_)))⟩)⟩)
  · show zp_wi (p i) lo ub = false
    by_cases y : p i < lo
    · exact zp_wi_f1 y
    · apply zp_wi_f2
      rw [Int32.lt_iff_toInt_lt] at *
      omega
  · apply zp_wi_f1
    have := zp_mx_ge p 15 i (by omega)
    rw [Int32.le_iff_toInt_le] at this
    rw [Int32.lt_iff_toInt_lt] at *
    omega
  · refine (zp_wi_t ?_ ?_).symm
    · have := zp_mn_le p 15 i (by omega)
      rw [Int32.le_iff_toInt_le] at this
      rw [Int32.lt_iff_toInt_lt] at *
      omega
    · have := zp_mx_ge p 15 i (by omega)
      rw [Int32.le_iff_toInt_le] at this
      rw [Int32.lt_iff_toInt_lt] at *
      omega
  · apply zp_wi_f2
    have := zp_mn_le p 15 i (by omega)
    rw [Int32.le_iff_toInt_le] at this q3
    rw [Int32.lt_iff_toInt_lt] at *
    omega
theorem zx_px6 {post : Int32 → Prop} {pc b c : Nat} {pl : Nat → Nat} {p : Nat → Int32} {lo ub : Int32} (hc : pc ≤ 20) (hpp : ∀ k, k < pc → a_patchPlace k = nI (pl k) ∧ pl k < 288) (hb : b < 6) (hc3 : c < 3)
    (hp : ∀ z, zp_bp z 16 (fun i => zp_wi (zp_ov pl a_patchValue b c p pc i) lo ub) → post z) :
    ∀ e k z, k + e = pc → zp_bp z 16 (fun i => zp_wi (zp_ov pl a_patchValue b c p k i) lo ub) → (wX_patchedWithin_6 post (nI b) (nI c) lo ub f_rowCount (nI pc) f_distinct f_conditions f_gathered f_lowStep a_isDeleted a_formOf a_firstValue a_width a_leastStep a_many a_lowest a_highest a_taken a_words a_lengths a_loose a_patchPlace a_patchValue a_buffer a_sorted a_conditionColumn a_conditionLow a_conditionHigh a_chosenSet a_gatheredValue a_kept (e + 1) z (nI k)) := by
  intro e
  induction e with
  | zero =>
    intro k z hk h
    have e : k = pc := by omega
    subst e
    exact br_t (nI_le (by omega) (by omega)) (hp z h)
  | succ e ih =>
    intro k z hk h
    obtain ⟨p1, p2⟩ := hpp k (by omega)
    have hv : vp_in (nI k) 20 := vp_in_nI (by omega) (by omega)
    have skip : ¬ (pl k % 3 = c ∧ pl k / 3 / 16 = b) → (wX_patchedWithin_6 post (nI b) (nI c) lo ub f_rowCount (nI pc) f_distinct f_conditions f_gathered f_lowStep a_isDeleted a_formOf a_firstValue a_width a_leastStep a_many a_lowest a_highest a_taken a_words a_lengths a_loose a_patchPlace a_patchValue a_buffer a_sorted a_conditionColumn a_conditionLow a_conditionHigh a_chosenSet a_gatheredValue a_kept (e + 1) z (nI (k + 1))) := fun y => ih (k + 1) z (by omega) (zp_bp_congr h (fun i hi => by
      show _ = zp_wi (if pl k = 48 * b + 3 * i + c then a_patchValue k else zp_ov pl a_patchValue b c p k i) lo ub
      rw [if_neg (by omega)]))
    refine br_f (nI_ge (by omega) (by omega)) ⟨hv, zx_n3, ?_⟩
    rw [nI_clamp (by omega), p1, zx_m3 (by omega), zx_d3 (by omega)]
    refine nm_e ⟨hv, zx_n3, pk_eq (pl k % 3) c (fun y => ⟨zx_n16, ?_⟩) (fun y => nm_r (nI_1 k) (skip (by omega))) rfl rfl (by omega) (by omega)⟩
    rw [zx_m16 (by omega), zx_d16 (by omega)]
    refine pk_eq (pl k / 3 / 16) b (fun y2 => ⟨zx_n16, nm_e ⟨hv, zx_iw (fun q => br_f (by decide) (nm_e (nm_r (nI_1 k) (ih (k + 1) _ (by omega) (zp_bp_congr (zp_bp_s1 (i0 := pl k / 3 % 16) h (by omega)) (fun i hi => ?_)))))) (fun q => br_t rfl (nm_e (nm_r (nI_1 k) (ih (k + 1) _ (by omega) (zp_bp_congr (zp_bp_s0 (i0 := pl k / 3 % 16) h (by omega)) (fun i hi => ?_))))))⟩⟩) (fun y2 => nm_r (nI_1 k) (skip (by omega))) rfl rfl (by omega) (by omega)
    · show (if i = pl k / 3 % 16 then true else zp_wi (zp_ov pl a_patchValue b c p k i) lo ub) = zp_wi (if pl k = 48 * b + 3 * i + c then a_patchValue k else zp_ov pl a_patchValue b c p k i) lo ub
      by_cases y3 : i = pl k / 3 % 16
      · rw [if_pos y3, if_pos (by omega)]
        exact q.symm
      · rw [if_neg y3, if_neg (by omega)]
    · show (if i = pl k / 3 % 16 then false else zp_wi (zp_ov pl a_patchValue b c p k i) lo ub) = zp_wi (if pl k = 48 * b + 3 * i + c then a_patchValue k else zp_ov pl a_patchValue b c p k i) lo ub
      by_cases y3 : i = pl k / 3 % 16
      · rw [if_pos y3, if_pos (by omega)]
        exact q.symm
      · rw [if_neg y3, if_neg (by omega)]
theorem zx_lo6 {post : Int32 → Prop} {n c : Nat} {lo ub : Int32} (hn : n ≤ 96) (hc : c < 3) (hL : (zp_lo n a_loose a_values))
    (hp : ∀ z, zp_bp z (n % 16) (fun i => zp_wi (a_values (48 * (n / 16) + 3 * i + c)) lo ub) → post z) :
    ∀ e i z, i + e = n % 16 → zp_bp z i (fun i => zp_wi (a_values (48 * (n / 16) + 3 * i + c)) lo ub) → (wX_looseWithin_6 post (nI c) lo ub (nI n) f_patchCount f_distinct f_conditions f_gathered f_lowStep a_isDeleted a_formOf a_firstValue a_width a_leastStep a_many a_lowest a_highest a_taken a_words a_lengths a_loose a_patchPlace a_patchValue a_buffer a_sorted a_conditionColumn a_conditionLow a_conditionHigh a_chosenSet a_gatheredValue a_kept (e + 1) z (nI i)) := by
  intro e
  induction e with
  | zero =>
    intro i z hi hz
    have e : i = n % 16 := by omega
    subst e
    refine And.intro zx_n16 ?_
    rw [zx_m16 (by omega)]
    exact br_t (nI_le (by omega) (by omega)) (hp z hz)
  | succ e ih =>
    intro i z hi hz
    refine And.intro zx_n16 ?_
    rw [zx_m16 (by omega), zx_3a, nI_clamp (by omega), hL i c (by omega) hc]
    refine br_f (nI_ge (by omega) (by omega)) ⟨vp_in_nI (by omega) (by omega), ?_⟩
    exact zx_iw (fun q => br_f (by decide) (nm_e (nm_r (nI_1 i) (ih (i + 1) _ (by omega) (zp_bp_t hz (by omega) q))))) (fun q => br_t rfl (nm_r (nI_1 i) (ih (i + 1) z (by omega) (zp_bp_f hz q))))
end
end
section
/-! chosen rows -/
def zp_lv (n : Nat) (de : Nat → Int32) (r : Nat) : Bool := decide (r < n) && decide (de r = 0)
def zp_al (va : Nat → Int32) (cl : Nat → Nat) (lo hi : Nat → Int32) (r : Nat) : Nat → Bool
  | 0 => true
  | k + 1 => zp_al va cl lo hi r k && zp_wi (va (3 * r + cl k)) (lo k) (hi k)
def zp_ch (n nc : Nat) (cl : Nat → Nat) (go va lo hi : Nat → Int32) (r : Nat) : Bool := zp_lv n go r && zp_al va cl lo hi r nc
theorem zp_ch_ge {n nc : Nat} {cl : Nat → Nat} {go va lo hi : Nat → Int32} {r : Nat} (h : n ≤ r) : zp_ch n nc cl go va lo hi r = false := by
  unfold zp_ch zp_lv
  rw [decide_eq_false (show ¬ r < n by omega)]; rfl
theorem zp_al_mono {va : Nat → Int32} {cl : Nat → Nat} {lo hi : Nat → Int32} {r : Nat} {x : Bool} : ∀ d k, (x && zp_al va cl lo hi r k) = false → (x && zp_al va cl lo hi r (k + d)) = false := by
  intro d
  induction d with
  | zero => exact fun k h => h
  | succ d ih =>
    intro k h
    have e := ih k h
    show (x && (zp_al va cl lo hi r (k + d) && zp_wi _ _ _)) = false
    rw [← Bool.and_assoc, e]; rfl
theorem zp_ct_tail {f : Nat → Bool} {n : Nat} (h : ∀ r, n ≤ r → f r = false) : ∀ d, zp_ct f (n + d) = zp_ct f n := by
  intro d
  induction d with
  | zero => rfl
  | succ d ih =>
    rw [← ih]
    exact zp_ct_f (h (n + d) (by omega))
/-- the tests of a block: a condition that none of its packed values meets -/
def zp_ps (pk : Nat → Int32) (cl : Nat → Nat) (lo hi : Nat → Int32) (b k : Nat) : Bool := decide (zp_ct (fun i => zp_wi (pk (48 * b + 3 * i + cl k)) (lo k) (hi k)) 16 = 0)
def zp_pa (pk : Nat → Int32) (cl : Nat → Nat) (lo hi : Nat → Int32) (b : Nat) : Nat → Bool
  | 0 => false
  | k + 1 => zp_pa pk cl lo hi b k || zp_ps pk cl lo hi b k
section
variable {f_rowCount f_patchCount f_distinct f_conditions f_gathered : Int32} {f_lowStep : Int64} {a_isDeleted a_formOf a_firstValue a_width a_leastStep a_many a_lowest a_highest a_taken a_words a_lengths a_loose a_patchPlace a_patchValue a_buffer a_sorted a_conditionColumn a_conditionLow a_conditionHigh a_chosenSet a_gatheredValue a_kept : Nat → Int32} {a_values a_packed a_patched a_gone a_columns a_lows a_highs : Nat → Int32}
theorem zx_lv4 {post : Int32 → Prop} {n b : Nat} (hn : n ≤ 96) (hb : b < 6) (hp : ∀ z, zp_bp z 16 (fun i => zp_lv n a_isDeleted (16 * b + i)) → post z) :
    ∀ e i z, i + e = 16 → zp_bp z i (fun i => zp_lv n a_isDeleted (16 * b + i)) → (wX_liveSet_4 post (nI b) (nI n) f_patchCount f_distinct f_conditions f_gathered f_lowStep a_isDeleted a_formOf a_firstValue a_width a_leastStep a_many a_lowest a_highest a_taken a_words a_lengths a_loose a_patchPlace a_patchValue a_buffer a_sorted a_conditionColumn a_conditionLow a_conditionHigh a_chosenSet a_gatheredValue a_kept (e + 1) z (nI i)) := by
  intro e
  induction e with
  | zero =>
    intro i z hi hz
    have e : i = 16 := by omega
    subst e
    exact br_t (nI_le (a := 16) (by omega) (by omega)) (hp z hz)
  | succ e ih =>
    intro i z hi hz
    refine br_f (nI_ge (b := 16) (by omega) (by omega)) ?_
    rw [zx_16a]
    refine nm_e (pk_le n (16 * b + i) (fun q => nm_r (nI_1 i) (ih (i + 1) z (by omega) (zp_bp_f hz ?_))) (fun q => ⟨vp_in_nI (by omega) (by omega), ?_⟩) rfl rfl (by omega) (by omega))
    · show zp_lv n a_isDeleted (16 * b + i) = false
      unfold zp_lv
      rw [decide_eq_false (by omega)]; rfl
    · rw [nI_clamp (by omega)]
      refine br_c (fun y => nm_e (nm_r (nI_1 i) (ih (i + 1) _ (by omega) (zp_bp_t hz (by omega) ?_)))) (fun y => nm_r (nI_1 i) (ih (i + 1) z (by omega) (zp_bp_f hz ?_)))
      · show zp_lv n a_isDeleted (16 * b + i) = true
        unfold zp_lv
        rw [decide_eq_true q, decide_eq_true y]; rfl
      · show zp_lv n a_isDeleted (16 * b + i) = false
        unfold zp_lv
        rw [decide_eq_false y, Bool.and_false]
theorem zx_ch31 {post : SX → Prop} {J7 : Int32 → Int32 → Int32 → Int32 → Int32 → Int32 → Int64 → (Nat → Int32) → (Nat → Int32) → (Nat → Int32) → (Nat → Int32) → (Nat → Int32) → (Nat → Int32) → (Nat → Int32) → (Nat → Int32) → (Nat → Int32) → (Nat → Int32) → (Nat → Int32) → (Nat → Int32) → (Nat → Int32) → (Nat → Int32) → (Nat → Int32) → (Nat → Int32) → (Nat → Int32) → (Nat → Int32) → (Nat → Int32) → (Nat → Int32) → (Nat → Int32) → (Nat → Int32) → Prop}
    {n pc nc b : Nat} {cl : Nat → Nat} (hn : n ≤ 96) (hpc : pc ≤ 20) (hnc : nc ≤ 4) (hb : b ≤ n / 16) (hcl : ∀ k, k < nc → a_conditionColumn k = nI (cl k) ∧ cl k < 3) (hB : (zp_bl n a_formOf a_firstValue a_width a_leastStep a_many a_lowest a_highest a_taken a_words a_lengths a_packed)) (hL : (zp_lo n a_loose a_values)) (hP : (zp_pt n pc a_patchPlace a_patchValue a_values a_packed a_patched))
    (hJ : ∀ z B, zp_bp z 16 (fun i => zp_lv n a_isDeleted (16 * b + i) && zp_al a_values cl a_conditionLow a_conditionHigh (16 * b + i) nc) →
      J7 (nI (b + 1)) (nI n) (nI pc) f_distinct (nI nc) f_gathered f_lowStep a_isDeleted a_formOf a_firstValue a_width a_leastStep a_many a_lowest a_highest a_taken a_words a_lengths a_loose a_patchPlace a_patchValue B a_sorted a_conditionColumn a_conditionLow a_conditionHigh (upd a_chosenSet b z) a_gatheredValue a_kept) :
    ∀ e k z B, k + e = nc → zp_bp z 16 (fun i => zp_lv n a_isDeleted (16 * b + i) && zp_al a_values cl a_conditionLow a_conditionHigh (16 * b + i) k) →
      (wX_choose_31 post J7 (nI (n / 16)) (nI b) (e + 1) z (nI k) (nI n) (nI pc) f_distinct (nI nc) f_gathered f_lowStep a_isDeleted a_formOf a_firstValue a_width a_leastStep a_many a_lowest a_highest a_taken a_words a_lengths a_loose a_patchPlace a_patchValue B a_sorted a_conditionColumn a_conditionLow a_conditionHigh a_chosenSet a_gatheredValue a_kept) := by
  intro e
  induction e with
  | zero =>
    intro k z B hk hz
    have e : k = nc := by omega
    subst e
    exact br_t (nI_le (by omega) (by omega)) ⟨vp_in_nI (by omega) (by omega), nm_r (e' := upd a_chosenSet b z) (by rw [nI_clamp (by omega)]) (nm_r (nI_1 b) (hJ z B hz))⟩
  | succ e ih =>
    intro k z B hk hz
    obtain ⟨c1, c2⟩ := hcl k (by omega)
    have hv : vp_in (nI k) 4 := vp_in_nI (by omega) (by omega)
    refine br_f (nI_ge (by omega) (by omega)) (br_c (fun q => ⟨vp_in_nI (by omega) (by omega), nm_r (e' := upd a_chosenSet b z) (by rw [nI_clamp (by omega)]) (nm_r (nI_1 b) (hJ z B ?_))⟩) (fun q => ⟨hv, ?_⟩))
    · rw [q]
      apply zp_bp_z
      intro i hi
      have h0 := (zp_bp_eq0 hz (by omega)).mp q i hi
      have := zp_al_mono (nc - k) k h0
      rw [show k + (nc - k) = nc by omega] at this
      exact this
    · rw [nI_clamp (by omega), c1]
      refine nm_e ⟨hv, nm_e ⟨hv, nm_e (pk_eq b (n / 16) (fun y => ?_) (fun y => ?_) rfl rfl (by omega) (by omega))⟩⟩
      · refine Exists.intro (n % 16 + 1) (zx_lo6 hn c2 hL (fun t ht => nm_e (nm_r (nI_1 k) (ih (k + 1) _ B (by omega) ?_))) (n % 16) 0 0 (by omega) (zp_bp_0 _))
        intro i hi
        rw [b_and, hz i hi, ht i hi]
        show _ = (decide (i < 16) && (zp_lv n a_isDeleted (16 * b + i) && (zp_al a_values cl a_conditionLow a_conditionHigh (16 * b + i) k && zp_wi (a_values (3 * (16 * b + i) + cl k)) (a_conditionLow k) (a_conditionHigh k))))
        rw [show 3 * (16 * b + i) + cl k = 48 * (n / 16) + 3 * i + cl k by omega]
        by_cases hl : i < n % 16
        · rw [decide_eq_true hl, Bool.true_and]
          simp only [Bool.and_assoc]
        · have : zp_lv n a_isDeleted (16 * b + i) = false := by
            unfold zp_lv
            rw [decide_eq_false (by omega)]; rfl
          rw [this, decide_eq_false hl]
          simp
      · rw [zx_3a]
        obtain ⟨pl, hpl⟩ := hP
        refine zx_pw (by omega) (hB b (cl k) (by omega) c2) (fun t B' ht => Exists.intro (pc + 1) (zx_px6 hpc (fun k hk => ⟨(hpl.1 k hk).1, by have := (hpl.1 k hk).2.1; omega⟩) (by omega) c2 (fun t' ht' => nm_e (nm_r (nI_1 k) (ih (k + 1) _ B' (by omega) ?_))) pc 0 t (by omega) ht))
        refine zp_bp_congr (zp_bp_and hz ht') (fun i hi => ?_)
        show (zp_lv n a_isDeleted (16 * b + i) && zp_al a_values cl a_conditionLow a_conditionHigh (16 * b + i) k && zp_wi (zp_ov pl a_patchValue b (cl k) (fun i => a_packed (48 * b + 3 * i + cl k)) pc i) (a_conditionLow k) (a_conditionHigh k)) = (zp_lv n a_isDeleted (16 * b + i) && (zp_al a_values cl a_conditionLow a_conditionHigh (16 * b + i) k && zp_wi (a_values (3 * (16 * b + i) + cl k)) (a_conditionLow k) (a_conditionHigh k)))
        rw [zp_ov_end hpl (by omega) c2 hi, show 3 * (16 * b + i) + cl k = 48 * b + 3 * i + cl k by omega, Bool.and_assoc]
theorem zx_ch7 {post : SX → Prop} {n pc nc : Nat} {cl : Nat → Nat} (hn : n ≤ 96) (hpc : pc ≤ 20) (hnc : nc ≤ 4) (hcl : ∀ k, k < nc → a_conditionColumn k = nI (cl k) ∧ cl k < 3) (hB : (zp_bl n a_formOf a_firstValue a_width a_leastStep a_many a_lowest a_highest a_taken a_words a_lengths a_packed)) (hL : (zp_lo n a_loose a_values)) (hP : (zp_pt n pc a_patchPlace a_patchValue a_values a_packed a_patched))
    (hp : ∀ B cs, (∀ b, b ≤ n / 16 → zp_bp (cs b) 16 (fun i => zp_ch n nc cl a_isDeleted a_values a_conditionLow a_conditionHigh (16 * b + i))) → post (nI n, nI pc, f_distinct, nI nc, f_gathered, f_lowStep, a_isDeleted, a_formOf, a_firstValue, a_width, a_leastStep, a_many, a_lowest, a_highest, a_taken, a_words, a_lengths, a_loose, a_patchPlace, a_patchValue, B, a_sorted, a_conditionColumn, a_conditionLow, a_conditionHigh, cs, a_gatheredValue, a_kept)) :
    ∀ e b B cs, b + e = n / 16 + 1 → (∀ b', b' < b → zp_bp (cs b') 16 (fun i => zp_ch n nc cl a_isDeleted a_values a_conditionLow a_conditionHigh (16 * b' + i))) →
      (wX_choose_7 post (nI (n / 16)) (e + 1) (nI b) (nI n) (nI pc) f_distinct (nI nc) f_gathered f_lowStep a_isDeleted a_formOf a_firstValue a_width a_leastStep a_many a_lowest a_highest a_taken a_words a_lengths a_loose a_patchPlace a_patchValue B a_sorted a_conditionColumn a_conditionLow a_conditionHigh cs a_gatheredValue a_kept) := by
  intro e
  induction e with
  | zero =>
    intro b B cs hb h
    exact br_t (nI_lt (by omega) (by omega)) (hp B cs (fun b' hb' => h b' (by omega)))
  | succ e ih =>
    intro b B cs hb h
    have go : ∀ z B', zp_bp z 16 (fun i => zp_lv n a_isDeleted (16 * b + i) && zp_al a_values cl a_conditionLow a_conditionHigh (16 * b + i) nc) →
        (wX_choose_7 post (nI (n / 16)) (e + 1) (nI (b + 1)) (nI n) (nI pc) f_distinct (nI nc) f_gathered f_lowStep a_isDeleted a_formOf a_firstValue a_width a_leastStep a_many a_lowest a_highest a_taken a_words a_lengths a_loose a_patchPlace a_patchValue B' a_sorted a_conditionColumn a_conditionLow a_conditionHigh (upd cs b z) a_gatheredValue a_kept) := by
      intro z B' hz
      refine ih (b + 1) B' _ (by omega) (fun b' hb' => ?_)
      by_cases q : b' = b
      · rw [q, pk_us]
        exact hz
      · rw [pk_un q]
        exact h b' (by omega)
    refine br_f (nI_nlt (by omega) (by omega)) (pk_le 6 b (fun q => ⟨nc + 1, ?_⟩) (fun q => ?_) rfl rfl (by omega) (by omega))
    · refine zx_ch31 hn hpc hnc (by omega) hcl hB hL hP go nc 0 0 B (by omega) (zp_bp_z (fun i hi => ?_))
      show (zp_lv n a_isDeleted (16 * b + i) && true) = false
      unfold zp_lv
      rw [decide_eq_false (by omega)]; rfl
    · refine Exists.intro 17 (zx_lv4 hn q (fun z hz => ⟨nc + 1, zx_ch31 hn hpc hnc (by omega) hcl hB hL hP go nc 0 z B (by omega) (zp_bp_congr hz (fun i hi => ?_))⟩) 16 0 0 (by omega) (zp_bp_0 _))
      show _ = (zp_lv n a_isDeleted (16 * b + i) && true)
      rw [Bool.and_true]
theorem zx_choose {post : SX → Prop} {n pc nc : Nat} {cl : Nat → Nat} (hn : n ≤ 96) (hpc : pc ≤ 20) (hnc : nc ≤ 4) (hcl : ∀ k, k < nc → a_conditionColumn k = nI (cl k) ∧ cl k < 3) (hB : (zp_bl n a_formOf a_firstValue a_width a_leastStep a_many a_lowest a_highest a_taken a_words a_lengths a_packed)) (hL : (zp_lo n a_loose a_values)) (hP : (zp_pt n pc a_patchPlace a_patchValue a_values a_packed a_patched))
    (hp : ∀ B cs, (∀ b, b ≤ n / 16 → zp_bp (cs b) 16 (fun i => zp_ch n nc cl a_isDeleted a_values a_conditionLow a_conditionHigh (16 * b + i))) → post (nI n, nI pc, f_distinct, nI nc, f_gathered, f_lowStep, a_isDeleted, a_formOf, a_firstValue, a_width, a_leastStep, a_many, a_lowest, a_highest, a_taken, a_words, a_lengths, a_loose, a_patchPlace, a_patchValue, B, a_sorted, a_conditionColumn, a_conditionLow, a_conditionHigh, cs, a_gatheredValue, a_kept)) :
    wpX_choose post (nI n, nI pc, f_distinct, nI nc, f_gathered, f_lowStep, a_isDeleted, a_formOf, a_firstValue, a_width, a_leastStep, a_many, a_lowest, a_highest, a_taken, a_words, a_lengths, a_loose, a_patchPlace, a_patchValue, a_buffer, a_sorted, a_conditionColumn, a_conditionLow, a_conditionHigh, a_chosenSet, a_gatheredValue, a_kept) := by
  unfold wpX_choose
  exact zx_bc (by omega) ⟨n / 16 + 2, zx_ch7 hn hpc hnc hcl hB hL hP hp (n / 16 + 1) 0 a_buffer a_chosenSet (by omega) (fun b' hb' => absurd hb' (by omega))⟩
theorem zx_isP {post : Int32 → SX → Prop} {n nc b k : Nat} {cl : Nat → Nat} (hn : n ≤ 96) (hk : k < nc) (hnc : nc ≤ 4) (hb : b < n / 16) (hcl : ∀ k, k < nc → a_conditionColumn k = nI (cl k) ∧ cl k < 3) (hB : (zp_bl n a_formOf a_firstValue a_width a_leastStep a_many a_lowest a_highest a_taken a_words a_lengths a_packed))
    (h1 : zp_ps a_packed cl a_conditionLow a_conditionHigh b k = true → ∀ B, post 1 (f_rowCount, f_patchCount, f_distinct, f_conditions, f_gathered, f_lowStep, a_isDeleted, a_formOf, a_firstValue, a_width, a_leastStep, a_many, a_lowest, a_highest, a_taken, a_words, a_lengths, a_loose, a_patchPlace, a_patchValue, B, a_sorted, a_conditionColumn, a_conditionLow, a_conditionHigh, a_chosenSet, a_gatheredValue, a_kept)) (h0 : zp_ps a_packed cl a_conditionLow a_conditionHigh b k = false → ∀ B, post 0 (f_rowCount, f_patchCount, f_distinct, f_conditions, f_gathered, f_lowStep, a_isDeleted, a_formOf, a_firstValue, a_width, a_leastStep, a_many, a_lowest, a_highest, a_taken, a_words, a_lengths, a_loose, a_patchPlace, a_patchValue, B, a_sorted, a_conditionColumn, a_conditionLow, a_conditionHigh, a_chosenSet, a_gatheredValue, a_kept)) : wpX_isPassed post (f_rowCount, f_patchCount, f_distinct, f_conditions, f_gathered, f_lowStep, a_isDeleted, a_formOf, a_firstValue, a_width, a_leastStep, a_many, a_lowest, a_highest, a_taken, a_words, a_lengths, a_loose, a_patchPlace, a_patchValue, a_buffer, a_sorted, a_conditionColumn, a_conditionLow, a_conditionHigh, a_chosenSet, a_gatheredValue, a_kept) (nI b) (nI k) := by
  obtain ⟨c1, c2⟩ := hcl k hk
  have hv : vp_in (nI k) 4 := vp_in_nI (by omega) (by omega)
  unfold wpX_isPassed
  dsimp only
  rw [nI_clamp (by omega), c1, zx_3a]
  refine ⟨hv, nm_e ⟨hv, hv, zx_pw (by omega) (hB b (cl k) hb c2) (fun z B hz => br_c (fun q => h1 ?_ B) (fun q => h0 ?_ B))⟩⟩
  · exact decide_eq_true (zp_ct_zero 16 ((zp_bp_eq0 hz (by omega)).mp q))
  · exact decide_eq_false (fun y => q ((zp_bp_eq0 hz (by omega)).mpr (zp_ct_none 16 y)))
theorem zx_ps17 {post : Int32 → SX → Prop} {J4 : Int32 → Int32 → Int32 → Int32 → Int32 → Int32 → Int32 → Int64 → (Nat → Int32) → (Nat → Int32) → (Nat → Int32) → (Nat → Int32) → (Nat → Int32) → (Nat → Int32) → (Nat → Int32) → (Nat → Int32) → (Nat → Int32) → (Nat → Int32) → (Nat → Int32) → (Nat → Int32) → (Nat → Int32) → (Nat → Int32) → (Nat → Int32) → (Nat → Int32) → (Nat → Int32) → (Nat → Int32) → (Nat → Int32) → (Nat → Int32) → (Nat → Int32) → (Nat → Int32) → Prop}
    {n nc b t : Nat} {cl : Nat → Nat} (hn : n ≤ 96) (hnc : nc ≤ 4) (hb : b < n / 16) (hcl : ∀ k, k < nc → a_conditionColumn k = nI (cl k) ∧ cl k < 3) (hB : (zp_bl n a_formOf a_firstValue a_width a_leastStep a_many a_lowest a_highest a_taken a_words a_lengths a_packed))
    (hJ : ∀ B, J4 (nI (t + if zp_pa a_packed cl a_conditionLow a_conditionHigh b nc = true then 1 else 0)) (nI (b + 1)) f_rowCount f_patchCount f_distinct (nI nc) f_gathered f_lowStep a_isDeleted a_formOf a_firstValue a_width a_leastStep a_many a_lowest a_highest a_taken a_words a_lengths a_loose a_patchPlace a_patchValue B a_sorted a_conditionColumn a_conditionLow a_conditionHigh a_chosenSet a_gatheredValue a_kept) :
    ∀ e k x B, k + e = nc → x = (if zp_pa a_packed cl a_conditionLow a_conditionHigh b k = true then (1 : Int32) else 0) → (wX_passed_17 post J4 (nI t) (nI b) (e + 1) x (nI k) f_rowCount f_patchCount f_distinct (nI nc) f_gathered f_lowStep a_isDeleted a_formOf a_firstValue a_width a_leastStep a_many a_lowest a_highest a_taken a_words a_lengths a_loose a_patchPlace a_patchValue B a_sorted a_conditionColumn a_conditionLow a_conditionHigh a_chosenSet a_gatheredValue a_kept) := by
  intro e
  induction e with
  | zero =>
    intro k x B hk hx
    have e : k = nc := by omega
    subst e
    refine br_t (nI_le (by omega) (by omega)) ?_
    have g := hJ B
    cases q : zp_pa a_packed cl a_conditionLow a_conditionHigh b k
    · rw [q, if_neg (by decide)] at g hx
      exact br_t hx (nm_r (nI_1 b) g)
    · rw [q, if_pos rfl] at g hx
      exact br_f (by rw [hx]; decide) (nm_r (nI_1 t) (nm_r (nI_1 b) g))
  | succ e ih =>
    intro k x B hk hx
    have hs : zp_pa a_packed cl a_conditionLow a_conditionHigh b (k + 1) = (zp_pa a_packed cl a_conditionLow a_conditionHigh b k || zp_ps a_packed cl a_conditionLow a_conditionHigh b k) := rfl
    refine br_f (nI_ge (by omega) (by omega)) ?_
    cases q : zp_pa a_packed cl a_conditionLow a_conditionHigh b k
    · rw [q, if_neg (by decide)] at hx
      refine br_t hx (zx_isP hn (by omega) hnc hb hcl hB (fun y B' => br_f (by decide) (nm_r (nI_1 k) (ih (k + 1) 1 B' (by omega) ?_))) (fun y B' => br_t rfl (nm_r (nI_1 k) (ih (k + 1) 0 B' (by omega) ?_))))
      · rw [hs, y, Bool.or_true, if_pos rfl]
      · rw [hs, q, y]; rfl
    · rw [q, if_pos rfl] at hx
      exact br_f (by rw [hx]; decide) (nm_r (nI_1 k) (ih (k + 1) 1 B (by omega) (by rw [hs, q, Bool.true_or, if_pos rfl])))
theorem zx_ps4 {post : Int32 → SX → Prop} {n nc : Nat} {cl : Nat → Nat} (hn : n ≤ 96) (hnc : nc ≤ 4) (hcl : ∀ k, k < nc → a_conditionColumn k = nI (cl k) ∧ cl k < 3) (hB : (zp_bl n a_formOf a_firstValue a_width a_leastStep a_many a_lowest a_highest a_taken a_words a_lengths a_packed))
    (hp : ∀ B, post (nI (zp_ct (fun b => zp_pa a_packed cl a_conditionLow a_conditionHigh b nc) (n / 16))) (nI n, f_patchCount, f_distinct, nI nc, f_gathered, f_lowStep, a_isDeleted, a_formOf, a_firstValue, a_width, a_leastStep, a_many, a_lowest, a_highest, a_taken, a_words, a_lengths, a_loose, a_patchPlace, a_patchValue, B, a_sorted, a_conditionColumn, a_conditionLow, a_conditionHigh, a_chosenSet, a_gatheredValue, a_kept)) :
    ∀ e b B, b + e = n / 16 → (wX_passed_4 post (e + 1) (nI (zp_ct (fun b => zp_pa a_packed cl a_conditionLow a_conditionHigh b nc) b)) (nI b) (nI n) f_patchCount f_distinct (nI nc) f_gathered f_lowStep a_isDeleted a_formOf a_firstValue a_width a_leastStep a_many a_lowest a_highest a_taken a_words a_lengths a_loose a_patchPlace a_patchValue B a_sorted a_conditionColumn a_conditionLow a_conditionHigh a_chosenSet a_gatheredValue a_kept) := by
  intro e
  induction e with
  | zero =>
    intro b B hb
    have e : b = n / 16 := by omega
    subst e
    refine And.intro zx_n16 ?_
    rw [zx_d16 (by omega)]
    exact br_t (nI_le (by omega) (by omega)) (hp B)
  | succ e ih =>
    intro b B hb
    refine And.intro zx_n16 ?_
    rw [zx_d16 (by omega)]
    exact (br_f (nI_ge (by omega) (by omega)) ⟨nc + 1, zx_ps17 hn hnc (by omega) hcl hB (fun B' => ih (b + 1) B' (by omega)) nc 0 0 B (by omega) rfl⟩)
theorem zx_passed {post : Int32 → SX → Prop} {n nc : Nat} {cl : Nat → Nat} (hn : n ≤ 96) (hnc : nc ≤ 4) (hcl : ∀ k, k < nc → a_conditionColumn k = nI (cl k) ∧ cl k < 3) (hB : (zp_bl n a_formOf a_firstValue a_width a_leastStep a_many a_lowest a_highest a_taken a_words a_lengths a_packed))
    (hp : ∀ B, post (nI (zp_ct (fun b => zp_pa a_packed cl a_conditionLow a_conditionHigh b nc) (n / 16))) (nI n, f_patchCount, f_distinct, nI nc, f_gathered, f_lowStep, a_isDeleted, a_formOf, a_firstValue, a_width, a_leastStep, a_many, a_lowest, a_highest, a_taken, a_words, a_lengths, a_loose, a_patchPlace, a_patchValue, B, a_sorted, a_conditionColumn, a_conditionLow, a_conditionHigh, a_chosenSet, a_gatheredValue, a_kept)) :
    wpX_passed post (nI n, f_patchCount, f_distinct, nI nc, f_gathered, f_lowStep, a_isDeleted, a_formOf, a_firstValue, a_width, a_leastStep, a_many, a_lowest, a_highest, a_taken, a_words, a_lengths, a_loose, a_patchPlace, a_patchValue, a_buffer, a_sorted, a_conditionColumn, a_conditionLow, a_conditionHigh, a_chosenSet, a_gatheredValue, a_kept) := Exists.intro (n / 16 + 1) (zx_ps4 hn hnc hcl hB hp (n / 16) 0 a_buffer (by omega))
theorem zx_bits4 {post : Int32 → Prop} {s : Int32} {f : Nat → Bool} (h : zp_bp s 16 f) (hp : post (nI (zp_ct f 16))) :
    ∀ e i, i + e = 16 → (wX_bitsOf_4 post s f_rowCount f_patchCount f_distinct f_conditions f_gathered f_lowStep a_isDeleted a_formOf a_firstValue a_width a_leastStep a_many a_lowest a_highest a_taken a_words a_lengths a_loose a_patchPlace a_patchValue a_buffer a_sorted a_conditionColumn a_conditionLow a_conditionHigh a_chosenSet a_gatheredValue a_kept (e + 1) (nI (zp_ct f i)) (nI i)) := by
  intro e
  induction e with
  | zero =>
    intro i hi
    have e : i = 16 := by omega
    subst e
    exact br_t (nI_le (a := 16) (by omega) (by omega)) hp
  | succ e ih =>
    intro i hi
    refine br_f (nI_ge (b := 16) (by omega) (by omega)) (nm_r (e' := nI (zp_ct f (i + 1))) ?_ (nm_r (nI_1 i) (ih (i + 1) (by omega))))
    rw [zp_bit_n s (by omega), zp_bp_bt h (by omega) (by omega), nI_add]
    rfl
theorem zx_bits {post : Int32 → Prop} {s : Int32} {f : Nat → Bool} (h : zp_bp s 16 f) (hp : post (nI (zp_ct f 16))) : wpX_bitsOf post (f_rowCount, f_patchCount, f_distinct, f_conditions, f_gathered, f_lowStep, a_isDeleted, a_formOf, a_firstValue, a_width, a_leastStep, a_many, a_lowest, a_highest, a_taken, a_words, a_lengths, a_loose, a_patchPlace, a_patchValue, a_buffer, a_sorted, a_conditionColumn, a_conditionLow, a_conditionHigh, a_chosenSet, a_gatheredValue, a_kept) s :=
  Exists.intro 17 (zx_bits4 h hp 16 0 (by omega))
theorem zx_ct8 {post : Int32 → SX → Prop} {n : Nat} {ch : Nat → Bool} (hn : n ≤ 96) (hc : ∀ r, n ≤ r → ch r = false) (h : ∀ b, b ≤ n / 16 → zp_bp (a_chosenSet b) 16 (fun i => ch (16 * b + i)))
    (hp : post (nI (zp_ct ch n)) (nI n, f_patchCount, f_distinct, f_conditions, f_gathered, f_lowStep, a_isDeleted, a_formOf, a_firstValue, a_width, a_leastStep, a_many, a_lowest, a_highest, a_taken, a_words, a_lengths, a_loose, a_patchPlace, a_patchValue, a_buffer, a_sorted, a_conditionColumn, a_conditionLow, a_conditionHigh, a_chosenSet, a_gatheredValue, a_kept)) :
    ∀ e b, b + e = n / 16 + 1 → (wX_count_8 post (nI n) f_patchCount f_distinct f_conditions f_gathered f_lowStep a_isDeleted a_formOf a_firstValue a_width a_leastStep a_many a_lowest a_highest a_taken a_words a_lengths a_loose a_patchPlace a_patchValue a_buffer a_sorted a_conditionColumn a_conditionLow a_conditionHigh a_chosenSet a_gatheredValue a_kept (e + 1) (nI (zp_ct ch (16 * b))) (nI b)) := by
  intro e
  induction e with
  | zero =>
    intro b hb
    have e : zp_ct ch (16 * b) = zp_ct ch n := by
      rw [show 16 * b = n + (16 * b - n) by omega]
      exact zp_ct_tail hc _
    rw [e]
    refine And.intro zx_n16 ?_
    rw [zx_d16 (by omega)]
    exact br_t (nI_lt (by omega) (by omega)) hp
  | succ e ih =>
    intro b hb
    refine And.intro zx_n16 ?_
    rw [zx_d16 (by omega)]
    refine (br_f (nI_nlt (by omega) (by omega)) ⟨vp_in_nI (by omega) (by omega), ?_⟩)
    rw [nI_clamp (by omega)]
    refine zx_bits (h b (by omega)) (nm_r (e' := nI (zp_ct ch (16 * (b + 1)))) ?_ (nm_r (nI_1 b) (ih (b + 1) (by omega))))
    rw [nI_add, show 16 * (b + 1) = 16 * b + 16 by omega, zp_ct_add]
theorem zx_po8 {post : Int32 → Prop} {s : Int32} {f : Nat → Bool} {k i0 : Nat} (h : zp_bp s 16 f) (hi0 : i0 < 16) (hf : f i0 = true) (hk : zp_ct f i0 = k) (hp : post (nI i0)) :
    ∀ e i x, i + e = 16 → x = (if i0 < i then nI i0 else 0) → (wX_placeOf_8 post s (nI k) f_rowCount f_patchCount f_distinct f_conditions f_gathered f_lowStep a_isDeleted a_formOf a_firstValue a_width a_leastStep a_many a_lowest a_highest a_taken a_words a_lengths a_loose a_patchPlace a_patchValue a_buffer a_sorted a_conditionColumn a_conditionLow a_conditionHigh a_chosenSet a_gatheredValue a_kept (e + 1) (nI (zp_ct f i)) x (nI i)) := by
  intro e
  induction e with
  | zero =>
    intro i x hi hx
    rw [if_pos (by omega)] at hx
    subst hx
    have e : i = 16 := by omega
    subst e
    exact br_t (nI_le (a := 16) (by omega) (by omega)) hp
  | succ e ih =>
    intro i x hi hx
    have hbt : bt s i = f i := zp_bp_bt h (by omega) (by omega)
    have hle := zp_ct_le f i
    have hk16 := zp_ct_le f i0
    refine br_f (nI_ge (b := 16) (by omega) (by omega)) (br_c (fun q => ?_) (fun q => ?_))
    · have hfi : f i = true := by rw [← hbt]; exact (zp_bit1 s (by omega)).mp q
      have hct : zp_ct f (i + 1) = zp_ct f i + 1 := zp_ct_t hfi
      refine br_f (by decide) (pk_eq (zp_ct f i) k (fun y => ?_) (fun y => ?_) rfl rfl (by omega) (by omega))
      · have ei : i = i0 := zp_ct_inj f hfi hf (by omega)
        refine br_f (by decide) (nm_r (e' := nI (zp_ct f (i + 1))) (by rw [nI_1, hct]) (nm_r (nI_1 i) (ih (i + 1) _ (by omega) ?_)))
        rw [if_pos (by omega), ei]
      · have ei : i ≠ i0 := fun z => y (by rw [z]; exact hk)
        refine br_f (by decide) (nm_r (e' := nI (zp_ct f (i + 1))) (by rw [nI_1, hct]) (nm_r (nI_1 i) (ih (i + 1) _ (by omega) ?_)))
        rw [hx]
        by_cases z : i0 < i
        · rw [if_pos z, if_pos (by omega)]
        · rw [if_neg z, if_neg (by omega)]
    · have hfi : f i = false := by
        cases z : f i
        · rfl
        · exact absurd ((zp_bit1 s (by omega)).mpr (by rw [hbt]; exact z)) q
      have ei : i ≠ i0 := fun z => by rw [z, hf] at hfi; exact absurd hfi (by decide)
      have hct : zp_ct f (i + 1) = zp_ct f i := zp_ct_f hfi
      have g := ih (i + 1) x (by omega) (by
        rw [hx]
        by_cases z : i0 < i
        · rw [if_pos z, if_pos (by omega)]
        · rw [if_neg z, if_neg (by omega)])
      rw [hct] at g
      exact br_t rfl (br_t rfl (nm_r (nI_1 i) g))
theorem zx_cn8 {post : Int32 → SX → Prop} {n K : Nat} {ch : Nat → Bool} (hn : n ≤ 96) (hK : K < 2 ^ 31) (hc : ∀ r, n ≤ r → ch r = false) (h : ∀ b, b ≤ n / 16 → zp_bp (a_chosenSet b) 16 (fun i => ch (16 * b + i)))
    (h1 : ∀ r, r < n → ch r = true → zp_ct ch r = K → post (nI r) (nI n, f_patchCount, f_distinct, f_conditions, f_gathered, f_lowStep, a_isDeleted, a_formOf, a_firstValue, a_width, a_leastStep, a_many, a_lowest, a_highest, a_taken, a_words, a_lengths, a_loose, a_patchPlace, a_patchValue, a_buffer, a_sorted, a_conditionColumn, a_conditionLow, a_conditionHigh, a_chosenSet, a_gatheredValue, a_kept)) (h2 : zp_ct ch n ≤ K → post (-1000000003) (nI n, f_patchCount, f_distinct, f_conditions, f_gathered, f_lowStep, a_isDeleted, a_formOf, a_firstValue, a_width, a_leastStep, a_many, a_lowest, a_highest, a_taken, a_words, a_lengths, a_loose, a_patchPlace, a_patchValue, a_buffer, a_sorted, a_conditionColumn, a_conditionLow, a_conditionHigh, a_chosenSet, a_gatheredValue, a_kept)) :
    ∀ e b, b + e = n / 16 + 1 → zp_ct ch (16 * b) ≤ K → (wX_chosen_8 post (nI n) f_patchCount f_distinct f_conditions f_gathered f_lowStep a_isDeleted a_formOf a_firstValue a_width a_leastStep a_many a_lowest a_highest a_taken a_words a_lengths a_loose a_patchPlace a_patchValue a_buffer a_sorted a_conditionColumn a_conditionLow a_conditionHigh a_chosenSet a_gatheredValue a_kept (e + 1) (nI (K - zp_ct ch (16 * b))) (nI b)) := by
  intro e
  induction e with
  | zero =>
    intro b hb hle
    have e : zp_ct ch (16 * b) = zp_ct ch n := by
      rw [show 16 * b = n + (16 * b - n) by omega]
      exact zp_ct_tail hc _
    refine And.intro zx_n16 ?_
    rw [zx_d16 (by omega)]
    exact br_t (nI_lt (by omega) (by omega)) (h2 (by omega))
  | succ e ih =>
    intro b hb hle
    have ha : zp_ct ch (16 * (b + 1)) = zp_ct ch (16 * b) + zp_ct (fun i => ch (16 * b + i)) 16 := by
      rw [show 16 * (b + 1) = 16 * b + 16 by omega, zp_ct_add]
    have hl := zp_ct_le (fun i => ch (16 * b + i)) 16
    refine And.intro zx_n16 ?_
    rw [zx_d16 (by omega)]
    refine (br_f (nI_nlt (by omega) (by omega)) (br_f (nI_pos (by omega)) ⟨vp_in_nI (by omega) (by omega), ?_⟩))
    rw [nI_clamp (by omega)]
    refine zx_bits (h b (by omega)) (pk_le _ _ (fun q => nm_r (e' := nI (K - zp_ct ch (16 * (b + 1)))) ?_ (nm_r (nI_1 b) (ih (b + 1) (by omega) (by omega)))) (fun q => ⟨vp_in_nI (by omega) (by omega), ?_⟩) rfl rfl (by omega) (by omega))
    · rw [pk_sub q]
      congr 1
      omega
    · obtain ⟨i0, hi0, hf, hct⟩ := zp_ct_nth (fun i => ch (16 * b + i)) 16 q
      refine Exists.intro 17 (zx_po8 (h b (by omega)) hi0 hf hct ?_ 16 0 0 (by omega) rfl)
      rw [zx_16a]
      have hch : ch (16 * b + i0) = true := hf
      refine h1 (16 * b + i0) ?_ hch ?_
      · rcases Nat.lt_or_ge (16 * b + i0) n with z | z
        · exact z
        · rw [hc _ z] at hch
          exact absurd hch (by decide)
      · rw [zp_ct_add, hct]
        omega
/-- the values of the chosen rows, one behind another -/
def zp_ga (gv : Nat → Int32) (ch : Nat → Bool) (f : Nat → Int32) (m : Nat) : Prop := ∀ r, r < m → ch r = true → gv (zp_ct ch r) = f r
theorem zx_gb2 {post : SX → Prop} {s : Int32} {b n : Nat} {ch : Nat → Bool} {f : Nat → Int32} (hn : n ≤ 96) (hb : b ≤ 6) (hc : ∀ r, n ≤ r → ch r = false) (h : zp_bp s 16 (fun i => ch (16 * b + i))) (hB : ∀ i, i < 16 → 16 * b + i < n → a_buffer i = f (16 * b + i))
    (hp : ∀ gv, zp_ga gv ch f (16 * b + 16) → post (f_rowCount, f_patchCount, f_distinct, f_conditions, nI (zp_ct ch (16 * b + 16)), f_lowStep, a_isDeleted, a_formOf, a_firstValue, a_width, a_leastStep, a_many, a_lowest, a_highest, a_taken, a_words, a_lengths, a_loose, a_patchPlace, a_patchValue, a_buffer, a_sorted, a_conditionColumn, a_conditionLow, a_conditionHigh, a_chosenSet, gv, a_kept)) :
    ∀ e i gv, i + e = 16 → zp_ga gv ch f (16 * b + i) → (wX_gatherBlock_2 post s f_rowCount f_patchCount f_distinct f_conditions f_lowStep (e + 1) (nI i) (nI (zp_ct ch (16 * b + i))) a_isDeleted a_formOf a_firstValue a_width a_leastStep a_many a_lowest a_highest a_taken a_words a_lengths a_loose a_patchPlace a_patchValue a_buffer a_sorted a_conditionColumn a_conditionLow a_conditionHigh a_chosenSet gv a_kept) := by
  intro e
  induction e with
  | zero =>
    intro i gv hi hg
    have e : i = 16 := by omega
    subst e
    exact br_t (nI_le (a := 16) (by omega) (by omega)) (hp gv hg)
  | succ e ih =>
    intro i gv hi hg
    have hbt : bt s i = ch (16 * b + i) := zp_bp_bt h (by omega) (by omega)
    refine br_f (nI_ge (b := 16) (by omega) (by omega)) (br_c (fun q => ?_) (fun q => ?_))
    · have hfi : ch (16 * b + i) = true := by rw [← hbt]; exact (zp_bit1 s (by omega)).mp q
      have hrn : 16 * b + i < n := by
        rcases Nat.lt_or_ge (16 * b + i) n with z | z
        · exact z
        · rw [hc _ z] at hfi
          exact absurd hfi (by decide)
      have hle := zp_ct_le ch (16 * b + i)
      have g := ih (i + 1) (upd gv (zp_ct ch (16 * b + i)) (f (16 * b + i))) (by omega) (by
        intro r hr hcr
        by_cases z : r = 16 * b + i
        · rw [z, pk_us]
        · rw [pk_un (fun y => z (zp_ct_inj ch hcr hfi y))]
          exact hg r (by omega) hcr)
      rw [show 16 * b + (i + 1) = 16 * b + i + 1 by omega, zp_ct_t hfi, ← hB i (by omega) hrn] at g
      refine ⟨vp_in_nI (by omega) (by omega), vp_in_nI (by omega) (by omega), nm_r (e' := upd gv (zp_ct ch (16 * b + i)) (a_buffer i)) (by rw [nI_clamp (by omega), nI_clamp (by omega)]) (nm_r (nI_1 _) (nm_r (nI_1 i) g))⟩
    · have hfi : ch (16 * b + i) = false := by
        cases z : ch (16 * b + i)
        · rfl
        · exact absurd ((zp_bit1 s (by omega)).mpr (by rw [hbt]; exact z)) q
      have g := ih (i + 1) gv (by omega) (by
        intro r hr hcr
        rcases Nat.lt_or_ge r (16 * b + i) with z | z
        · exact hg r z hcr
        · rw [show r = 16 * b + i by omega, hfi] at hcr
          exact absurd hcr (by decide))
      rw [show 16 * b + (i + 1) = 16 * b + i + 1 by omega, zp_ct_f hfi] at g
      exact nm_r (nI_1 i) g
theorem zx_ga16 {post : SX → Prop} {n pc nc c : Nat} {ch : Nat → Bool} (hn : n ≤ 96) (hpc : pc ≤ 20) (hc3 : c < 3) (hB : (zp_bl n a_formOf a_firstValue a_width a_leastStep a_many a_lowest a_highest a_taken a_words a_lengths a_packed)) (hL : (zp_lo n a_loose a_values)) (hP : (zp_pt n pc a_patchPlace a_patchValue a_values a_packed a_patched))
    (hc : ∀ r, n ≤ r → ch r = false) (h : ∀ b, b ≤ n / 16 → zp_bp (a_chosenSet b) 16 (fun i => ch (16 * b + i)))
    (hp : ∀ B gv, zp_ga gv ch (fun r => a_values (3 * r + c)) n → post (nI n, nI pc, f_distinct, nI nc, nI (zp_ct ch n), f_lowStep, a_isDeleted, a_formOf, a_firstValue, a_width, a_leastStep, a_many, a_lowest, a_highest, a_taken, a_words, a_lengths, a_loose, a_patchPlace, a_patchValue, B, a_sorted, a_conditionColumn, a_conditionLow, a_conditionHigh, a_chosenSet, gv, a_kept)) :
    ∀ e b B gv, b + e = n / 16 + 1 → zp_ga gv ch (fun r => a_values (3 * r + c)) (16 * b) →
      (wX_gather_16 post (nI c) (nI (n / 16)) (e + 1) (nI b) (nI n) (nI pc) f_distinct (nI nc) (nI (zp_ct ch (16 * b))) f_lowStep a_isDeleted a_formOf a_firstValue a_width a_leastStep a_many a_lowest a_highest a_taken a_words a_lengths a_loose a_patchPlace a_patchValue B a_sorted a_conditionColumn a_conditionLow a_conditionHigh a_chosenSet gv a_kept) := by
  intro e
  induction e with
  | zero =>
    intro b B gv hb hg
    have e : zp_ct ch (16 * b) = zp_ct ch n := by
      rw [show 16 * b = n + (16 * b - n) by omega]
      exact zp_ct_tail hc _
    rw [e]
    exact br_t (nI_lt (by omega) (by omega)) (hp B gv (fun r hr hcr => hg r (by omega) hcr))
  | succ e ih =>
    intro b B gv hb hg
    refine br_f (nI_nlt (by omega) (by omega)) ⟨vp_in_nI (by omega) (by omega), ?_⟩
    rw [nI_clamp (by omega)]
    refine br_c (fun q => nm_r (nI_1 b) ?_) (fun q => ?_)
    · have h0 := (zp_bp_eq0 (h b (by omega)) (by omega)).mp q
      have g := ih (b + 1) B gv (by omega) (by
        intro r hr hcr
        rcases Nat.lt_or_ge r (16 * b) with z | z
        · exact hg r z hcr
        · have := h0 (r - 16 * b) (by omega)
          have e2 : ch (16 * b + (r - 16 * b)) = false := this
          rw [show 16 * b + (r - 16 * b) = r by omega, hcr] at e2
          exact absurd e2 (by decide))
      rw [show 16 * (b + 1) = 16 * b + 16 by omega, zp_ct_add, zp_ct_zero (f := fun i => ch (16 * b + i)) 16 h0, Nat.add_zero] at g
      exact g
    · refine zx_load hn hpc (by omega) hc3 hB hL hP (fun B' hB' => ⟨vp_in_nI (by omega) (by omega), ?_⟩)
      refine Exists.intro 17 (zx_gb2 (f := fun r => a_values (3 * r + c)) hn (by omega) hc (h b (by omega)) (fun i hi hin => ?_) (fun gv' hg' => nm_r (nI_1 b) ?_) 16 0 gv (by omega) hg)
      · rw [hB' i hi hin]
        show a_values (48 * b + 3 * i + c) = a_values (3 * (16 * b + i) + c)
        rw [show 48 * b + 3 * i + c = 3 * (16 * b + i) + c by omega]
      · have g := ih (b + 1) B' gv' (by omega) (by rw [show 16 * (b + 1) = 16 * b + 16 by omega]; exact hg')
        rw [show 16 * (b + 1) = 16 * b + 16 by omega] at g
        exact g
theorem zx_gather {post : SX → Prop} {n pc nc c : Nat} {cl : Nat → Nat} (hn : n ≤ 96) (hpc : pc ≤ 20) (hnc : nc ≤ 4) (hc3 : c < 3) (hcl : ∀ k, k < nc → a_conditionColumn k = nI (cl k) ∧ cl k < 3) (hB : (zp_bl n a_formOf a_firstValue a_width a_leastStep a_many a_lowest a_highest a_taken a_words a_lengths a_packed)) (hL : (zp_lo n a_loose a_values)) (hP : (zp_pt n pc a_patchPlace a_patchValue a_values a_packed a_patched))
    (hp : ∀ B cs gv, zp_ga gv (zp_ch n nc cl a_isDeleted a_values a_conditionLow a_conditionHigh) (fun r => a_values (3 * r + c)) n →
      post (nI n, nI pc, f_distinct, nI nc, nI (zp_ct (zp_ch n nc cl a_isDeleted a_values a_conditionLow a_conditionHigh) n), f_lowStep, a_isDeleted, a_formOf, a_firstValue, a_width, a_leastStep, a_many, a_lowest, a_highest, a_taken, a_words, a_lengths, a_loose, a_patchPlace, a_patchValue, B, a_sorted, a_conditionColumn, a_conditionLow, a_conditionHigh, cs, gv, a_kept)) :
    wpX_gather post (nI n, nI pc, f_distinct, nI nc, f_gathered, f_lowStep, a_isDeleted, a_formOf, a_firstValue, a_width, a_leastStep, a_many, a_lowest, a_highest, a_taken, a_words, a_lengths, a_loose, a_patchPlace, a_patchValue, a_buffer, a_sorted, a_conditionColumn, a_conditionLow, a_conditionHigh, a_chosenSet, a_gatheredValue, a_kept) (nI c) := by
  unfold wpX_gather
  refine zx_choose hn hpc hnc hcl hB hL hP (fun B cs h => zx_bc (by omega) ⟨n / 16 + 2, ?_⟩)
  exact zx_ga16 hn hpc hc3 hB hL hP (fun r hr => zp_ch_ge hr) h (fun B' gv hg => hp B' cs gv hg) (n / 16 + 1) 0 B a_gatheredValue (by omega) (fun r hr => absurd hr (by omega))
end
end
section
/-! ordering through a heap -/
def zp_kid (c j : Nat) : Prop := c = 2 * j + 1 ∨ c = 2 * j + 2
def zp_hp (g : Nat → Int32) (lo s : Nat) : Prop := ∀ j, lo ≤ j → ∀ c, zp_kid c j → c < s → (g c).toInt ≤ (g j).toInt
def zp_si (g : Nat → Int32) (f s a : Nat) : Prop :=
  (∀ j, f ≤ j → j ≠ a → ∀ c, zp_kid c j → c < s → (g c).toInt ≤ (g j).toInt) ∧ (∀ j, f ≤ j → zp_kid a j → ∀ c, zp_kid c a → c < s → (g c).toInt ≤ (g j).toInt) ∧ f ≤ a
theorem zp_si_0 {g : Nat → Int32} {f s : Nat} (h : zp_hp g (f + 1) s) : zp_si g f s f :=
  ⟨fun j hj hn c hc hs => h j (by omega) c hc hs, fun j hj hk c hc hs => by unfold zp_kid at hk; omega, Nat.le_refl _⟩
theorem zp_si_end {g : Nat → Int32} {f s a : Nat} (h : zp_si g f s a) (ha : s ≤ 2 * a + 1) : zp_hp g f s := by
  intro j hj c hc hs
  by_cases z : j = a
  · subst z
    unfold zp_kid at hc
    omega
  · exact h.1 j hj z c hc hs
theorem zp_si_no {g : Nat → Int32} {f s a z : Nat} (h : zp_si g f s a) (hz : zp_kid z a) (hm : ∀ c, zp_kid c a → c < s → (g c).toInt ≤ (g z).toInt) (hle : (g z).toInt ≤ (g a).toInt) : zp_si g f s z := by
  obtain ⟨h1, h2, h3⟩ := h
  have hza : a < z := by unfold zp_kid at hz; omega
  refine ⟨?_, ?_, by omega⟩
  · intro j hj hn c hc hs
    by_cases y : j = a
    · subst y
      have := hm c hc hs
      omega
    · exact h1 j hj y c hc hs
  · intro j hj hk c hc hs
    have : j = a := by unfold zp_kid at hk hz; omega
    subst this
    have := h1 z (by omega) (by omega) c hc hs
    omega
theorem zp_si_sw {g : Nat → Int32} {f s a z : Nat} (h : zp_si g f s a) (hz : zp_kid z a) (hzs : z < s) (hm : ∀ c, zp_kid c a → c < s → (g c).toInt ≤ (g z).toInt) (hgt : (g a).toInt < (g z).toInt) : zp_si (zp_sw g a z) f s z := by
  obtain ⟨h1, h2, h3⟩ := h
  have hza : a < z := by unfold zp_kid at hz; omega
  refine ⟨?_, ?_, by omega⟩
  · intro j hj hn c hc hs
    by_cases y : j = a
    · subst y
      rw [zp_sw_a]
      by_cases y2 : c = z
      · rw [y2, zp_sw_b]
        omega
      · have y3 : c ≠ j := by unfold zp_kid at hc; omega
        rw [zp_sw_o g y3 y2]
        exact hm c hc hs
    · rw [zp_sw_o g (j := j) y hn]
      by_cases y2 : c = a
      · subst y2
        rw [zp_sw_a]
        exact h2 j hj hc z hz hzs
      · have y3 : c ≠ z := by
          intro q
          unfold zp_kid at hc hz
          omega
        rw [zp_sw_o g y2 y3]
        exact h1 j hj y c hc hs
  · intro j hj hk c hc hs
    have e : j = a := by unfold zp_kid at hk hz; omega
    subst e
    have c1 : c ≠ j := by unfold zp_kid at hc; omega
    have c2 : c ≠ z := by unfold zp_kid at hc; omega
    rw [zp_sw_a, zp_sw_o g c1 c2]
    exact h1 z (by omega) (by omega) c hc hs
theorem zp_hp_max {g : Nat → Int32} {s : Nat} (h : zp_hp g 0 s) : ∀ j, j < s → (g j).toInt ≤ (g 0).toInt := by
  intro j
  induction j using Nat.strongRecOn with
  | ind j ih =>
    intro hj
    by_cases z : j = 0
    · rw [z]; exact Int.le_refl _
    · have a := h ((j - 1) / 2) (Nat.zero_le _) j (by unfold zp_kid; omega) hj
      have b := ih ((j - 1) / 2) (by omega) (by omega)
      omega
/-- the same values, counted -/
def zp_pm (g h : Nat → Int32) (m : Nat) : Prop := ∀ P : Int32 → Bool, zp_ct (fun i => P (g i)) m = zp_ct (fun i => P (h i)) m
theorem zp_pm_r (g : Nat → Int32) (m : Nat) : zp_pm g g m := fun _ => rfl
theorem zp_pm_t {g h k : Nat → Int32} {m : Nat} (a : zp_pm g h m) (b : zp_pm h k m) : zp_pm g k m := fun P => (a P).trans (b P)
theorem zp_pm_sw (g : Nat → Int32) {a b m : Nat} (ha : a < m) (hb : b < m) : zp_pm (zp_sw g a b) g m := fun P => zp_sw_ct P g ha hb
theorem zp_pm_ext {g h : Nat → Int32} {s m : Nat} (a : zp_pm g h s) (e : ∀ k, s ≤ k → g k = h k) (hs : s ≤ m) : zp_pm g h m := by
  intro P
  have e2 : m = s + (m - s) := by omega
  rw [e2, zp_ct_add, zp_ct_add, a P]
  congr 1
  exact zp_ct_congr _ (fun i _ => by rw [e (s + i) (by omega)])
theorem zp_pm_le {g h : Nat → Int32} {s : Nat} (a : zp_pm g h s) {M : Int} (hb : ∀ i, i < s → (h i).toInt ≤ M) : ∀ i, i < s → (g i).toInt ≤ M := by
  intro i hi
  have e := a (fun x => decide (x.toInt ≤ M))
  rw [zp_ct_all (f := fun i => decide ((h i).toInt ≤ M)) s (fun i hi => decide_eq_true (hb i hi))] at e
  exact of_decide_eq_true (zp_ct_full s e i hi)
def zp_so (g : Nat → Int32) (m : Nat) : Prop := ∀ a b, a ≤ b → b < m → (g a).toInt ≤ (g b).toInt
/-- heap on 0 .. s, the rest in order and above -/
def zp_h2 (g : Nat → Int32) (s m : Nat) : Prop :=
  zp_hp g 0 (s + 1) ∧ (∀ a b, s < a → a ≤ b → b < m → (g a).toInt ≤ (g b).toInt) ∧ (∀ a b, a ≤ s → s < b → b < m → (g a).toInt ≤ (g b).toInt)
theorem zp_h2_step {g g2 : Nat → Int32} {s m : Nat} (h : zp_h2 g (s + 1) m) (hs : s + 1 < m) (hh : zp_hp g2 0 (s + 1)) (hp : zp_pm g2 (zp_sw g 0 (s + 1)) (s + 1)) (he : ∀ k, s + 1 ≤ k → g2 k = zp_sw g 0 (s + 1) k) : zp_h2 g2 s m := by
  obtain ⟨h1, h2, h3⟩ := h
  have mx := zp_hp_max h1
  have es : g2 (s + 1) = g 0 := by rw [he _ (Nat.le_refl _), zp_sw_b]
  have eb : ∀ b, s + 1 < b → g2 b = g b := fun b hb => by rw [he b (by omega), zp_sw_o g (by omega) (by omega)]
  have lo : ∀ M : Int, (∀ i, i ≤ s + 1 → (g i).toInt ≤ M) → ∀ i, i < s + 1 → (g2 i).toInt ≤ M := by
    intro M hM
    refine zp_pm_le hp (fun i hi => ?_)
    by_cases z : i = 0
    · rw [z, zp_sw_a]; exact hM _ (Nat.le_refl _)
    · rw [zp_sw_o g z (by omega)]; exact hM i (by omega)
  refine ⟨hh, ?_, ?_⟩
  · intro a b ha hab hb
    by_cases za : a = s + 1
    · rw [za, es]
      by_cases zb : b = s + 1
      · rw [zb, es]; exact Int.le_refl _
      · rw [eb b (by omega)]; exact h3 0 b (by omega) (by omega) hb
    · rw [eb a (by omega), eb b (by omega)]; exact h2 a b (by omega) hab hb
  · intro a b ha hsb hb
    by_cases zb : b = s + 1
    · rw [zb, es]
      exact lo _ (fun i hi => mx i (by omega)) a (by omega)
    · rw [eb b (by omega)]
      exact lo _ (fun i hi => h3 i b hi (by omega) hb) a (by omega)
section
variable {f_rowCount f_patchCount f_distinct f_conditions f_gathered : Int32} {f_lowStep : Int64} {a_isDeleted a_formOf a_firstValue a_width a_leastStep a_many a_lowest a_highest a_taken a_words a_lengths a_loose a_patchPlace a_patchValue a_buffer a_sorted a_conditionColumn a_conditionLow a_conditionHigh a_chosenSet a_gatheredValue a_kept : Nat → Int32}
theorem zx_sk64 {post : SX → Prop} {J5 : Int32 → Int32 → (Nat → Int32) → (Nat → Int32) → (Nat → Int32) → (Nat → Int32) → (Nat → Int32) → (Nat → Int32) → (Nat → Int32) → (Nat → Int32) → (Nat → Int32) → (Nat → Int32) → (Nat → Int32) → (Nat → Int32) → (Nat → Int32) → (Nat → Int32) → (Nat → Int32) → (Nat → Int32) → (Nat → Int32) → (Nat → Int32) → (Nat → Int32) → (Nat → Int32) → (Nat → Int32) → (Nat → Int32) → Prop}
    {a z i : Nat} {x2 : Int32} (ha : a < 96) (hz : z < 96)
    (h1 : (a_gatheredValue z).toInt ≤ (a_gatheredValue a).toInt → J5 (nI z) (nI (i + 1)) a_isDeleted a_formOf a_firstValue a_width a_leastStep a_many a_lowest a_highest a_taken a_words a_lengths a_loose a_patchPlace a_patchValue a_buffer a_sorted a_conditionColumn a_conditionLow a_conditionHigh a_chosenSet a_gatheredValue a_kept)
    (h2 : (a_gatheredValue a).toInt < (a_gatheredValue z).toInt → J5 (nI z) (nI (i + 1)) a_isDeleted a_formOf a_firstValue a_width a_leastStep a_many a_lowest a_highest a_taken a_words a_lengths a_loose a_patchPlace a_patchValue a_buffer a_sorted a_conditionColumn a_conditionLow a_conditionHigh a_chosenSet (zp_sw a_gatheredValue a z) a_kept) : (wX_sink_64 post J5 x2 (nI a) (nI i) (nI z) f_rowCount f_patchCount f_distinct f_conditions f_gathered f_lowStep a_isDeleted a_formOf a_firstValue a_width a_leastStep a_many a_lowest a_highest a_taken a_words a_lengths a_loose a_patchPlace a_patchValue a_buffer a_sorted a_conditionColumn a_conditionLow a_conditionHigh a_chosenSet a_gatheredValue a_kept) := by
  have va : vp_in (nI a) 96 := vp_in_nI ha (by omega)
  have vz : vp_in (nI z) 96 := vp_in_nI hz (by omega)
  unfold wX_sink_64
  rw [nI_clamp (show a < 2 ^ 31 by omega), nI_clamp (show z < 2 ^ 31 by omega)]
  refine ⟨vz, va, br_c (fun q => nm_r (nI_1 i) (h1 (Int32.le_iff_toInt_le.mp q))) (fun q => ⟨va, nm_e ⟨vz, va, nm_e ⟨vz, nm_e (nm_r (nI_1 i) (h2 ?_))⟩⟩⟩)⟩
  exact Int32.lt_iff_toInt_lt.mp (Int32.not_le.mp q)
theorem zx_sk5 {post : SX → Prop} {f s : Nat} (hs : s ≤ 96)
    (hp : ∀ g, zp_hp g f s → zp_pm g a_gatheredValue s → (∀ k, s ≤ k → g k = a_gatheredValue k) → post (f_rowCount, f_patchCount, f_distinct, f_conditions, f_gathered, f_lowStep, a_isDeleted, a_formOf, a_firstValue, a_width, a_leastStep, a_many, a_lowest, a_highest, a_taken, a_words, a_lengths, a_loose, a_patchPlace, a_patchValue, a_buffer, a_sorted, a_conditionColumn, a_conditionLow, a_conditionHigh, a_chosenSet, g, a_kept)) :
    ∀ e i a g, i + e = 8 → a < 2 ^ 20 → 2 ^ i ≤ a + 1 → zp_si g f s a → zp_pm g a_gatheredValue s → (∀ k, s ≤ k → g k = a_gatheredValue k) →
      (wX_sink_5 post (nI s) f_rowCount f_patchCount f_distinct f_conditions f_gathered f_lowStep (e + 1) (nI a) (nI i) a_isDeleted a_formOf a_firstValue a_width a_leastStep a_many a_lowest a_highest a_taken a_words a_lengths a_loose a_patchPlace a_patchValue a_buffer a_sorted a_conditionColumn a_conditionLow a_conditionHigh a_chosenSet g a_kept) := by
  intro e
  induction e with
  | zero =>
    intro i a g hi ha h2 h3 h4 h5
    have e : i = 8 := by omega
    subst e
    exact br_t (nI_le (a := 8) (by omega) (by omega)) (hp g (zp_si_end h3 (by omega)) h4 h5)
  | succ e ih =>
    intro i a g hi ha h2 h3 h4 h5
    have e1 : 2 * nI a + 1 = nI (2 * a + 1) := by
      show nI 2 * nI a + nI 1 = _
      rw [pk_mul, nI_add]
    refine br_f (nI_ge (b := 8) (by omega) (by omega)) ?_
    rw [e1]
    refine pk_le s (2 * a + 1) (fun q => hp g (zp_si_end h3 q) h4 h5) (fun q => nm_e ?_) rfl rfl (by omega) (by omega)
    rw [nI_1]
    have go : ∀ z, zp_kid z a → z < s → (∀ c, zp_kid c a → c < s → (g c).toInt ≤ (g z).toInt) → (wX_sink_64 post (wX_sink_5 post (nI s) f_rowCount f_patchCount f_distinct f_conditions f_gathered f_lowStep (e + 1)) (nI s) (nI a) (nI i) (nI z) f_rowCount f_patchCount f_distinct f_conditions f_gathered f_lowStep a_isDeleted a_formOf a_firstValue a_width a_leastStep a_many a_lowest a_highest a_taken a_words a_lengths a_loose a_patchPlace a_patchValue a_buffer a_sorted a_conditionColumn a_conditionLow a_conditionHigh a_chosenSet g a_kept) := by
      intro z hz hzs hm
      have hza : a < z ∧ z ≤ 2 * a + 2 ∧ 2 * a + 1 ≤ z := by unfold zp_kid at hz; omega
      have hpw : 2 ^ (i + 1) ≤ z + 1 := by rw [Nat.pow_succ]; omega
      refine zx_sk64 (by omega) (by omega) (fun y => ih (i + 1) z g (by omega) (by omega) hpw (zp_si_no h3 hz hm y) h4 h5) (fun y => ih (i + 1) z _ (by omega) (by omega) hpw (zp_si_sw h3 hz hzs hm y) ?_ ?_)
      · exact zp_pm_t (zp_pm_sw g (by omega) hzs) h4
      · intro k hk
        rw [zp_sw_o g (by omega) (by omega)]
        exact h5 k hk
    refine pk_le s (2 * a + 1 + 1) (fun y => ?_) (fun y => ⟨vp_in_nI (by omega) (by omega), vp_in_nI (by omega) (by omega), ?_⟩) rfl rfl (by omega) (by omega)
    · refine go (2 * a + 1) (Or.inl rfl) q (fun c hc hcs => ?_)
      have : c = 2 * a + 1 := by unfold zp_kid at hc; omega
      rw [this]
      exact Int.le_refl _
    · rw [nI_clamp (show 2 * a + 1 < 2 ^ 31 by omega), nI_clamp (show 2 * a + 1 + 1 < 2 ^ 31 by omega)]
      refine br_c (fun w => ?_) (fun w => ?_)
      · rw [Int32.le_iff_toInt_le] at w
        refine go (2 * a + 1) (Or.inl rfl) q (fun c hc hcs => ?_)
        rcases hc with rfl | rfl
        · exact Int.le_refl _
        · exact w
      · rw [Int32.le_iff_toInt_le] at w
        refine go (2 * a + 1 + 1) (Or.inr rfl) y (fun c hc hcs => ?_)
        rcases hc with rfl | rfl
        · omega
        · exact Int.le_refl _
theorem zx_sink {post : SX → Prop} {f s : Nat} (hs : s ≤ 96) (hf : f ≤ 96) (h : zp_hp a_gatheredValue (f + 1) s)
    (hp : ∀ g, zp_hp g f s → zp_pm g a_gatheredValue s → (∀ k, s ≤ k → g k = a_gatheredValue k) → post (f_rowCount, f_patchCount, f_distinct, f_conditions, f_gathered, f_lowStep, a_isDeleted, a_formOf, a_firstValue, a_width, a_leastStep, a_many, a_lowest, a_highest, a_taken, a_words, a_lengths, a_loose, a_patchPlace, a_patchValue, a_buffer, a_sorted, a_conditionColumn, a_conditionLow, a_conditionHigh, a_chosenSet, g, a_kept)) : wpX_sink post (f_rowCount, f_patchCount, f_distinct, f_conditions, f_gathered, f_lowStep, a_isDeleted, a_formOf, a_firstValue, a_width, a_leastStep, a_many, a_lowest, a_highest, a_taken, a_words, a_lengths, a_loose, a_patchPlace, a_patchValue, a_buffer, a_sorted, a_conditionColumn, a_conditionLow, a_conditionHigh, a_chosenSet, a_gatheredValue, a_kept) (nI f) (nI s) :=
  Exists.intro 9 (zx_sk5 hs hp 8 0 f a_gatheredValue (by omega) (by omega) (by omega) (zp_si_0 h) (zp_pm_r _ _) (fun _ _ => rfl))
theorem zx_or35 {post : SX → Prop} {m : Nat} {g0 : Nat → Int32} (hm : m ≤ 96)
    (hp : ∀ g, zp_so g m → zp_pm g g0 m → post (f_rowCount, f_patchCount, f_distinct, f_conditions, nI m, f_lowStep, a_isDeleted, a_formOf, a_firstValue, a_width, a_leastStep, a_many, a_lowest, a_highest, a_taken, a_words, a_lengths, a_loose, a_patchPlace, a_patchValue, a_buffer, a_sorted, a_conditionColumn, a_conditionLow, a_conditionHigh, a_chosenSet, g, a_kept)) :
    ∀ s g, s < m → zp_h2 g s m → zp_pm g g0 m → (wX_order_35 post (s + 1) (nI s) f_rowCount f_patchCount f_distinct f_conditions (nI m) f_lowStep a_isDeleted a_formOf a_firstValue a_width a_leastStep a_many a_lowest a_highest a_taken a_words a_lengths a_loose a_patchPlace a_patchValue a_buffer a_sorted a_conditionColumn a_conditionLow a_conditionHigh a_chosenSet g a_kept) := by
  intro s
  induction s with
  | zero =>
    intro g hs h1 h2
    refine br_t (nI_le (a := 0) (b := 0) (by omega) (by omega)) (hp g (fun a b hab hb => ?_) h2)
    by_cases z : a = 0
    · by_cases zb : b = 0
      · rw [z, zb]; exact Int.le_refl _
      · exact h1.2.2 a b (by omega) (by omega) hb
    · exact h1.2.1 a b (by omega) hab hb
  | succ s ih =>
    intro g hs h1 h2
    have v : vp_in (nI (s + 1)) 96 := vp_in_nI (by omega) (by omega)
    refine br_f (nI_nle (by omega) (by omega)) ?_
    rw [nI_clamp (by omega)]
    refine nm_e ⟨v, nm_e ⟨v, nm_e ?_⟩⟩
    refine zx_sink (f := 0) (by omega) (by omega) ?_ (fun g2 hh hpm he => nm_r (pk_m1 s) (ih g2 (by omega) (zp_h2_step h1 hs hh hpm he) ?_))
    · intro j hj c hc hcs
      have hcj : j < c := by unfold zp_kid at hc; omega
      show (zp_sw g 0 (s + 1) c).toInt ≤ (zp_sw g 0 (s + 1) j).toInt
      rw [zp_sw_o g (j := c) (by omega) (by omega), zp_sw_o g (j := j) (by omega) (by omega)]
      exact h1.1 j (by omega) c hc (by omega)
    · exact zp_pm_t (zp_pm_ext hpm he (by omega)) (zp_pm_t (zp_pm_sw g (by omega) hs) h2)
theorem zx_or9 {post : SX → Prop} {m : Nat} {g0 : Nat → Int32} (hm : m ≤ 96)
    (hp : ∀ g, zp_so g m → zp_pm g g0 m → post (f_rowCount, f_patchCount, f_distinct, f_conditions, nI m, f_lowStep, a_isDeleted, a_formOf, a_firstValue, a_width, a_leastStep, a_many, a_lowest, a_highest, a_taken, a_words, a_lengths, a_loose, a_patchPlace, a_patchValue, a_buffer, a_sorted, a_conditionColumn, a_conditionLow, a_conditionHigh, a_chosenSet, g, a_kept)) :
    ∀ k x g, x = nI k - 1 → k ≤ 96 → zp_hp g k m → zp_pm g g0 m → (wX_order_9 post (k + 1) x f_rowCount f_patchCount f_distinct f_conditions (nI m) f_lowStep a_isDeleted a_formOf a_firstValue a_width a_leastStep a_many a_lowest a_highest a_taken a_words a_lengths a_loose a_patchPlace a_patchValue a_buffer a_sorted a_conditionColumn a_conditionLow a_conditionHigh a_chosenSet g a_kept) := by
  intro k
  induction k with
  | zero =>
    intro x g hx hk h1 h2
    have hx0 : x < 0 := by rw [hx]; decide
    refine br_t hx0 ?_
    by_cases z : m = 0
    · subst z
      exact nm_e ⟨1, br_t (show (nI 0 - 1 : Int32) ≤ 0 by decide) (hp g (fun a b _ hb => absurd hb (by omega)) h2)⟩
    · refine nm_r (e' := nI (m - 1)) (pk_sub (b := 1) (by omega)) ⟨m - 1 + 1, zx_or35 hm hp (m - 1) g (by omega) ⟨?_, fun a b ha _ hb => absurd hb (by omega), fun a b ha _ hb => absurd hb (by omega)⟩ h2⟩
      rw [show m - 1 + 1 = m by omega]
      exact h1
  | succ k ih =>
    intro x g hx hk h1 h2
    rw [nI_pred] at hx
    subst hx
    refine br_f (nI_pos (by omega)) (zx_sink hm (by omega) h1 (fun g2 hh hpm he => nm_e (ih _ g2 ?_ (by omega) hh (zp_pm_t hpm h2))))
    exact (Int32.sub_eq_add_neg (nI k) 1).symm
theorem zx_order {post : SX → Prop} {m : Nat} (hm : m ≤ 96)
    (hp : ∀ g, zp_so g m → zp_pm g a_gatheredValue m → post (f_rowCount, f_patchCount, f_distinct, f_conditions, nI m, f_lowStep, a_isDeleted, a_formOf, a_firstValue, a_width, a_leastStep, a_many, a_lowest, a_highest, a_taken, a_words, a_lengths, a_loose, a_patchPlace, a_patchValue, a_buffer, a_sorted, a_conditionColumn, a_conditionLow, a_conditionHigh, a_chosenSet, g, a_kept)) : wpX_order post (f_rowCount, f_patchCount, f_distinct, f_conditions, nI m, f_lowStep, a_isDeleted, a_formOf, a_firstValue, a_width, a_leastStep, a_many, a_lowest, a_highest, a_taken, a_words, a_lengths, a_loose, a_patchPlace, a_patchValue, a_buffer, a_sorted, a_conditionColumn, a_conditionLow, a_conditionHigh, a_chosenSet, a_gatheredValue, a_kept) := by
  refine And.intro (by decide) (nm_r (e' := nI (m / 2) - 1) ?_ ⟨m / 2 + 1, zx_or9 hm hp (m / 2) _ a_gatheredValue rfl (by omega) ?_ (zp_pm_r _ _)⟩)
  · rw [show nI m / 2 = nI (m / 2) from pk_div (d := 2) (by omega) (by decide) (by decide)]
  · intro j hj c hc hcs
    unfold zp_kid at hc
    omega
end
end
section
/-! the reference: sizes and the best form -/
def zp_nk (p : Nat → Int32) (i : Nat) : Nat → Bool
  | 0 => true
  | k + 1 => zp_nk p i k && decide (p k ≠ p i)
theorem zp_nk_nw (p : Nat → Int32) (i : Nat) : zp_nk p i i = zp_nw p i := by
  have h : ∀ k, zp_nk p i k = true ↔ ∀ j, j < k → p j ≠ p i := by
    intro k
    induction k with
    | zero => exact ⟨fun _ j hj => absurd hj (by omega), fun _ => rfl⟩
    | succ k ih =>
      show (zp_nk p i k && decide (p k ≠ p i)) = true ↔ _
      rw [Bool.and_eq_true, ih, decide_eq_true_iff]
      constructor
      · intro q j hj
        rcases Nat.lt_or_ge j k with z | z
        · exact q.1 j z
        · rw [show j = k by omega]; exact q.2
      · intro q
        exact ⟨fun j hj => q j (by omega), q k (by omega)⟩
  have e := h i
  cases z : zp_nk p i i
  · rw [z] at e
    exact (decide_eq_false (fun q => absurd (e.mpr q) (by decide))).symm
  · exact (decide_eq_true (e.mp z)).symm
theorem zp_ne {f : Bool} : (if f = true then (1 : Int32) else 0) = 0 ↔ f = false := by
  cases f
  · exact ⟨fun _ => rfl, fun _ => rfl⟩
  · exact ⟨fun h => absurd h (by decide), fun h => absurd h (by decide)⟩
section
variable {f_count f_patchCount f_conditions : Int32} {a_values a_packed a_patched a_gone a_columns a_lows a_highs : Nat → Int32}
theorem zy_col {post : Int32 → Prop} {c : Nat} (hc : c < 3) (h : post 1) : wpY_isColumn post (f_count, f_patchCount, f_conditions, a_values, a_packed, a_patched, a_gone, a_columns, a_lows, a_highs) (nI c) :=
  br_f (nI_pos (by omega)) (br_f (nI_nlt (b := c) (a := 2) (by omega) (by omega)) h)
theorem zy_colL {post : Int32 → Prop} {c : Int32} (hc : c < 0) (h : post 0) : wpY_isColumn post (f_count, f_patchCount, f_conditions, a_values, a_packed, a_patched, a_gone, a_columns, a_lows, a_highs) c := br_t hc h
theorem zy_colH {post : Int32 → Prop} {c : Int32} (hc : nI 3 ≤ c) (h : post 0) : wpY_isColumn post (f_count, f_patchCount, f_conditions, a_values, a_packed, a_patched, a_gone, a_columns, a_lows, a_highs) c := by
  rw [Int32.le_iff_toInt_le, show (nI 3).toInt = 3 from by decide] at hc
  have h0 : ¬ c < 0 := by
    rw [Int32.lt_iff_toInt_lt, show (0 : Int32).toInt = 0 from by decide]
    omega
  have h2 : (2 : Int32) < c := by
    rw [Int32.lt_iff_toInt_lt, show (2 : Int32).toInt = 2 from by decide]
    omega
  exact br_f h0 (br_t h2 h)
theorem zy_rowO {post : Int32 → Prop} {n : Nat} {x : Int32} (hx : x < 0 ∨ nI n ≤ x) (hp : post 0) : wpY_isRow post (nI n, f_patchCount, f_conditions, a_values, a_packed, a_patched, a_gone, a_columns, a_lows, a_highs) x := by
  by_cases z : x < 0
  · exact br_t z hp
  · exact br_f z (br_t (hx.resolve_left z) hp)
theorem zy_row {post : Int32 → Prop} {n r : Nat} (hn : n ≤ 96) (hr : r < n) (h0 : a_gone r = 0 → post 1) (h1 : ¬ a_gone r = 0 → post 0) : wpY_isRow post (nI n, f_patchCount, f_conditions, a_values, a_packed, a_patched, a_gone, a_columns, a_lows, a_highs) (nI r) := by
  refine br_f (nI_pos (by omega)) (br_f (nI_ge hr (by omega)) ⟨vp_in_nI (by omega) (by omega), ?_⟩)
  rw [nI_clamp (by omega)]
  exact br_c h0 h1
theorem zy_bc {post : Int32 → Prop} {n : Nat} (hn : n < 2 ^ 31) (h : post (nI (n / 16))) : wpY_blockCount post (nI n, f_patchCount, f_conditions, a_values, a_packed, a_patched, a_gone, a_columns, a_lows, a_highs) :=
  And.intro zx_n16 (by rw [zx_d16 hn]; exact h)
theorem zy_at {post : Int32 → Prop} {b c i : Nat} (hb : b < 6) (hc : c < 3) (hi : i < 16) (hp : post (a_packed (48 * b + 3 * i + c))) : wpY_packedAt post (f_count, f_patchCount, f_conditions, a_values, a_packed, a_patched, a_gone, a_columns, a_lows, a_highs) (nI b) (nI c) (nI i) := by
  have e : 48 * nI b + 3 * nI i + nI c = nI (48 * b + 3 * i + c) := by
    show nI 48 * nI b + nI 3 * nI i + nI c = _
    rw [pk_mul, pk_mul, nI_add, nI_add]
  unfold wpY_packedAt
  dsimp only
  rw [e, nI_clamp (by omega)]
  exact ⟨vp_in_nI (by omega) (by omega), hp⟩
theorem zy_wd2 {post : Int32 → Prop} {X : Nat} (hX : X < 2 ^ 40) (hp : post (nI (zp_wd X))) :
    ∀ k i, i + k = zp_wd X → (wY_width_2 post (lN X) f_count f_patchCount f_conditions a_values a_packed a_patched a_gone a_columns a_lows a_highs (k + 1) (nI i)) := by
  intro k
  have hw : zp_wd X ≤ 40 := zp_wd_le.mpr hX
  have key : ∀ i, i ≤ 40 → (lN X < (1 : Int64) <<< ((nI i).toInt64 &&& 63) ↔ zp_wd X ≤ i) := by
    intro i hi
    have e : (1 : Int64) <<< ((nI i).toInt64 &&& 63) = lN (2 ^ i) := by
      have := wb_shl 1 (k := i) (by omega)
      rw [Nat.one_mul] at this
      exact this
    have h2 : 2 ^ i ≤ 2 ^ 40 := Nat.pow_le_pow_right (by decide) hi
    rw [e, pk_lLT (by omega) (by omega), zp_wd_le]
  induction k with
  | zero =>
    intro i hi
    have e : zp_wd X = i := by omega
    refine br_t ((key i (by omega)).mpr (by omega)) ?_
    rw [← e]
    exact hp
  | succ k ih =>
    intro i hi
    exact br_f (fun q => by have := (key i (by omega)).mp q; omega) (nm_r (nI_1 i) (ih (i + 1) (by omega)))
theorem zy_wd {post : Int32 → Prop} {x : Int64} {X : Nat} (hx : x = lN X) (hX : X < 2 ^ 40) (hp : post (nI (zp_wd X))) : wpY_width post (f_count, f_patchCount, f_conditions, a_values, a_packed, a_patched, a_gone, a_columns, a_lows, a_highs) x := by
  subst hx
  exact Exists.intro (zp_wd X + 1) (zy_wd2 hX hp (zp_wd X) 0 (by omega))
theorem zy_di18 {post : Int32 → Prop} {J5 : Int32 → Int32 → Prop} {b c t i : Nat} {p : Nat → Int32} (hpk : p = fun i => a_packed (48 * b + 3 * i + c)) (hb : b < 6) (hc : c < 3) (hi : i < 16)
    (hJ : J5 (nI (t + if zp_nw p i = true then 1 else 0)) (nI (i + 1))) :
    ∀ e k x, k + e = i → x = (if zp_nk p i k = true then (1 : Int32) else 0) → (wY_distinct_18 post J5 (nI b) (nI c) (nI t) (nI i) f_count f_patchCount f_conditions a_values a_packed a_patched a_gone a_columns a_lows a_highs (e + 1) x (nI k)) := by
  intro e
  induction e with
  | zero =>
    intro k x hk hx
    have e : k = i := by omega
    subst e
    refine br_t (nI_le (by omega) (by omega)) ?_
    rw [zp_nk_nw] at hx
    cases q : zp_nw p k
    · rw [q, if_neg (by decide)] at hx hJ
      exact br_t hx (nm_r (nI_1 k) hJ)
    · rw [q, if_pos rfl] at hx hJ
      exact br_f (by rw [hx]; decide) (nm_r (nI_1 t) (nm_r (nI_1 k) hJ))
  | succ e ih =>
    intro k x hk hx
    have hs : zp_nk p i (k + 1) = (zp_nk p i k && decide (p k ≠ p i)) := rfl
    refine br_f (nI_ge (by omega) (by omega)) ?_
    cases q : zp_nk p i k
    · rw [q, if_neg (by decide)] at hx
      exact br_t hx (nm_r (nI_1 k) (ih (k + 1) 0 (by omega) (by rw [hs, q]; rfl)))
    · rw [q, if_pos rfl] at hx
      refine br_f (by rw [hx]; decide) (zy_at hb hc (by omega) (zy_at hb hc hi ?_))
      have pk : a_packed (48 * b + 3 * k + c) = p k := by rw [hpk]
      have pi : a_packed (48 * b + 3 * i + c) = p i := by rw [hpk]
      rw [pk, pi]
      refine br_c (fun z => nm_r (nI_1 k) (ih (k + 1) 0 (by omega) ?_)) (fun z => nm_r (nI_1 k) (ih (k + 1) 1 (by omega) ?_))
      · rw [hs, decide_eq_false (fun y => y z), Bool.and_false, if_neg (by decide)]
      · rw [hs, q, decide_eq_true z, Bool.true_and, if_pos rfl]
theorem zy_di5 {post : Int32 → Prop} {b c : Nat} {p : Nat → Int32} (hpk : p = fun i => a_packed (48 * b + 3 * i + c)) (hb : b < 6) (hc : c < 3) (hp : post (nI (zp_dc p 16))) :
    ∀ e i, i + e = 16 → (wY_distinct_5 post (nI b) (nI c) f_count f_patchCount f_conditions a_values a_packed a_patched a_gone a_columns a_lows a_highs (e + 1) (nI (zp_dc p i)) (nI i)) := by
  intro e
  induction e with
  | zero =>
    intro i hi
    have e : i = 16 := by omega
    subst e
    exact br_t (nI_le (a := 16) (by omega) (by omega)) hp
  | succ e ih =>
    intro i hi
    exact br_f (nI_ge (b := 16) (by omega) (by omega)) ⟨i + 1, zy_di18 hpk hb hc (by omega) (ih (i + 1) (by omega)) i 0 1 (by omega) rfl⟩
theorem zy_di {post : Int32 → Prop} {b c : Nat} {p : Nat → Int32} (hpk : p = fun i => a_packed (48 * b + 3 * i + c)) (hb : b < 6) (hc : c < 3) (hp : post (nI (zp_dc p 16))) : wpY_distinct post (f_count, f_patchCount, f_conditions, a_values, a_packed, a_patched, a_gone, a_columns, a_lows, a_highs) (nI b) (nI c) :=
  Exists.intro 17 (zy_di5 hpk hb hc hp 16 0 (by omega))
theorem zy_ru5 {post : Int32 → Prop} {b c : Nat} {p : Nat → Int32} (hpk : p = fun i => a_packed (48 * b + 3 * i + c)) (hb : b < 6) (hc : c < 3) (hp : post (nI (37 * zp_ct (zp_rn p) 16))) :
    ∀ e i, i + e = 16 → 1 ≤ i → (wY_runDigits_5 post (nI b) (nI c) f_count f_patchCount f_conditions a_values a_packed a_patched a_gone a_columns a_lows a_highs (e + 1) (nI (zp_ct (zp_rn p) i)) (nI i)) := by
  intro e
  induction e with
  | zero =>
    intro i hi h1
    have e : i = 16 := by omega
    subst e
    rw [← pk_mul] at hp
    exact br_t (nI_le (a := 16) (by omega) (by omega)) hp
  | succ e ih =>
    intro i hi h1
    have ep : nI i - 1 = nI (i - 1) := pk_sub (b := 1) h1
    refine br_f (nI_ge (b := 16) (by omega) (by omega)) ?_
    rw [ep]
    refine zy_at hb hc (by omega) (zy_at hb hc (by omega) ?_)
    have p1 : a_packed (48 * b + 3 * i + c) = p i := by rw [hpk]
    have p2 : a_packed (48 * b + 3 * (i - 1) + c) = p (i - 1) := by rw [hpk]
    rw [p1, p2]
    refine br_c (fun hz => nm_r (nI_1 i) ?_) (fun hz => nm_r (nI_1 _) (nm_r (nI_1 i) ?_))
    · have e := ih (i + 1) (by omega) (by omega)
      rw [zp_ct_f (f := zp_rn p) (m := i) (decide_eq_false (by rintro (z | z); omega; exact z hz))] at e
      exact e
    · have e := ih (i + 1) (by omega) (by omega)
      rw [zp_ct_t (f := zp_rn p) (m := i) (decide_eq_true (Or.inr hz))] at e
      exact e
theorem zy_fr15 {post : Int32 → Prop} {b c : Nat} {p : Nat → Int32} (hpk : p = fun i => a_packed (48 * b + 3 * i + c)) (hb : b < 6) (hc : c < 3) (hp : post (nI (zp_sz p 4))) :
    ∀ e m, m + e = 15 → (wY_frameDigits_15 post (nI b) (nI c) f_count f_patchCount f_conditions a_values a_packed a_patched a_gone a_columns a_lows a_highs (e + 1) ((zp_mn p m).toInt64) ((zp_mx p m).toInt64) (nI (m + 1))) := by
  intro e
  induction e with
  | zero =>
    intro m hm
    have e : m = 15 := by omega
    subst e
    have f := zp_fx_eq p
    refine br_t (nI_le (a := 16) (b := 16) (by omega) (by omega)) ?_
    rw [f.1]
    have key : (2147483648 : Int64) ≤ lN (zp_fx p) ↔ ¬ zp_wd (zp_fx p) ≤ 31 := by
      rw [Int64.le_iff_toInt_le, pk_lT (by omega), show (2147483648 : Int64).toInt = 2147483648 from by decide, zp_wd_le]
      omega
    rw [zp_sz4] at hp
    refine br_c (fun q => ?_) (fun q => zy_wd rfl (by omega) ?_)
    · rw [if_neg (key.mp q)] at hp
      exact hp
    · rw [if_pos (Decidable.byContradiction fun y => q (key.mpr y)), ← nI_add, ← pk_mul] at hp
      exact hp
  | succ e ih =>
    intro m hm
    have g := ih (m + 1) (by omega)
    have hl : zp_mn p (m + 1) = if zp_mn p m ≤ p (m + 1) then zp_mn p m else p (m + 1) := rfl
    have hh : zp_mx p (m + 1) = if p (m + 1) ≤ zp_mx p m then zp_mx p m else p (m + 1) := rfl
    have p1 : a_packed (48 * b + 3 * (m + 1) + c) = p (m + 1) := by rw [hpk]
    refine br_f (nI_ge (b := 16) (by omega) (by omega)) (zy_at hb hc (by omega) ?_)
    rw [p1]
    refine br_c (fun z => br_c (fun z2 => nm_r (nI_1 _) ?_) (fun z2 => nm_r (nI_1 _) ?_)) (fun z => br_c (fun z2 => nm_r (nI_1 _) ?_) (fun z2 => nm_r (nI_1 _) ?_))
    · rw [Int32.toInt64_le] at z z2
      rw [hl, hh, if_pos z, if_pos z2] at g; exact g
    · rw [Int32.toInt64_le] at z z2
      rw [hl, hh, if_pos z, if_neg z2] at g; exact g
    · rw [Int32.toInt64_le] at z z2
      rw [hl, hh, if_neg z, if_pos z2] at g; exact g
    · rw [Int32.toInt64_le] at z z2
      rw [hl, hh, if_neg z, if_neg z2] at g; exact g
theorem zy_st12 {post : Int32 → Prop} {b c : Nat} {p : Nat → Int32} (hpk : p = fun i => a_packed (48 * b + 3 * i + c)) (hb : b < 6) (hc : c < 3) (hp : post (nI (zp_sz p 5))) :
    ∀ e m, m + e = 14 → (wY_stepDigits_12 post (nI b) (nI c) f_count f_patchCount f_conditions a_values a_packed a_patched a_gone a_columns a_lows a_highs (e + 1) (zp_sl p m) (zp_sh p m) (nI (m + 2))) := by
  intro e
  have n1 : (-2147483648 : Int64).toInt = -2147483648 := by decide
  have n2 : (2147483647 : Int64).toInt = 2147483647 := by decide
  induction e with
  | zero =>
    intro m hm
    have e : m = 14 := by omega
    subst e
    have f := zp_sx_eq p
    rw [zp_sz5] at hp
    have key : (2147483648 : Int64) ≤ lN (zp_sx p) ↔ ¬ zp_wd (zp_sx p) ≤ 31 := by
      rw [Int64.le_iff_toInt_le, pk_lT (by omega), show (2147483648 : Int64).toInt = 2147483648 from by decide, zp_wd_le]
      omega
    refine br_t (nI_le (a := 16) (b := 16) (by omega) (by omega)) ?_
    rw [f.1]
    refine br_c (fun z => ?_) (fun z => br_c (fun z2 => ?_) (fun z2 => br_c (fun z3 => ?_) (fun z3 => ?_)))
    · rw [Int64.lt_iff_toInt_lt, n1] at z
      rw [if_neg (fun q => absurd (of_decide_eq_true q).1 (by omega))] at hp
      exact br_t rfl hp
    · rw [Int64.lt_iff_toInt_lt, n2] at z2
      rw [if_neg (fun q => absurd (of_decide_eq_true q).2.1 (by omega))] at hp
      exact br_t rfl hp
    · rw [if_neg (fun q => absurd (of_decide_eq_true q).2.2 (key.mp z3))] at hp
      exact br_t rfl hp
    · rw [Int64.lt_iff_toInt_lt, n1] at z
      rw [Int64.lt_iff_toInt_lt, n2] at z2
      have k : zp_ok p = true := decide_eq_true ⟨by omega, by omega, Decidable.byContradiction fun y => z3 (key.mpr y)⟩
      rw [if_pos k, ← nI_add, ← pk_mul] at hp
      exact br_f (by decide) (zy_wd f.1 (by omega) hp)
  | succ e ih =>
    intro m hm
    have g := ih (m + 1) (by omega)
    have hl : zp_sl p (m + 1) = if zp_sl p m ≤ zp_st p (m + 1) then zp_sl p m else zp_st p (m + 1) := rfl
    have hh : zp_sh p (m + 1) = if zp_st p (m + 1) ≤ zp_sh p m then zp_sh p m else zp_st p (m + 1) := rfl
    have p1 : a_packed (48 * b + 3 * (m + 2) + c) = p (m + 1 + 1) := by rw [hpk]
    have p2 : a_packed (48 * b + 3 * (m + 1) + c) = p (m + 1) := by rw [hpk]
    refine br_f (nI_ge (b := 16) (by omega) (by omega)) ?_
    rw [nI_pred (m + 1)]
    refine zy_at hb hc (by omega) (zy_at hb hc (by omega) ?_)
    rw [p1, p2]
    refine nm_r (e' := zp_st p (m + 1)) rfl (br_c (fun z => br_c (fun z2 => nm_r (nI_1 _) ?_) (fun z2 => nm_r (nI_1 _) ?_)) (fun z => br_c (fun z2 => nm_r (nI_1 _) ?_) (fun z2 => nm_r (nI_1 _) ?_)))
    · rw [hl, hh, if_pos z, if_pos z2] at g; exact g
    · rw [hl, hh, if_pos z, if_neg z2] at g; exact g
    · rw [hl, hh, if_neg z, if_pos z2] at g; exact g
    · rw [hl, hh, if_neg z, if_neg z2] at g; exact g
theorem zy_st {post : Int32 → Prop} {b c : Nat} {p : Nat → Int32} (hpk : p = fun i => a_packed (48 * b + 3 * i + c)) (hb : b < 6) (hc : c < 3) (hp : post (nI (zp_sz p 5))) : wpY_stepDigits post (f_count, f_patchCount, f_conditions, a_values, a_packed, a_patched, a_gone, a_columns, a_lows, a_highs) (nI b) (nI c) := by
  refine Exists.intro 16 ?_
  have p1 : a_packed (48 * b + 3 * 1 + c) = p (0 + 1) := by rw [hpk]
  have p2 : a_packed (48 * b + 3 * 0 + c) = p 0 := by rw [hpk]
  have bd := zp_st_bd p 0
  refine br_f (nI_ge (a := 1) (b := 16) (by omega) (by omega)) ?_
  refine zy_at (i := 1) hb hc (by omega) (zy_at (i := 0) hb hc (by omega) ?_)
  rw [p1, p2]
  refine nm_r (e' := zp_st p 0) rfl (br_f ?_ (br_f ?_ (nm_r (e' := nI 2) rfl (zy_st12 hpk hb hc hp 14 0 (by omega)))))
  · rw [Int64.le_iff_toInt_le, show (100000000000 : Int64).toInt = 100000000000 from by decide]
    omega
  · rw [Int64.le_iff_toInt_le, show (-100000000000 : Int64).toInt = -100000000000 from by decide]
    omega
theorem zy_digs {post : Int32 → Prop} {b c f : Nat} {p : Nat → Int32} (hpk : p = fun i => a_packed (48 * b + 3 * i + c)) (hb : b < 6) (hc : c < 3) (hf : f ≤ 5) (hp : post (nI (zp_sz p f))) : wpY_digitsOf post (f_count, f_patchCount, f_conditions, a_values, a_packed, a_patched, a_gone, a_columns, a_lows, a_highs) (nI b) (nI c) (nI f) := by
  have hd : zp_dc p 16 ≤ 16 := zp_ct_le _ _
  have hd1 : 1 ≤ zp_dc p 16 := by
    have h0 : zp_nw p 0 = true := decide_eq_true (fun k hk => absurd hk (by omega))
    have := zp_ct_lt (zp_nw p) (show 0 < 16 by omega) h0
    exact Nat.lt_of_le_of_lt (Nat.zero_le _) this
  unfold wpY_digitsOf
  refine zy_di hpk hb hc ?_
  have hcs : f = 0 ∨ f = 1 ∨ f = 2 ∨ f = 3 ∨ f = 4 ∨ f = 5 := by omega
  rcases hcs with rfl | rfl | rfl | rfl | rfl | rfl
  · rw [zp_sz0] at hp
    exact br_f (by decide) (br_t rfl hp)
  · rw [zp_sz1] at hp
    refine br_f (by decide) (br_f (by decide) (pk_eq (zp_dc p 16) 1 (fun z => ?_) (fun z => ?_) rfl rfl (by omega) (by omega)))
    · rw [if_pos z] at hp
      exact hp
    · rw [if_neg z] at hp
      exact hp
  · rw [zp_sz2] at hp
    exact br_t (by decide) (br_f (by decide) (br_t rfl (Exists.intro 16 (zy_ru5 hpk hb hc hp 15 1 (by omega) (by omega)))))
  · rw [zp_sz3] at hp
    refine br_t (by decide) (br_t rfl (pk_lt 8 (zp_dc p 16) (fun z => ?_) (fun z => ?_) rfl rfl (by omega) (by omega)))
    · rw [if_neg (by omega)] at hp
      exact hp
    · rw [if_pos z, ← nI_add, ← pk_mul, ← pk_mul] at hp
      have ep : nI (zp_dc p 16) - 1 = nI (zp_dc p 16 - 1) := pk_sub (b := 1) hd1
      exact zy_wd (by rw [ep, nI_l (by omega)]) (by omega) hp
  · refine br_t (by decide) (br_f (by decide) (br_f (by decide) (br_t rfl ?_)))
    unfold wpY_frameDigits
    have p0 : a_packed (48 * b + 3 * 0 + c) = p 0 := by rw [hpk]
    refine zy_at (i := 0) hb hc (by omega) ?_
    rw [p0]
    exact Exists.intro 16 (zy_fr15 hpk hb hc hp 15 0 (by omega))
  · exact br_t (by decide) (br_f (by decide) (br_f (by decide) (br_f (by decide) (zy_st hpk hb hc hp))))
theorem zy_be5 {post : Int32 → Prop} {b c : Nat} {p : Nat → Int32} (hpk : p = fun i => a_packed (48 * b + 3 * i + c)) (hb : b < 6) (hc : c < 3) (hp : post (nI (zp_bs p))) :
    ∀ e f, f + e = 5 → (wY_best_5 post (nI b) (nI c) f_count f_patchCount f_conditions a_values a_packed a_patched a_gone a_columns a_lows a_highs (e + 1) (nI (zp_bf p f)) (nI (f + 1))) := by
  intro e
  induction e with
  | zero =>
    intro f hf
    have e : f = 5 := by omega
    subst e
    exact br_t (nI_le (a := 6) (b := 6) (by omega) (by omega)) hp
  | succ e ih =>
    intro f hf
    have b1 := zp_sz_10 p (f + 1)
    have b2 := zp_sz_10 p (zp_bf p f)
    have b3 := zp_bf_le p f
    have hs : zp_bf p (f + 1) = if zp_sz p (zp_bf p f) ≤ zp_sz p (f + 1) then zp_bf p f else f + 1 := rfl
    have g := ih (f + 1) (by omega)
    refine br_f (nI_ge (b := 6) (by omega) (by omega)) (zy_digs hpk hb hc (by omega) (zy_digs hpk hb hc (by omega) (pk_le _ _ (fun z => nm_r (nI_1 _) ?_) (fun z => nm_r (nI_1 _) ?_) rfl rfl (by omega) (by omega))))
    · rw [hs, if_pos z] at g
      exact g
    · rw [hs, if_neg (by omega)] at g
      exact g
theorem zy_best {post : Int32 → Prop} {b c : Nat} {p : Nat → Int32} (hpk : p = fun i => a_packed (48 * b + 3 * i + c)) (hb : b < 6) (hc : c < 3) (hp : post (nI (zp_bs p))) : wpY_best post (f_count, f_patchCount, f_conditions, a_values, a_packed, a_patched, a_gone, a_columns, a_lows, a_highs) (nI b) (nI c) :=
  Exists.intro 6 (zy_be5 hpk hb hc hp 5 0 (by omega))
end
end
section
/-! the reference: passed blocks, chosen rows, answers over them -/
def zp_ys (ch : Nat → Bool) (f : Nat → Int32) : Nat → Int32
  | 0 => 0
  | m + 1 => if ch m = true then zp_ys ch f m + f m else zp_ys ch f m
def zp_rk (ch : Nat → Bool) (f : Nat → Int32) (r q : Nat) : Bool := ch q && (decide (f r < f q) || (decide (f q = f r) && decide (q < r)))
def zp_lk (ch : Nat → Bool) (f : Nat → Int32) (x : Int32) (q : Nat) : Bool := ch q && decide (f q = x)
def zp_fs (ch : Nat → Bool) (f : Nat → Int32) (r : Nat) : Bool := ch r && decide (zp_ct (zp_lk ch f (f r)) r = 0)
def zp_li (ch : Nat → Bool) (f : Nat → Int32) (r : Nat) (fl x : Int32) : Prop :=
  (fl = 0 ∧ x = -1000000003 ∧ ∀ q, q < r → ch q = false) ∨ (fl = 1 ∧ (∃ q, q < r ∧ ch q = true ∧ f q = x) ∧ ∀ q, q < r → ch q = true → x ≤ f q)
/-- row q0 is at least as common as row q, of equal ones the lesser value -/
def zp_bt (ch : Nat → Bool) (f : Nat → Int32) (n q0 q : Nat) : Prop :=
  zp_ct (zp_lk ch f (f q)) n < zp_ct (zp_lk ch f (f q0)) n ∨ (zp_ct (zp_lk ch f (f q)) n = zp_ct (zp_lk ch f (f q0)) n ∧ f q0 ≤ f q)
def zp_ci (ch : Nat → Bool) (f : Nat → Int32) (n r : Nat) (x : Int32) : Prop :=
  (x = -1 ∧ ∀ q, q < r → ch q = false) ∨ ∃ q0, x = nI q0 ∧ q0 < r ∧ ch q0 = true ∧ ∀ q, q < r → ch q = true → zp_bt ch f n q0 q
section
variable {f_count f_patchCount f_conditions : Int32} {a_values a_packed a_patched a_gone a_columns a_lows a_highs : Nat → Int32}
theorem zy_met {post : Int32 → Prop} {k : Nat} {x : Int32} (hk : k < 4) (h1 : zp_wi x (a_lows k) (a_highs k) = true → post 1) (h0 : zp_wi x (a_lows k) (a_highs k) = false → post 0) : wpY_isMet post (f_count, f_patchCount, f_conditions, a_values, a_packed, a_patched, a_gone, a_columns, a_lows, a_highs) (nI k) x := by
  have v : vp_in (nI k) 4 := vp_in_nI hk (by omega)
  refine And.intro v ?_
  rw [nI_clamp (by omega)]
  exact br_c (fun z => h0 (zp_wi_f1 z)) (fun z => ⟨v, br_c (fun y => h0 (zp_wi_f2 y)) (fun y => h1 (zp_wi_t z y))⟩)
theorem zy_ip2 {post : Int32 → Prop} {b k : Nat} {cl : Nat → Nat} (hb : b < 6) (hk : k < 4) (hcl : a_columns k = nI (cl k) ∧ cl k < 3)
    (h1 : zp_ps a_packed cl a_lows a_highs b k = true → post 1) (h0 : zp_ps a_packed cl a_lows a_highs b k = false → post 0) :
    ∀ e i, i + e = 16 → (∀ j, j < i → zp_wi (a_packed (48 * b + 3 * j + cl k)) (a_lows k) (a_highs k) = false) → (wY_isPassed_2 post (nI b) (nI k) f_count f_patchCount f_conditions a_values a_packed a_patched a_gone a_columns a_lows a_highs (e + 1) (nI i)) := by
  intro e
  induction e with
  | zero =>
    intro i hi h
    have e : i = 16 := by omega
    subst e
    exact br_t (nI_le (a := 16) (by omega) (by omega)) (h1 (decide_eq_true (zp_ct_zero 16 h)))
  | succ e ih =>
    intro i hi h
    refine br_f (nI_ge (b := 16) (by omega) (by omega)) ⟨vp_in_nI hk (by omega), ?_⟩
    rw [nI_clamp (by omega), hcl.1]
    refine zy_at hb hcl.2 (by omega) (zy_met hk (fun q => br_f (by decide) (h0 (decide_eq_false (fun y => ?_)))) (fun q => br_t rfl (nm_r (nI_1 i) (ih (i + 1) (by omega) (fun j hj => ?_)))))
    · have e2 : zp_wi (a_packed (48 * b + 3 * i + cl k)) (a_lows k) (a_highs k) = false := zp_ct_none 16 y i (by omega)
      rw [q] at e2
      exact absurd e2 (by decide)
    · rcases Nat.lt_or_ge j i with z | z
      · exact h j z
      · rw [show j = i by omega]
        exact q
theorem zy_ps17 {post : Int32 → Prop} {J4 : Int32 → Int32 → Prop} {nc b t : Nat} {cl : Nat → Nat} (hnc : nc ≤ 4) (hb : b < 6) (hcl : ∀ k, k < nc → a_columns k = nI (cl k) ∧ cl k < 3)
    (hJ : J4 (nI (t + if zp_pa a_packed cl a_lows a_highs b nc = true then 1 else 0)) (nI (b + 1))) :
    ∀ e k x, k + e = nc → x = (if zp_pa a_packed cl a_lows a_highs b k = true then (1 : Int32) else 0) → (wY_passed_17 post J4 (nI t) (nI b) f_count f_patchCount (nI nc) a_values a_packed a_patched a_gone a_columns a_lows a_highs (e + 1) x (nI k)) := by
  intro e
  induction e with
  | zero =>
    intro k x hk hx
    have e : k = nc := by omega
    subst e
    refine br_t (nI_le (by omega) (by omega)) ?_
    cases q : zp_pa a_packed cl a_lows a_highs b k
    · rw [q, if_neg (by decide)] at hJ hx
      exact br_t hx (nm_r (nI_1 b) hJ)
    · rw [q, if_pos rfl] at hJ hx
      exact br_f (by rw [hx]; decide) (nm_r (nI_1 t) (nm_r (nI_1 b) hJ))
  | succ e ih =>
    intro k x hk hx
    have hs : zp_pa a_packed cl a_lows a_highs b (k + 1) = (zp_pa a_packed cl a_lows a_highs b k || zp_ps a_packed cl a_lows a_highs b k) := rfl
    refine br_f (nI_ge (by omega) (by omega)) ?_
    cases q : zp_pa a_packed cl a_lows a_highs b k
    · rw [q, if_neg (by decide)] at hx
      refine br_t hx (Exists.intro 17 (zy_ip2 hb (by omega) (hcl k (by omega)) (fun y => br_f (by decide) (nm_r (nI_1 k) (ih (k + 1) 1 (by omega) ?_))) (fun y => br_t rfl (nm_r (nI_1 k) (ih (k + 1) 0 (by omega) ?_))) 16 0 (by omega) (fun j hj => absurd hj (by omega))))
      · rw [hs, y, Bool.or_true, if_pos rfl]
      · rw [hs, q, y]; rfl
    · rw [q, if_pos rfl] at hx
      exact br_f (by rw [hx]; decide) (nm_r (nI_1 k) (ih (k + 1) 1 (by omega) (by rw [hs, q, Bool.true_or, if_pos rfl])))
theorem zy_ps4 {post : Int32 → Prop} {n nc : Nat} {cl : Nat → Nat} (hn : n ≤ 96) (hnc : nc ≤ 4) (hcl : ∀ k, k < nc → a_columns k = nI (cl k) ∧ cl k < 3)
    (hp : post (nI (zp_ct (fun b => zp_pa a_packed cl a_lows a_highs b nc) (n / 16)))) :
    ∀ e b, b + e = n / 16 → (wY_passed_4 post (nI n) f_patchCount (nI nc) a_values a_packed a_patched a_gone a_columns a_lows a_highs (e + 1) (nI (zp_ct (fun b => zp_pa a_packed cl a_lows a_highs b nc) b)) (nI b)) := by
  intro e
  induction e with
  | zero =>
    intro b hb
    have e : b = n / 16 := by omega
    subst e
    refine And.intro zx_n16 ?_
    rw [zx_d16 (by omega)]
    exact br_t (nI_le (by omega) (by omega)) hp
  | succ e ih =>
    intro b hb
    refine And.intro zx_n16 ?_
    rw [zx_d16 (by omega)]
    exact br_f (nI_ge (by omega) (by omega)) ⟨nc + 1, zy_ps17 hnc (by omega) hcl (ih (b + 1) (by omega)) nc 0 0 (by omega) rfl⟩
theorem zy_ch25 {post : Int32 → Prop} {nc r : Nat} {cl : Nat → Nat} (hr : r < 96) (hnc : nc ≤ 4) (hcl : ∀ k, k < nc → a_columns k = nI (cl k) ∧ cl k < 3)
    (h1 : zp_al a_values cl a_lows a_highs r nc = true → post 1) (h0 : zp_al a_values cl a_lows a_highs r nc = false → post 0) :
    ∀ e k, k + e = nc → zp_al a_values cl a_lows a_highs r k = true → (wY_isChosen_25 post (nI r) f_count f_patchCount (nI nc) a_values a_packed a_patched a_gone a_columns a_lows a_highs (e + 1) 1 (nI k)) := by
  intro e
  induction e with
  | zero =>
    intro k hk h
    have e : k = nc := by omega
    subst e
    exact br_t (nI_le (by omega) (by omega)) ⟨rfl, h1 h⟩
  | succ e ih =>
    intro k hk h
    obtain ⟨c1, c2⟩ := hcl k (by omega)
    have hs : zp_al a_values cl a_lows a_highs r (k + 1) = (zp_al a_values cl a_lows a_highs r k && zp_wi (a_values (3 * r + cl k)) (a_lows k) (a_highs k)) := rfl
    refine br_f (nI_ge (by omega) (by omega)) (br_f (by decide) ⟨vp_in_nI (by omega) (by omega), ?_⟩)
    rw [nI_clamp (by omega), c1, zx_3a, nI_clamp (by omega)]
    refine ⟨vp_in_nI (by omega) (by omega), zy_met (by omega) (fun q => nm_r (nI_1 k) (ih (k + 1) (by omega) (by rw [hs, h, q]; rfl))) (fun q => nm_r (nI_1 k) ?_)⟩
    have hf : zp_al a_values cl a_lows a_highs r nc = false := by
      have := zp_al_mono (va := a_values) (cl := cl) (lo := a_lows) (hi := a_highs) (r := r) (x := true) (nc - (k + 1)) (k + 1) (by rw [hs, q, Bool.and_false, Bool.and_false])
      rw [show k + 1 + (nc - (k + 1)) = nc by omega, Bool.true_and] at this
      exact this
    exact br_c (fun _ => ⟨rfl, h0 hf⟩) (fun _ => br_t rfl ⟨rfl, h0 hf⟩)
theorem zy_ch {post : Int32 → Prop} {n nc r : Nat} {cl : Nat → Nat} (hn : n ≤ 96) (hr : r < n) (hnc : nc ≤ 4) (hcl : ∀ k, k < nc → a_columns k = nI (cl k) ∧ cl k < 3)
    (h1 : (zp_ch n nc cl a_gone a_values a_lows a_highs) r = true → post 1) (h0 : (zp_ch n nc cl a_gone a_values a_lows a_highs) r = false → post 0) : wpY_isChosen post (nI n, f_patchCount, nI nc, a_values, a_packed, a_patched, a_gone, a_columns, a_lows, a_highs) (nI r) := by
  refine br_f (nI_ge hr (by omega)) ⟨vp_in_nI (by omega) (by omega), ?_⟩
  rw [nI_clamp (by omega)]
  refine br_c (fun q => ⟨nc + 1, zy_ch25 (by omega) hnc hcl (fun y => h1 ?_) (fun y => h0 ?_) nc 0 (by omega) rfl⟩) (fun q => ⟨1, ?_⟩)
  · unfold zp_ch zp_lv
    rw [decide_eq_true hr, decide_eq_true q, y]; rfl
  · unfold zp_ch
    rw [y, Bool.and_false]
  · have hf : (zp_ch n nc cl a_gone a_values a_lows a_highs) r = false := by
      unfold zp_ch zp_lv
      rw [decide_eq_false q, Bool.and_false, Bool.false_and]
    exact br_c (fun _ => ⟨rfl, h0 hf⟩) (fun _ => br_t rfl ⟨rfl, h0 hf⟩)
theorem zy_ct4 {post : Int32 → Prop} {n nc : Nat} {cl : Nat → Nat} (hn : n ≤ 96) (hnc : nc ≤ 4) (hcl : ∀ k, k < nc → a_columns k = nI (cl k) ∧ cl k < 3) (hp : post (nI (zp_ct (zp_ch n nc cl a_gone a_values a_lows a_highs) n))) :
    ∀ e r, r + e = n → (wY_count_4 post (nI n) f_patchCount (nI nc) a_values a_packed a_patched a_gone a_columns a_lows a_highs (e + 1) (nI (zp_ct (zp_ch n nc cl a_gone a_values a_lows a_highs) r)) (nI r)) := by
  intro e
  induction e with
  | zero =>
    intro r hr
    have e : r = n := by omega
    subst e
    exact br_t (nI_le (by omega) (by omega)) hp
  | succ e ih =>
    intro r hr
    have g := ih (r + 1) (by omega)
    refine br_f (nI_ge (by omega) (by omega)) (zy_ch hn (by omega) hnc hcl (fun q => br_f (by decide) (nm_r (nI_1 _) (nm_r (nI_1 r) ?_))) (fun q => br_t rfl (nm_r (nI_1 r) ?_)))
    · rw [zp_ct_t q] at g
      exact g
    · rw [zp_ct_f q] at g
      exact g
theorem zy_cn4 {post : Int32 → Prop} {n nc : Nat} {cl : Nat → Nat} {v : Int32} (hn : n ≤ 96) (hnc : nc ≤ 4) (hcl : ∀ k, k < nc → a_columns k = nI (cl k) ∧ cl k < 3)
    (h1 : ∀ r, r < n → (zp_ch n nc cl a_gone a_values a_lows a_highs) r = true → v = nI (zp_ct (zp_ch n nc cl a_gone a_values a_lows a_highs) r) → post (nI r)) (h2 : (∀ r, r < n → (zp_ch n nc cl a_gone a_values a_lows a_highs) r = true → v ≠ nI (zp_ct (zp_ch n nc cl a_gone a_values a_lows a_highs) r)) → post (-1000000003)) :
    ∀ e r x, r + e = n → x = v - nI (zp_ct (zp_ch n nc cl a_gone a_values a_lows a_highs) r) → (∀ q, q < r → (zp_ch n nc cl a_gone a_values a_lows a_highs) q = true → v ≠ nI (zp_ct (zp_ch n nc cl a_gone a_values a_lows a_highs) q)) → (wY_chosen_4 post (nI n) f_patchCount (nI nc) a_values a_packed a_patched a_gone a_columns a_lows a_highs (e + 1) x (nI r)) := by
  intro e
  induction e with
  | zero =>
    intro r x hr hx h
    have e : r = n := by omega
    subst e
    exact br_t (nI_le (by omega) (by omega)) (h2 h)
  | succ e ih =>
    intro r x hr hx h
    refine br_f (nI_ge (by omega) (by omega)) (zy_ch hn (by omega) hnc hcl (fun q => br_f (by decide) (br_c (fun y => h1 r (by omega) q ?_) (fun y => nm_e (nm_r (nI_1 r) (ih (r + 1) _ (by omega) ?_ (fun q2 hq2 hc2 => ?_)))))) (fun q => br_t rfl (nm_r (nI_1 r) (ih (r + 1) _ (by omega) ?_ (fun q2 hq2 hc2 => ?_)))))
    · rw [hx] at y
      exact Int32.sub_eq_iff_eq_add.mp y |>.trans (by rw [Int32.zero_add])
    · rw [hx, zp_ct_t q, ← nI_1]
      generalize nI (zp_ct (zp_ch n nc cl a_gone a_values a_lows a_highs) r) = t
      grind
    · rcases Nat.lt_or_ge q2 r with z | z
      · exact h q2 z hc2
      · rw [show q2 = r by omega]
        intro y2
        apply y
        rw [hx, y2, Int32.sub_self]
    · rw [hx, zp_ct_f q]
    · rcases Nat.lt_or_ge q2 r with z | z
      · exact h q2 z hc2
      · rw [show q2 = r by omega, q] at hc2
        exact absurd hc2 (by decide)
theorem zy_su15 {post : Int32 → Prop} {n nc c : Nat} {cl : Nat → Nat} (hn : n ≤ 96) (hnc : nc ≤ 4) (hc : c < 3) (hcl : ∀ k, k < nc → a_columns k = nI (cl k) ∧ cl k < 3) (hp : post (zp_ys (zp_ch n nc cl a_gone a_values a_lows a_highs) (fun r => a_values (3 * r + c)) n)) :
    ∀ e r, r + e = n → (wY_sum_15 post (nI c) (nI n) f_patchCount (nI nc) a_values a_packed a_patched a_gone a_columns a_lows a_highs (e + 1) (zp_ys (zp_ch n nc cl a_gone a_values a_lows a_highs) (fun r => a_values (3 * r + c)) r) (nI r)) := by
  intro e
  induction e with
  | zero =>
    intro r hr
    have e : r = n := by omega
    subst e
    exact br_t (nI_le (by omega) (by omega)) hp
  | succ e ih =>
    intro r hr
    have g := ih (r + 1) (by omega)
    have hs : zp_ys (zp_ch n nc cl a_gone a_values a_lows a_highs) (fun r => a_values (3 * r + c)) (r + 1) = if (zp_ch n nc cl a_gone a_values a_lows a_highs) r = true then zp_ys (zp_ch n nc cl a_gone a_values a_lows a_highs) (fun r => a_values (3 * r + c)) r + a_values (3 * r + c) else zp_ys (zp_ch n nc cl a_gone a_values a_lows a_highs) (fun r => a_values (3 * r + c)) r := rfl
    refine br_f (nI_ge (by omega) (by omega)) (zy_ch hn (by omega) hnc hcl (fun q => br_f (by decide) ?_) (fun q => br_t rfl (nm_r (nI_1 r) ?_)))
    · rw [zx_3a, nI_clamp (by omega)]
      rw [hs, if_pos q] at g
      exact ⟨vp_in_nI (by omega) (by omega), nm_e (nm_r (nI_1 r) g)⟩
    · rw [hs, q, if_neg (by decide)] at g
      exact g
theorem zy_rk17 {post : Int32 → Prop} {n nc c r : Nat} {cl : Nat → Nat} (hn : n ≤ 96) (hnc : nc ≤ 4) (hc : c < 3) (hr : r < n) (hcl : ∀ k, k < nc → a_columns k = nI (cl k) ∧ cl k < 3)
    (hp : post (nI (zp_ct (zp_rk (zp_ch n nc cl a_gone a_values a_lows a_highs) (fun r => a_values (3 * r + c)) r) n))) :
    ∀ e q, q + e = n → (wY_rank_17 post (nI c) (nI r) (a_values (3 * r + c)) (nI n) f_patchCount (nI nc) a_values a_packed a_patched a_gone a_columns a_lows a_highs (e + 1) (nI (zp_ct (zp_rk (zp_ch n nc cl a_gone a_values a_lows a_highs) (fun r => a_values (3 * r + c)) r) q)) (nI q)) := by
  intro e
  induction e with
  | zero =>
    intro q hq
    have e : q = n := by omega
    subst e
    exact br_t (nI_le (by omega) (by omega)) hp
  | succ e ih =>
    intro q hq
    have g := ih (q + 1) (by omega)
    have yes : zp_rk (zp_ch n nc cl a_gone a_values a_lows a_highs) (fun r => a_values (3 * r + c)) r q = true → (wY_rank_17 post (nI c) (nI r) (a_values (3 * r + c)) (nI n) f_patchCount (nI nc) a_values a_packed a_patched a_gone a_columns a_lows a_highs (e + 1) (nI (zp_ct (zp_rk (zp_ch n nc cl a_gone a_values a_lows a_highs) (fun r => a_values (3 * r + c)) r) q + 1)) (nI (q + 1))) := fun y => by
      rw [zp_ct_t y] at g
      exact g
    have no : zp_rk (zp_ch n nc cl a_gone a_values a_lows a_highs) (fun r => a_values (3 * r + c)) r q = false → (wY_rank_17 post (nI c) (nI r) (a_values (3 * r + c)) (nI n) f_patchCount (nI nc) a_values a_packed a_patched a_gone a_columns a_lows a_highs (e + 1) (nI (zp_ct (zp_rk (zp_ch n nc cl a_gone a_values a_lows a_highs) (fun r => a_values (3 * r + c)) r) q)) (nI (q + 1))) := fun y => by
      rw [zp_ct_f y] at g
      exact g
    refine br_f (nI_ge (by omega) (by omega)) ?_
    rw [zx_3a, nI_clamp (by omega)]
    refine ⟨vp_in_nI (by omega) (by omega), nm_e (zy_ch hn (by omega) hnc hcl (fun y => br_f (by decide) (br_c (fun z => nm_r (nI_1 _) (nm_r (nI_1 q) (yes ?_))) (fun z => br_c (fun z2 => pk_le r q (fun z3 => nm_r (nI_1 q) (no ?_)) (fun z3 => nm_r (nI_1 _) (nm_r (nI_1 q) (yes ?_))) rfl rfl (by omega) (by omega)) (fun z2 => nm_r (nI_1 q) (no ?_))))) (fun y => br_t rfl (nm_r (nI_1 q) (no ?_))))⟩
    · show ((zp_ch n nc cl a_gone a_values a_lows a_highs) q && (decide (a_values (3 * r + c) < a_values (3 * q + c)) || _)) = true
      rw [y, decide_eq_true z]; rfl
    · show ((zp_ch n nc cl a_gone a_values a_lows a_highs) q && (decide (a_values (3 * r + c) < a_values (3 * q + c)) || (_ && decide (q < r)))) = false
      rw [decide_eq_false z, decide_eq_false (show ¬ q < r by omega), Bool.and_false, Bool.or_false, Bool.and_false]
    · show ((zp_ch n nc cl a_gone a_values a_lows a_highs) q && (_ || (decide (a_values (3 * q + c) = a_values (3 * r + c)) && decide (q < r)))) = true
      rw [y, decide_eq_true z2, decide_eq_true z3, Bool.and_true, Bool.or_true]; rfl
    · show ((zp_ch n nc cl a_gone a_values a_lows a_highs) q && (decide (a_values (3 * r + c) < a_values (3 * q + c)) || (decide (a_values (3 * q + c) = a_values (3 * r + c)) && _))) = false
      rw [decide_eq_false z, decide_eq_false z2, Bool.false_and, Bool.or_false, Bool.and_false]
    · show ((zp_ch n nc cl a_gone a_values a_lows a_highs) q && _) = false
      rw [y, Bool.false_and]
theorem zy_rank {post : Int32 → Prop} {n nc c r : Nat} {cl : Nat → Nat} (hn : n ≤ 96) (hnc : nc ≤ 4) (hc : c < 3) (hr : r < n) (hcl : ∀ k, k < nc → a_columns k = nI (cl k) ∧ cl k < 3)
    (hp : post (nI (zp_ct (zp_rk (zp_ch n nc cl a_gone a_values a_lows a_highs) (fun r => a_values (3 * r + c)) r) n))) : wpY_rank post (nI n, f_patchCount, nI nc, a_values, a_packed, a_patched, a_gone, a_columns, a_lows, a_highs) (nI c) (nI r) := by
  unfold wpY_rank
  dsimp only
  rw [zx_3a, nI_clamp (by omega)]
  exact ⟨vp_in_nI (by omega) (by omega), nm_e ⟨n + 1, zy_rk17 hn hnc hc hr hcl hp n 0 (by omega)⟩⟩
theorem zy_ls19 {post : Int32 → Prop} {n nc c : Nat} {cl : Nat → Nat} (hn : n ≤ 96) (hnc : nc ≤ 4) (hc : c < 3) (hcl : ∀ k, k < nc → a_columns k = nI (cl k) ∧ cl k < 3)
    (hp : ∀ fl x, zp_li (zp_ch n nc cl a_gone a_values a_lows a_highs) (fun r => a_values (3 * r + c)) n fl x → post x) :
    ∀ e r fl x, r + e = n → zp_li (zp_ch n nc cl a_gone a_values a_lows a_highs) (fun r => a_values (3 * r + c)) r fl x → (wY_least_19 post (nI c) (nI n) f_patchCount (nI nc) a_values a_packed a_patched a_gone a_columns a_lows a_highs (e + 1) fl x (nI r)) := by
  intro e
  induction e with
  | zero =>
    intro r fl x hr h
    have e : r = n := by omega
    subst e
    exact br_t (nI_le (by omega) (by omega)) (hp fl x h)
  | succ e ih =>
    intro r fl x hr h
    refine br_f (nI_ge (by omega) (by omega)) (zy_ch hn (by omega) hnc hcl (fun q => br_f (by decide) ?_) (fun q => br_t rfl (nm_r (nI_1 r) (ih (r + 1) fl x (by omega) ?_))))
    · rw [zx_3a, nI_clamp (by omega)]
      have one : ∀ y, (∃ q, q < r + 1 ∧ (zp_ch n nc cl a_gone a_values a_lows a_highs) q = true ∧ a_values (3 * q + c) = y) → (∀ q, q < r → (zp_ch n nc cl a_gone a_values a_lows a_highs) q = true → y ≤ a_values (3 * q + c)) → y ≤ a_values (3 * r + c) → zp_li (zp_ch n nc cl a_gone a_values a_lows a_highs) (fun r => a_values (3 * r + c)) (r + 1) 1 y := by
        intro y hy hy2 hy3
        refine Or.inr ⟨rfl, hy, fun q2 hq2 hc2 => ?_⟩
        rcases Nat.lt_or_ge q2 r with z | z
        · exact hy2 q2 z hc2
        · rw [show q2 = r by omega]
          exact hy3
      refine ⟨vp_in_nI (by omega) (by omega), nm_e (br_c (fun y => nm_r (nI_1 r) (ih (r + 1) 1 _ (by omega) (one _ ⟨r, by omega, q, rfl⟩ (fun q2 hq2 hc2 => ?_) (Int32.le_refl _)))) (fun y => br_c (fun z => nm_r (nI_1 r) (ih (r + 1) 1 _ (by omega) (one _ ?_ ?_ z))) (fun z => nm_r (nI_1 r) (ih (r + 1) 1 _ (by omega) (one _ ⟨r, by omega, q, rfl⟩ (fun q2 hq2 hc2 => ?_) (Int32.le_refl _))))))⟩
      · rcases h with h | h
        · rw [h.2.2 q2 hq2] at hc2
          exact absurd hc2 (by decide)
        · rw [h.1] at y
          exact absurd y (by decide)
      · rcases h with h | h
        · exact absurd h.1 y
        · obtain ⟨q2, a, b⟩ := h.2.1
          exact ⟨q2, by omega, b⟩
      · rcases h with h | h
        · exact absurd h.1 y
        · exact h.2.2
      · rcases h with h | h
        · exact absurd h.1 y
        · have a := h.2.2 q2 hq2 hc2
          have a : x ≤ a_values (3 * q2 + c) := a
          rw [Int32.le_iff_toInt_le] at *
          omega
    · rcases h with h | h
      · refine Or.inl ⟨h.1, h.2.1, fun q2 hq2 => ?_⟩
        rcases Nat.lt_or_ge q2 r with z | z
        · exact h.2.2 q2 z
        · rw [show q2 = r by omega]
          exact q
      · refine Or.inr ⟨h.1, ?_, fun q2 hq2 hc2 => ?_⟩
        · obtain ⟨q2, a, b⟩ := h.2.1
          exact ⟨q2, by omega, b⟩
        · rcases Nat.lt_or_ge q2 r with z | z
          · exact h.2.2 q2 z hc2
          · rw [show q2 = r by omega, q] at hc2
            exact absurd hc2 (by decide)
theorem zy_rd13 {post : Int32 → Prop} {n nc c : Nat} {cl : Nat → Nat} {v : Int32} (hn : n ≤ 96) (hnc : nc ≤ 4) (hc : c < 3) (hcl : ∀ k, k < nc → a_columns k = nI (cl k) ∧ cl k < 3)
    (h1 : ∀ r, r < n → (zp_ch n nc cl a_gone a_values a_lows a_highs) r = true → nI (zp_ct (zp_rk (zp_ch n nc cl a_gone a_values a_lows a_highs) (fun r => a_values (3 * r + c)) r) n) = v → post (a_values (3 * r + c)))
    (h2 : (∀ r, r < n → (zp_ch n nc cl a_gone a_values a_lows a_highs) r = true → nI (zp_ct (zp_rk (zp_ch n nc cl a_gone a_values a_lows a_highs) (fun r => a_values (3 * r + c)) r) n) ≠ v) → post (-1000000003)) :
    ∀ e r, r + e = n → (∀ q, q < r → (zp_ch n nc cl a_gone a_values a_lows a_highs) q = true → nI (zp_ct (zp_rk (zp_ch n nc cl a_gone a_values a_lows a_highs) (fun r => a_values (3 * r + c)) q) n) ≠ v) → (wY_ranked_13 post (nI c) v (nI n) f_patchCount (nI nc) a_values a_packed a_patched a_gone a_columns a_lows a_highs (e + 1) (nI r)) := by
  intro e
  induction e with
  | zero =>
    intro r hr h
    have e : r = n := by omega
    subst e
    exact br_t (nI_le (by omega) (by omega)) (h2 h)
  | succ e ih =>
    intro r hr h
    refine br_f (nI_ge (by omega) (by omega)) (zy_ch hn (by omega) hnc hcl (fun q => br_f (by decide) (zy_rank hn hnc hc (by omega) hcl (br_c (fun y => ?_) (fun y => nm_r (nI_1 r) (ih (r + 1) (by omega) (fun q2 hq2 hc2 => ?_)))))) (fun q => br_t rfl (nm_r (nI_1 r) (ih (r + 1) (by omega) (fun q2 hq2 hc2 => ?_)))))
    · rw [zx_3a, nI_clamp (by omega)]
      exact ⟨vp_in_nI (by omega) (by omega), h1 r (by omega) q y⟩
    · rcases Nat.lt_or_ge q2 r with z | z
      · exact h q2 z hc2
      · rw [show q2 = r by omega]
        exact y
    · rcases Nat.lt_or_ge q2 r with z | z
      · exact h q2 z hc2
      · rw [show q2 = r by omega, q] at hc2
        exact absurd hc2 (by decide)
theorem zy_lk5 {post : Int32 → Prop} {n nc c r : Nat} {cl : Nat → Nat} (hn : n ≤ 96) (hnc : nc ≤ 4) (hc : c < 3) (hr : r < n) (hcl : ∀ k, k < nc → a_columns k = nI (cl k) ∧ cl k < 3)
    (hp : post (nI (zp_ct (zp_lk (zp_ch n nc cl a_gone a_values a_lows a_highs) (fun r => a_values (3 * r + c)) (a_values (3 * r + c))) n))) :
    ∀ e q, q + e = n → (wY_like_5 post (nI c) (nI r) (nI n) f_patchCount (nI nc) a_values a_packed a_patched a_gone a_columns a_lows a_highs (e + 1) (nI (zp_ct (zp_lk (zp_ch n nc cl a_gone a_values a_lows a_highs) (fun r => a_values (3 * r + c)) (a_values (3 * r + c))) q)) (nI q)) := by
  intro e
  induction e with
  | zero =>
    intro q hq
    have e : q = n := by omega
    subst e
    exact br_t (nI_le (by omega) (by omega)) hp
  | succ e ih =>
    intro q hq
    have g := ih (q + 1) (by omega)
    refine br_f (nI_ge (by omega) (by omega)) (zy_ch hn (by omega) hnc hcl (fun y => br_f (by decide) ?_) (fun y => br_t rfl (nm_r (nI_1 q) ?_)))
    · rw [zx_3a q c, zx_3a r c, nI_clamp (show 3 * q + c < 2 ^ 31 by omega), nI_clamp (show 3 * r + c < 2 ^ 31 by omega)]
      refine ⟨vp_in_nI (by omega) (by omega), vp_in_nI (by omega) (by omega), br_c (fun z => nm_r (nI_1 _) (nm_r (nI_1 q) ?_)) (fun z => nm_r (nI_1 q) ?_)⟩
      · rw [zp_ct_t (f := zp_lk (zp_ch n nc cl a_gone a_values a_lows a_highs) (fun r => a_values (3 * r + c)) (a_values (3 * r + c))) (m := q) (by
          show ((zp_ch n nc cl a_gone a_values a_lows a_highs) q && decide (a_values (3 * q + c) = a_values (3 * r + c))) = true
          rw [y, decide_eq_true z]; rfl)] at g
        exact g
      · rw [zp_ct_f (f := zp_lk (zp_ch n nc cl a_gone a_values a_lows a_highs) (fun r => a_values (3 * r + c)) (a_values (3 * r + c))) (m := q) (by
          show ((zp_ch n nc cl a_gone a_values a_lows a_highs) q && decide (a_values (3 * q + c) = a_values (3 * r + c))) = false
          rw [decide_eq_false z, Bool.and_false])] at g
        exact g
    · rw [zp_ct_f (f := zp_lk (zp_ch n nc cl a_gone a_values a_lows a_highs) (fun r => a_values (3 * r + c)) (a_values (3 * r + c))) (m := q) (by
          show ((zp_ch n nc cl a_gone a_values a_lows a_highs) q && _) = false
          rw [y, Bool.false_and])] at g
      exact g
theorem zy_like {post : Int32 → Prop} {n nc c r : Nat} {cl : Nat → Nat} (hn : n ≤ 96) (hnc : nc ≤ 4) (hc : c < 3) (hr : r < n) (hcl : ∀ k, k < nc → a_columns k = nI (cl k) ∧ cl k < 3)
    (hp : post (nI (zp_ct (zp_lk (zp_ch n nc cl a_gone a_values a_lows a_highs) (fun r => a_values (3 * r + c)) (a_values (3 * r + c))) n))) : wpY_like post (nI n, f_patchCount, nI nc, a_values, a_packed, a_patched, a_gone, a_columns, a_lows, a_highs) (nI c) (nI r) :=
  Exists.intro (n + 1) (zy_lk5 hn hnc hc hr hcl hp n 0 (by omega))
theorem zy_df33 {post : Int32 → Prop} {J15 : Int32 → Int32 → Prop} {n nc c r t : Nat} {cl : Nat → Nat} (hn : n ≤ 96) (hnc : nc ≤ 4) (hc : c < 3) (hr : r < n) (hcl : ∀ k, k < nc → a_columns k = nI (cl k) ∧ cl k < 3) (hch : (zp_ch n nc cl a_gone a_values a_lows a_highs) r = true)
    (hJ : J15 (nI (t + if zp_fs (zp_ch n nc cl a_gone a_values a_lows a_highs) (fun r => a_values (3 * r + c)) r = true then 1 else 0)) (nI (r + 1))) :
    ∀ e q, q + e = r → zp_ct (zp_lk (zp_ch n nc cl a_gone a_values a_lows a_highs) (fun r => a_values (3 * r + c)) (a_values (3 * r + c))) q = 0 → (wY_different_33 post J15 (nI c) (nI t) (nI r) (nI n) f_patchCount (nI nc) a_values a_packed a_patched a_gone a_columns a_lows a_highs (e + 1) 1 (nI q)) := by
  intro e
  induction e with
  | zero =>
    intro q hq h
    have e : q = r := by omega
    subst e
    have hf : zp_fs (zp_ch n nc cl a_gone a_values a_lows a_highs) (fun r => a_values (3 * r + c)) q = true := by
      show ((zp_ch n nc cl a_gone a_values a_lows a_highs) q && decide (zp_ct (zp_lk (zp_ch n nc cl a_gone a_values a_lows a_highs) (fun r => a_values (3 * r + c)) (a_values (3 * q + c))) q = 0)) = true
      rw [hch, decide_eq_true h]; rfl
    rw [if_pos hf] at hJ
    exact br_t (nI_le (by omega) (by omega)) (br_f (by decide) (nm_r (nI_1 t) (nm_r (nI_1 q) hJ)))
  | succ e ih =>
    intro q hq h
    refine br_f (nI_ge (by omega) (by omega)) (br_f (by decide) (zy_ch hn (by omega) hnc hcl (fun y => br_f (by decide) ?_) (fun y => br_t rfl (nm_r (nI_1 q) (ih (q + 1) (by omega) ?_)))))
    · rw [zx_3a q c, zx_3a r c, nI_clamp (show 3 * q + c < 2 ^ 31 by omega), nI_clamp (show 3 * r + c < 2 ^ 31 by omega)]
      refine ⟨vp_in_nI (by omega) (by omega), vp_in_nI (by omega) (by omega), br_c (fun z => nm_r (nI_1 q) ?_) (fun z => nm_r (nI_1 q) (ih (q + 1) (by omega) ?_))⟩
      · have hk : zp_lk (zp_ch n nc cl a_gone a_values a_lows a_highs) (fun r => a_values (3 * r + c)) (a_values (3 * r + c)) q = true := by
          show ((zp_ch n nc cl a_gone a_values a_lows a_highs) q && decide (a_values (3 * q + c) = a_values (3 * r + c))) = true
          rw [y, decide_eq_true z]; rfl
        have hf : zp_fs (zp_ch n nc cl a_gone a_values a_lows a_highs) (fun r => a_values (3 * r + c)) r = false := by
          show ((zp_ch n nc cl a_gone a_values a_lows a_highs) r && decide (zp_ct (zp_lk (zp_ch n nc cl a_gone a_values a_lows a_highs) (fun r => a_values (3 * r + c)) (a_values (3 * r + c))) r = 0)) = false
          rw [decide_eq_false, Bool.and_false]
          intro w
          have := zp_ct_lt (zp_lk (zp_ch n nc cl a_gone a_values a_lows a_highs) (fun r => a_values (3 * r + c)) (a_values (3 * r + c))) (show q < r by omega) hk
          omega
        rw [hf, if_neg (by decide)] at hJ
        exact br_c (fun _ => br_t rfl (nm_r (nI_1 r) hJ)) (fun _ => br_t rfl (br_t rfl (nm_r (nI_1 r) hJ)))
      · rw [zp_ct_f (f := zp_lk (zp_ch n nc cl a_gone a_values a_lows a_highs) (fun r => a_values (3 * r + c)) (a_values (3 * r + c))) (m := q) (by
          show ((zp_ch n nc cl a_gone a_values a_lows a_highs) q && decide (a_values (3 * q + c) = a_values (3 * r + c))) = false
          rw [decide_eq_false z, Bool.and_false])]
        exact h
    · rw [zp_ct_f (f := zp_lk (zp_ch n nc cl a_gone a_values a_lows a_highs) (fun r => a_values (3 * r + c)) (a_values (3 * r + c))) (m := q) (by
          show ((zp_ch n nc cl a_gone a_values a_lows a_highs) q && _) = false
          rw [y, Bool.false_and])]
      exact h
theorem zy_df15 {post : Int32 → Prop} {n nc c : Nat} {cl : Nat → Nat} (hn : n ≤ 96) (hnc : nc ≤ 4) (hc : c < 3) (hcl : ∀ k, k < nc → a_columns k = nI (cl k) ∧ cl k < 3)
    (hp : post (nI (zp_ct (zp_fs (zp_ch n nc cl a_gone a_values a_lows a_highs) (fun r => a_values (3 * r + c))) n))) :
    ∀ e r, r + e = n → (wY_different_15 post (nI c) (nI n) f_patchCount (nI nc) a_values a_packed a_patched a_gone a_columns a_lows a_highs (e + 1) (nI (zp_ct (zp_fs (zp_ch n nc cl a_gone a_values a_lows a_highs) (fun r => a_values (3 * r + c))) r)) (nI r)) := by
  intro e
  induction e with
  | zero =>
    intro r hr
    have e : r = n := by omega
    subst e
    exact br_t (nI_le (by omega) (by omega)) hp
  | succ e ih =>
    intro r hr
    have g := ih (r + 1) (by omega)
    refine br_f (nI_ge (by omega) (by omega)) (zy_ch hn (by omega) hnc hcl (fun q => ⟨r + 1, zy_df33 hn hnc hc (by omega) hcl q g r 0 (by omega) rfl⟩) (fun q => ⟨1, ?_⟩))
    rw [zp_ct_f (f := zp_fs (zp_ch n nc cl a_gone a_values a_lows a_highs) (fun r => a_values (3 * r + c))) (m := r) (by
      show ((zp_ch n nc cl a_gone a_values a_lows a_highs) r && _) = false
      rw [q, Bool.false_and])] at g
    exact br_c (fun _ => br_t rfl (nm_r (nI_1 r) g)) (fun _ => br_t rfl (br_t rfl (nm_r (nI_1 r) g)))
theorem zp_bt_r (ch : Nat → Bool) (f : Nat → Int32) (n q : Nat) : zp_bt ch f n q q := Or.inr ⟨rfl, Int32.le_refl _⟩
theorem zp_bt_t {ch : Nat → Bool} {f : Nat → Int32} {n a b c : Nat} (h1 : zp_bt ch f n a b) (h2 : zp_bt ch f n b c) : zp_bt ch f n a c := by
  unfold zp_bt at *
  rcases h1 with h1 | ⟨h1, h1'⟩
  · rcases h2 with h2 | ⟨h2, h2'⟩
    · exact Or.inl (by omega)
    · exact Or.inl (by omega)
  · rcases h2 with h2 | ⟨h2, h2'⟩
    · exact Or.inl (by omega)
    · exact Or.inr ⟨by omega, Int32.le_trans h1' h2'⟩
theorem zp_ci_new {ch : Nat → Bool} {f : Nat → Int32} {n r q0 : Nat} {x : Int32} (h : zp_ci ch f n r x) (hr : ch r = true) (hb : ∀ q, x = nI q → q < r → zp_bt ch f n r q) (e : q0 = r) : zp_ci ch f n (r + 1) (nI q0) := by
  subst e
  refine Or.inr ⟨q0, rfl, by omega, hr, fun q hq hc => ?_⟩
  rcases Nat.lt_or_ge q q0 with z | z
  · rcases h with ⟨_, h⟩ | ⟨q1, h1, h2, h3, h4⟩
    · rw [h q z] at hc
      exact absurd hc (by decide)
    · exact zp_bt_t (hb q1 h1 h2) (h4 q z hc)
  · rw [show q = q0 by omega]
    exact zp_bt_r _ _ _ _
theorem zp_ci_old {ch : Nat → Bool} {f : Nat → Int32} {n r q0 : Nat} (h0 : q0 < r) (hc0 : ch q0 = true) (h : ∀ q, q < r → ch q = true → zp_bt ch f n q0 q) (hb : zp_bt ch f n q0 r) : zp_ci ch f n (r + 1) (nI q0) := by
  refine Or.inr ⟨q0, rfl, by omega, hc0, fun q hq hc => ?_⟩
  rcases Nat.lt_or_ge q r with z | z
  · exact h q z hc
  · rw [show q = r by omega]
    exact hb
theorem zy_cm15 {post : Int32 → Prop} {n nc c : Nat} {cl : Nat → Nat} (hn : n ≤ 96) (hnc : nc ≤ 4) (hc : c < 3) (hcl : ∀ k, k < nc → a_columns k = nI (cl k) ∧ cl k < 3)
    (h0 : (∀ q, q < n → (zp_ch n nc cl a_gone a_values a_lows a_highs) q = false) → post (-1000000003)) (h1 : ∀ q0, q0 < n → (zp_ch n nc cl a_gone a_values a_lows a_highs) q0 = true → (∀ q, q < n → (zp_ch n nc cl a_gone a_values a_lows a_highs) q = true → zp_bt (zp_ch n nc cl a_gone a_values a_lows a_highs) (fun r => a_values (3 * r + c)) n q0 q) → post (a_values (3 * q0 + c))) :
    ∀ e r x, r + e = n → zp_ci (zp_ch n nc cl a_gone a_values a_lows a_highs) (fun r => a_values (3 * r + c)) n r x → (wY_commonest_15 post (nI c) (nI n) f_patchCount (nI nc) a_values a_packed a_patched a_gone a_columns a_lows a_highs (e + 1) x (nI r)) := by
  intro e
  induction e with
  | zero =>
    intro r x hr h
    have e : r = n := by omega
    subst e
    refine br_t (nI_le (by omega) (by omega)) ?_
    rcases h with ⟨h, h'⟩ | ⟨q0, h2, h3, h4, h5⟩
    · subst h
      exact br_f (by decide) (h0 h')
    · subst h2
      rw [zx_3a, nI_clamp (by omega)]
      exact br_t (nI_pos' (by omega)) ⟨vp_in_nI (by omega) (by omega), h1 q0 h3 h4 h5⟩
  | succ e ih =>
    intro r x hr h
    refine br_f (nI_ge (by omega) (by omega)) (zy_ch hn (by omega) hnc hcl (fun q => br_f (by decide) ?_) (fun q => br_t rfl (nm_r (nI_1 r) (ih (r + 1) x (by omega) ?_))))
    · rw [zx_3a, nI_clamp (show 3 * r + c < 2 ^ 31 by omega)]
      refine ⟨vp_in_nI (by omega) (by omega), nm_e ?_⟩
      rcases h with ⟨hx, h'⟩ | ⟨q0, hx, h3, h4, h5⟩
      · refine br_f (by rw [hx]; decide) (br_t (by rw [hx]; decide) (br_f (by decide) (nm_r (nI_1 r) (ih (r + 1) _ (by omega) (zp_ci_new (Or.inl ⟨hx, h'⟩) q (fun q2 e2 hq2 => ?_) rfl)))))
        rw [hx] at e2
        have := congrArg Int32.toInt e2
        rw [nI_toInt (by omega), show (-1 : Int32).toInt = -1 from by decide] at this
        omega
      · subst hx
        have b1 := zp_ct_le (zp_lk (zp_ch n nc cl a_gone a_values a_lows a_highs) (fun r => a_values (3 * r + c)) (a_values (3 * r + c))) n
        have b2 := zp_ct_le (zp_lk (zp_ch n nc cl a_gone a_values a_lows a_highs) (fun r => a_values (3 * r + c)) (a_values (3 * q0 + c))) n
        have new : zp_bt (zp_ch n nc cl a_gone a_values a_lows a_highs) (fun r => a_values (3 * r + c)) n r q0 → zp_ci (zp_ch n nc cl a_gone a_values a_lows a_highs) (fun r => a_values (3 * r + c)) n (r + 1) (nI r) := fun hb => zp_ci_new (Or.inr ⟨q0, rfl, h3, h4, h5⟩) q (fun q2 e2 hq2 => by
          rw [nI_eq (by omega) (by omega)] at e2
          rw [← e2]
          exact hb) rfl
        rw [zx_3a, nI_clamp (show 3 * q0 + c < 2 ^ 31 by omega)]
        refine br_t (nI_pos' (by omega)) ⟨vp_in_nI (by omega) (by omega), br_f (nI_pos (by omega)) (zy_like hn hnc hc (by omega) hcl (zy_like hn hnc hc (by omega) hcl (pk_lt _ _ (fun y => ?_) (fun y => zy_like hn hnc hc (by omega) hcl (zy_like hn hnc hc (by omega) hcl (pk_eq _ _ (fun y2 => br_c (fun y3 => ?_) (fun y3 => ?_)) (fun y2 => ?_) rfl rfl (by omega) (by omega)))) rfl rfl (by omega) (by omega))))⟩
        · exact br_f (by decide) (nm_r (nI_1 r) (ih (r + 1) _ (by omega) (new (Or.inl y))))
        · exact br_t rfl (nm_r (nI_1 r) (ih (r + 1) _ (by omega) (zp_ci_old h3 h4 h5 (Or.inr ⟨y2, y3⟩))))
        · exact br_f (by decide) (nm_r (nI_1 r) (ih (r + 1) _ (by omega) (new (Or.inr ⟨y2.symm, Int32.le_of_lt (Int32.not_le.mp y3)⟩))))
        · exact br_t rfl (nm_r (nI_1 r) (ih (r + 1) _ (by omega) (zp_ci_old h3 h4 h5 (Or.inl (Nat.lt_of_le_of_ne y y2)))))
    · rcases h with ⟨hx, h'⟩ | ⟨q0, hx, h3, h4, h5⟩
      · refine Or.inl ⟨hx, fun q2 hq2 => ?_⟩
        rcases Nat.lt_or_ge q2 r with z | z
        · exact h' q2 z
        · rw [show q2 = r by omega]
          exact q
      · refine Or.inr ⟨q0, hx, by omega, h4, fun q2 hq2 hc2 => ?_⟩
        rcases Nat.lt_or_ge q2 r with z | z
        · exact h5 q2 z hc2
        · rw [show q2 = r by omega, q] at hc2
          exact absurd hc2 (by decide)
end
end
section
/-! answers over the ordered values against answers over the chosen rows -/
def zp_xs (gv : Nat → Int32) : Nat → Int32
  | 0 => 0
  | k + 1 => zp_xs gv k + gv k
theorem zp_xs_ys {gv : Nat → Int32} {ch : Nat → Bool} {f : Nat → Int32} : ∀ m, zp_ga gv ch f m → zp_xs gv (zp_ct ch m) = zp_ys ch f m := by
  intro m
  induction m with
  | zero => exact fun _ => rfl
  | succ m ih =>
    intro h
    have e := ih (fun r hr hc => h r (by omega) hc)
    show _ = (if ch m = true then zp_ys ch f m + f m else zp_ys ch f m)
    cases q : ch m
    · rw [zp_ct_f q, if_neg (by decide)]; exact e
    · rw [zp_ct_t q, if_pos rfl]
      show zp_xs gv (zp_ct ch m) + gv (zp_ct ch m) = _
      rw [e, h m (by omega) q]
theorem zp_ga_ct {gv : Nat → Int32} {ch : Nat → Bool} {f : Nat → Int32} (P : Int32 → Bool) : ∀ m, zp_ga gv ch f m → zp_ct (fun i => P (gv i)) (zp_ct ch m) = zp_ct (fun q => ch q && P (f q)) m := by
  intro m
  induction m with
  | zero => exact fun _ => rfl
  | succ m ih =>
    intro h
    have e := ih (fun r hr hc => h r (by omega) hc)
    cases q : ch m
    · rw [zp_ct_f q, zp_ct_f (f := fun q => ch q && P (f q)) (m := m) (by show (ch m && _) = false; rw [q]; rfl)]; exact e
    · rw [zp_ct_t q]
      show zp_ct (fun i => P (gv i)) (zp_ct ch m) + (if P (gv (zp_ct ch m)) = true then 1 else 0) = zp_ct (fun q => ch q && P (f q)) m + (if (ch m && P (f m)) = true then 1 else 0)
      rw [e, h m (by omega) q, q, Bool.true_and]
/-- ordered, and the values of the chosen rows -/
def zp_gs (gv : Nat → Int32) (g : Nat) (ch : Nat → Bool) (f : Nat → Int32) (n : Nat) : Prop :=
  zp_so gv g ∧ g = zp_ct ch n ∧ ∀ P : Int32 → Bool, zp_ct (fun i => P (gv i)) g = zp_ct (fun q => ch q && P (f q)) n
theorem zp_gs_mk {gv g0 : Nat → Int32} {ch : Nat → Bool} {f : Nat → Int32} {n : Nat} (hs : zp_so gv (zp_ct ch n)) (hp : zp_pm gv g0 (zp_ct ch n)) (hg : zp_ga g0 ch f n) : zp_gs gv (zp_ct ch n) ch f n :=
  ⟨hs, rfl, fun P => (hp P).trans (zp_ga_ct P n hg)⟩
theorem zp_gs_r {gv : Nat → Int32} {g : Nat} {ch : Nat → Bool} {f : Nat → Int32} {n : Nat} (h : zp_gs gv g ch f n) {k : Nat} (hk : k < g) : ∃ q, q < n ∧ ch q = true ∧ f q = gv k := by
  have e := h.2.2 (fun x => decide (x = gv k))
  have l := zp_ct_lt (fun i => decide (gv i = gv k)) hk (decide_eq_true rfl)
  obtain ⟨q, hq, hc, _⟩ := zp_ct_nth (j := 0) (fun q => ch q && decide (f q = gv k)) n (by rw [← e]; omega)
  rw [Bool.and_eq_true] at hc
  exact ⟨q, hq, hc.1, of_decide_eq_true hc.2⟩
theorem zp_gs_k {gv : Nat → Int32} {g : Nat} {ch : Nat → Bool} {f : Nat → Int32} {n : Nat} (h : zp_gs gv g ch f n) {q : Nat} (hq : q < n) (hc : ch q = true) : ∃ k, k < g ∧ gv k = f q := by
  have e := h.2.2 (fun x => decide (x = f q))
  have l := zp_ct_lt (fun i => ch i && decide (f i = f q)) hq (by show (ch q && decide (f q = f q)) = true; rw [hc, decide_eq_true rfl]; rfl)
  obtain ⟨k, hk, hc, _⟩ := zp_ct_nth (j := 0) (fun i => decide (gv i = f q)) g (by rw [e]; omega)
  exact ⟨k, hk, of_decide_eq_true hc⟩
/-- least -/
theorem zp_gs_least {gv : Nat → Int32} {g : Nat} {ch : Nat → Bool} {f : Nat → Int32} {n : Nat} (h : zp_gs gv g ch f n) {fl x : Int32} (hl : zp_li ch f n fl x) : x = if g = 0 then -1000000003 else gv 0 := by
  rcases hl with ⟨_, h1, h2⟩ | ⟨_, ⟨q, hq, hc, e⟩, h2⟩
  · rw [if_pos, h1]
    rw [h.2.1]
    exact zp_ct_zero n h2
  · obtain ⟨k, hk, ek⟩ := zp_gs_k h hq hc
    rw [if_neg (by omega)]
    obtain ⟨q2, hq2, hc2, e2⟩ := zp_gs_r h (show 0 < g by omega)
    have a := h2 q2 hq2 hc2
    have b := h.1 0 k (by omega) hk
    rw [e2, Int32.le_iff_toInt_le] at a
    rw [ek, e] at b
    apply Int32.toInt_inj.mp
    omega
/-- where the values above a bound stand -/
theorem zp_so_up {gv : Nat → Int32} {g : Nat} (h : zp_so gv g) {P : Int32 → Bool} (hP : ∀ x y : Int32, x.toInt ≤ y.toInt → P x = true → P y = true) {i : Nat} (hi : i < g) :
    P (gv i) = true ↔ g - zp_ct (fun k => P (gv k)) g ≤ i := by
  have le := zp_ct_le (fun k => P (gv k)) g
  constructor
  · intro q
    have e : zp_ct (fun k => P (gv k)) g = zp_ct (fun k => P (gv k)) i + zp_ct (fun k => P (gv (i + k))) (g - i) := by
      have := zp_ct_add (fun k => P (gv k)) i (g - i)
      rw [show i + (g - i) = g by omega] at this
      exact this
    rw [zp_ct_all (f := fun k => P (gv (i + k))) (g - i) (fun k hk => hP _ _ (h i (i + k) (by omega) (by omega)) q)] at e
    omega
  · intro q
    cases z : P (gv i)
    · have z0 : zp_ct (fun k => P (gv k)) (i + 1) = 0 := zp_ct_zero (i + 1) (fun k hk => by
        cases y : P (gv k)
        · rfl
        · rw [hP _ _ (h k i (by omega) hi) y] at z
          exact absurd z (by decide))
      have e : zp_ct (fun k => P (gv k)) g = zp_ct (fun k => P (gv k)) (i + 1) + zp_ct (fun k => P (gv (i + 1 + k))) (g - (i + 1)) := by
        have := zp_ct_add (fun k => P (gv k)) (i + 1) (g - (i + 1))
        rw [show i + 1 + (g - (i + 1)) = g by omega] at this
        exact this
      have := zp_ct_le (fun k => P (gv (i + 1 + k))) (g - (i + 1))
      omega
    · rfl
/-- the rank of a row -/
theorem zp_rk_eq {ch : Nat → Bool} {f : Nat → Int32} {n r : Nat} (hr : r ≤ n) : zp_ct (zp_rk ch f r) n = zp_ct (fun q => ch q && decide (f r < f q)) n + zp_ct (zp_lk ch f (f r)) r := by
  rw [zp_ct_split (zp_rk ch f r) (fun q => decide (f r < f q)) n]
  congr 1
  · apply zp_ct_congr
    intro q hq
    unfold zp_rk
    cases ch q <;> cases decide (f r < f q) <;> simp
  · have e : n = r + (n - r) := by omega
    rw [e, zp_ct_add]
    rw [zp_ct_zero (f := fun i => zp_rk ch f r (r + i) && !decide (f r < f (r + i))) (n - r) (fun i hi => by
      show (zp_rk ch f r (r + i) && !decide (f r < f (r + i))) = false
      unfold zp_rk
      rw [decide_eq_false (show ¬ r + i < r by omega)]
      cases ch (r + i) <;> cases decide (f r < f (r + i)) <;> simp), Nat.add_zero]
    apply zp_ct_congr
    intro q hq
    unfold zp_rk zp_lk
    rw [decide_eq_true hq]
    by_cases z : f q = f r
    · rw [decide_eq_true z, decide_eq_false (by rw [z]; exact Int32.lt_irrefl)]
      cases ch q <;> rfl
    · rw [decide_eq_false z]
      cases ch q <;> cases decide (f r < f q) <;> rfl
theorem zp_ge_eq {ch : Nat → Bool} {f : Nat → Int32} {n : Nat} (w : Int32) : zp_ct (fun q => ch q && decide (w ≤ f q)) n = zp_ct (fun q => ch q && decide (w < f q)) n + zp_ct (zp_lk ch f w) n := by
  rw [zp_ct_split (fun q => ch q && decide (w ≤ f q)) (fun q => decide (w < f q)) n]
  congr 1
  · apply zp_ct_congr
    intro q hq
    show (ch q && decide (w ≤ f q) && decide (w < f q)) = (ch q && decide (w < f q))
    by_cases z : w < f q
    · rw [decide_eq_true z, decide_eq_true (Int32.le_of_lt z)]; simp
    · rw [decide_eq_false z]; simp
  · apply zp_ct_congr
    intro q hq
    show (ch q && decide (w ≤ f q) && !decide (w < f q)) = (ch q && decide (f q = w))
    by_cases z : f q = w
    · rw [decide_eq_true z, z, decide_eq_true (Int32.le_refl w), decide_eq_false (Int32.lt_irrefl)]; simp
    · rw [decide_eq_false z]
      by_cases y : w < f q
      · rw [decide_eq_true y]; simp
      · have : ¬ w ≤ f q := fun u => z ((Int32.le_antisymm u (Int32.not_lt.mp y)).symm)
        rw [decide_eq_false this]; simp
theorem zp_up_le (w : Int32) : ∀ x y : Int32, x.toInt ≤ y.toInt → decide (w ≤ x) = true → decide (w ≤ y) = true := by
  intro x y hxy h
  have := of_decide_eq_true h
  apply decide_eq_true
  rw [Int32.le_iff_toInt_le] at *
  omega
theorem zp_up_lt (w : Int32) : ∀ x y : Int32, x.toInt ≤ y.toInt → decide (w < x) = true → decide (w < y) = true := by
  intro x y hxy h
  have := of_decide_eq_true h
  apply decide_eq_true
  rw [Int32.lt_iff_toInt_lt] at *
  omega
theorem zp_gs_rank {gv : Nat → Int32} {g : Nat} {ch : Nat → Bool} {f : Nat → Int32} {n : Nat} (h : zp_gs gv g ch f n) {r : Nat} (hr : r < n) (hc : ch r = true) :
    zp_ct (zp_rk ch f r) n < g ∧ gv (g - 1 - zp_ct (zp_rk ch f r) n) = f r := by
  have e := zp_rk_eq (ch := ch) (f := f) (n := n) (r := r) (by omega)
  have lt := zp_ct_lt (zp_lk ch f (f r)) hr (by show (ch r && decide (f r = f r)) = true; rw [hc, decide_eq_true rfl]; rfl)
  have ge := zp_ge_eq (ch := ch) (f := f) (n := n) (f r)
  have c1 := h.2.2 (fun x => decide (f r ≤ x))
  have c2 := h.2.2 (fun x => decide (f r < x))
  have b1 := zp_ct_le (fun i => decide (f r ≤ gv i)) g
  have b1' : zp_ct (fun i => decide (f r ≤ gv i)) g = zp_ct (fun q => ch q && decide (f r ≤ f q)) n := c1
  have b2' : zp_ct (fun i => decide (f r < gv i)) g = zp_ct (fun q => ch q && decide (f r < f q)) n := c2
  have hK : zp_ct (zp_rk ch f r) n < g := by omega
  refine ⟨hK, ?_⟩
  have u1 := zp_so_up h.1 (zp_up_le (f r)) (i := g - 1 - zp_ct (zp_rk ch f r) n) (by omega)
  have u2 := zp_so_up h.1 (zp_up_lt (f r)) (i := g - 1 - zp_ct (zp_rk ch f r) n) (by omega)
  have d1 := of_decide_eq_true (u1.mpr (by omega))
  have d2 : ¬ f r < gv (g - 1 - zp_ct (zp_rk ch f r) n) := fun q => by
    have := u2.mp (decide_eq_true q)
    omega
  exact Int32.le_antisymm (Int32.not_lt.mp d2) d1
theorem zp_gs_ranked {gv : Nat → Int32} {g : Nat} {ch : Nat → Bool} {f : Nat → Int32} {n : Nat} (h : zp_gs gv g ch f n) {K : Nat} (hK : K < g) : ∃ r, r < n ∧ ch r = true ∧ zp_ct (zp_rk ch f r) n = K := by
  obtain ⟨q, hq, hc, eq⟩ := zp_gs_r h (show g - 1 - K < g by omega)
  have ge := zp_ge_eq (ch := ch) (f := f) (n := n) (f q)
  have c1 : zp_ct (fun i => decide (f q ≤ gv i)) g = zp_ct (fun r => ch r && decide (f q ≤ f r)) n := h.2.2 (fun x => decide (f q ≤ x))
  have c2 : zp_ct (fun i => decide (f q < gv i)) g = zp_ct (fun r => ch r && decide (f q < f r)) n := h.2.2 (fun x => decide (f q < x))
  have u1 := (zp_so_up h.1 (zp_up_le (f q)) (i := g - 1 - K) (by omega)).mp (decide_eq_true (by rw [eq]; exact Int32.le_refl _))
  have u2 : ¬ g - zp_ct (fun i => decide (f q < gv i)) g ≤ g - 1 - K := fun y => by
    have := of_decide_eq_true ((zp_so_up h.1 (zp_up_lt (f q)) (i := g - 1 - K) (by omega)).mpr y)
    rw [eq] at this
    exact Int32.lt_irrefl this
  have b1 := zp_ct_le (fun i => decide (f q ≤ gv i)) g
  have u1' : g - zp_ct (fun i => decide (f q ≤ gv i)) g ≤ g - 1 - K := u1
  obtain ⟨r, hr, hl, hct⟩ := zp_ct_nth (zp_lk ch f (f q)) (j := K - zp_ct (fun r => ch r && decide (f q < f r)) n) n (by omega)
  have hl2 : (ch r && decide (f r = f q)) = true := hl
  rw [Bool.and_eq_true] at hl2
  have er : f r = f q := of_decide_eq_true hl2.2
  refine ⟨r, hr, hl2.1, ?_⟩
  rw [zp_rk_eq (by omega), er, hct]
  omega
/-! different values: two systems of representatives -/
def zp_fo (F : Nat → Bool) (h : Nat → Int32) (m : Nat) (O : Int32 → Prop) : Prop :=
  (∀ k, k < m → F k = true → O (h k)) ∧ (∀ x, O x → ∃ k, k < m ∧ F k = true ∧ h k = x) ∧ (∀ k j, k < m → j < m → F k = true → F j = true → h k = h j → k = j)
theorem zp_ct_one {f : Nat → Bool} {m k0 : Nat} (hk : k0 < m) (h0 : f k0 = true) (h : ∀ k, k < m → f k = true → k = k0) : zp_ct f m = 1 := by
  have z0 : zp_ct f k0 = 0 := zp_ct_zero k0 (fun i hi => by
    cases y : f i
    · rfl
    · have := h i (by omega) y
      omega)
  have e : m = k0 + 1 + (m - (k0 + 1)) := by omega
  rw [e, zp_ct_add, zp_ct_t h0, z0, zp_ct_zero (f := fun i => f (k0 + 1 + i)) (m - (k0 + 1)) (fun i hi => by
    show f (k0 + 1 + i) = false
    cases y : f (k0 + 1 + i)
    · rfl
    · have := h _ (by omega) y
      omega)]
theorem zp_fo_eq {h : Nat → Int32} {F : Nat → Bool} {h' : Nat → Int32} {m' : Nat} : ∀ (m : Nat) (F' : Nat → Bool) (O : Int32 → Prop), zp_fo F h m O → zp_fo F' h' m' O → zp_ct F m = zp_ct F' m' := by
  intro m
  induction m with
  | zero =>
    intro F' O a b
    symm
    apply zp_ct_zero
    intro k hk
    cases y : F' k
    · rfl
    · obtain ⟨j, hj, _⟩ := a.2.1 _ (b.1 k hk y)
      exact absurd hj (by omega)
  | succ m ih =>
    intro F' O a b
    cases q : F m
    · rw [zp_ct_f q]
      refine ih F' O ⟨fun k hk => a.1 k (by omega), fun x hx => ?_, fun k j hk hj => a.2.2 k j (by omega) (by omega)⟩ b
      obtain ⟨k, hk, h1, h2⟩ := a.2.1 x hx
      refine ⟨k, ?_, h1, h2⟩
      rcases Nat.lt_or_ge k m with z | z
      · exact z
      · rw [show k = m by omega, q] at h1
        exact absurd h1 (by decide)
    · rw [zp_ct_t q]
      have hO := a.1 m (by omega) q
      obtain ⟨k0, hk0, f0, e0⟩ := b.2.1 _ hO
      have sp := zp_ct_split F' (fun k => decide (h' k ≠ h m)) m'
      have one : zp_ct (fun k => F' k && !decide (h' k ≠ h m)) m' = 1 := by
        refine zp_ct_one hk0 ?_ (fun k hk hf => ?_)
        · show (F' k0 && !decide (h' k0 ≠ h m)) = true
          rw [f0, decide_eq_false (fun y => y e0)]; rfl
        · have hf2 : (F' k && !decide (h' k ≠ h m)) = true := hf
          rw [Bool.and_eq_true] at hf2
          have ek : h' k = h m := by
            by_cases y : h' k = h m
            · exact y
            · rw [decide_eq_true y] at hf2
              exact absurd hf2.2 (by decide)
          exact b.2.2 k k0 hk hk0 hf2.1 f0 (ek.trans e0.symm)
      have r := ih (fun k => F' k && decide (h' k ≠ h m)) (fun x => O x ∧ x ≠ h m) ⟨fun k hk hf => ⟨a.1 k (by omega) hf, fun y => ?_⟩, fun x hx => ?_, fun k j hk hj => a.2.2 k j (by omega) (by omega)⟩
        ⟨fun k hk hf => ?_, fun x hx => ?_, fun k j hk hj hf hf2 => ?_⟩
      · omega
      · have := a.2.2 k m (by omega) (by omega) hf q y
        omega
      · obtain ⟨k, hk, h1, h2⟩ := a.2.1 x hx.1
        refine ⟨k, ?_, h1, h2⟩
        rcases Nat.lt_or_ge k m with z | z
        · exact z
        · rw [show k = m by omega] at h2
          exact absurd h2.symm hx.2
      · have hf2 : (F' k && decide (h' k ≠ h m)) = true := hf
        rw [Bool.and_eq_true] at hf2
        exact ⟨b.1 k hk hf2.1, of_decide_eq_true hf2.2⟩
      · obtain ⟨k, hk, h1, h2⟩ := b.2.1 x hx.1
        refine ⟨k, hk, ?_, h2⟩
        show (F' k && decide (h' k ≠ h m)) = true
        rw [h1, decide_eq_true (by rw [h2]; exact hx.2)]; rfl
      · have g1 : (F' k && decide (h' k ≠ h m)) = true := hf
        have g2 : (F' j && decide (h' j ≠ h m)) = true := hf2
        rw [Bool.and_eq_true] at g1 g2
        exact b.2.2 k j hk hj g1.1 g2.1
theorem zp_gs_diff {gv : Nat → Int32} {g : Nat} {ch : Nat → Bool} {f : Nat → Int32} {n : Nat} (h : zp_gs gv g ch f n) : zp_ct (zp_rn gv) g = zp_ct (zp_fs ch f) n := by
  have inj : ∀ k j, k < j → j < g → zp_rn gv j = true → gv k ≠ gv j := by
    intro k j hkj hj hf e
    rcases of_decide_eq_true hf with z | z
    · omega
    · have a := h.1 k (j - 1) (by omega) (by omega)
      have b := h.1 (j - 1) j (by omega) hj
      rw [e] at a
      exact z (Int32.toInt_inj.mp (by omega))
  refine zp_fo_eq (h := gv) (h' := f) g _ (fun x => ∃ k, k < g ∧ gv k = x) ⟨fun k hk _ => ⟨k, hk, rfl⟩, fun x hx => ?_, fun k j hk hj hf hf2 e => ?_⟩ ⟨fun q hq hf => ?_, fun x hx => ?_, fun q j hq hj hf hf2 e => ?_⟩
  · obtain ⟨k, ⟨hk, ek⟩, hl⟩ := pk_least _ hx
    refine ⟨k, hk, decide_eq_true ?_, ek⟩
    rcases Nat.eq_zero_or_pos k with z | z
    · exact Or.inl z
    · exact Or.inr (fun y => hl (k - 1) (by omega) ⟨by omega, y.symm.trans ek⟩)
  · rcases Nat.lt_trichotomy k j with z | z | z
    · exact absurd e (inj k j z hj hf2)
    · exact z
    · exact absurd e.symm (inj j k z hk hf)
  · have g1 : (ch q && decide (zp_ct (zp_lk ch f (f q)) q = 0)) = true := hf
    rw [Bool.and_eq_true] at g1
    exact zp_gs_k h hq g1.1
  · obtain ⟨k, hk, ek⟩ := hx
    obtain ⟨q, ⟨hq, hc, eq⟩, hl⟩ := pk_least _ (zp_gs_r h hk)
    refine ⟨q, hq, ?_, eq.trans ek⟩
    show (ch q && decide (zp_ct (zp_lk ch f (f q)) q = 0)) = true
    rw [hc, Bool.true_and]
    apply decide_eq_true
    apply zp_ct_zero
    intro i hi
    show (ch i && decide (f i = f q)) = false
    cases y : ch i
    · rfl
    · rw [decide_eq_false (fun z => hl i hi ⟨by omega, y, z.trans eq⟩)]; rfl
  · have g1 : (ch q && decide (zp_ct (zp_lk ch f (f q)) q = 0)) = true := hf
    have g2 : (ch j && decide (zp_ct (zp_lk ch f (f j)) j = 0)) = true := hf2
    rw [Bool.and_eq_true] at g1 g2
    rcases Nat.lt_trichotomy q j with z | z | z
    · have := zp_ct_none j (of_decide_eq_true g2.2) q z
      have t : (ch q && decide (f q = f j)) = false := this
      rw [g1.1, decide_eq_true e] at t
      exact absurd t (by decide)
    · exact z
    · have := zp_ct_none q (of_decide_eq_true g1.2) j z
      have t : (ch j && decide (f j = f q)) = false := this
      rw [g2.1, decide_eq_true e.symm] at t
      exact absurd t (by decide)
/-! the commonest value -/
def zp_rl (gv : Nat → Int32) : Nat → Nat
  | 0 => 0
  | k + 1 => if 0 < k ∧ gv k = gv (k - 1) then zp_rl gv k + 1 else 1
def zp_ms (gv : Nat → Int32) : Nat → Nat
  | 0 => 0
  | k + 1 => if zp_rl gv (k + 1) ≤ zp_ms gv k then zp_ms gv k else zp_rl gv (k + 1)
def zp_cb (gv : Nat → Int32) : Nat → Int32
  | 0 => -1000000003
  | k + 1 => if zp_rl gv (k + 1) ≤ zp_ms gv k then zp_cb gv k else gv k
theorem zp_rl_s (gv : Nat → Int32) (k : Nat) : zp_rl gv (k + 1) = if 0 < k ∧ gv k = gv (k - 1) then zp_rl gv k + 1 else 1 := rfl
theorem zp_ms_s (gv : Nat → Int32) (k : Nat) : zp_ms gv (k + 1) = if zp_rl gv (k + 1) ≤ zp_ms gv k then zp_ms gv k else zp_rl gv (k + 1) := rfl
theorem zp_cb_s (gv : Nat → Int32) (k : Nat) : zp_cb gv (k + 1) = if zp_rl gv (k + 1) ≤ zp_ms gv k then zp_cb gv k else gv k := rfl
theorem zp_rl_le (gv : Nat → Int32) : ∀ k, zp_rl gv k ≤ k := by
  intro k
  induction k with
  | zero => exact Nat.le_refl _
  | succ k ih =>
    rw [zp_rl_s]
    split <;> omega
theorem zp_ms_le (gv : Nat → Int32) : ∀ k, zp_ms gv k ≤ k := by
  intro k
  induction k with
  | zero => exact Nat.le_refl _
  | succ k ih =>
    have := zp_rl_le gv (k + 1)
    rw [zp_ms_s]
    split <;> omega
theorem zp_rl_ct {gv : Nat → Int32} {g : Nat} (h : zp_so gv g) : ∀ k, k < g → zp_rl gv (k + 1) = zp_ct (fun i => decide (gv i = gv k)) (k + 1) := by
  intro k
  induction k with
  | zero =>
    intro hk
    rw [zp_rl_s, if_neg (by omega), zp_ct_t (f := fun i => decide (gv i = gv 0)) (m := 0) (decide_eq_true rfl)]
    rfl
  | succ k ih =>
    intro hk
    rw [zp_rl_s, zp_ct_t (f := fun i => decide (gv i = gv (k + 1))) (m := k + 1) (decide_eq_true rfl)]
    by_cases z : gv (k + 1) = gv (k + 1 - 1)
    · rw [if_pos ⟨by omega, z⟩, ih (by omega)]
      have z' : gv (k + 1) = gv k := z
      rw [z']
    · rw [if_neg (fun y => z y.2), zp_ct_zero (f := fun i => decide (gv i = gv (k + 1))) (k + 1) (fun i hi => ?_)]
      apply decide_eq_false
      intro e
      have z' : ¬ gv (k + 1) = gv k := z
      have a := h i k (by omega) (by omega)
      have b := h k (k + 1) (by omega) hk
      rw [e] at a
      exact z' (Int32.toInt_inj.mp (by omega))
theorem zp_cb_ex (gv : Nat → Int32) : ∀ k, 0 < k → ∃ j, j < k ∧ zp_cb gv k = gv j ∧ zp_rl gv (j + 1) = zp_ms gv k ∧ (∀ i, i < k → zp_rl gv (i + 1) ≤ zp_ms gv k) ∧ ∀ i, i < j → zp_rl gv (i + 1) < zp_ms gv k := by
  intro k
  induction k with
  | zero => exact fun h => absurd h (by omega)
  | succ k ih =>
    intro _
    rw [zp_cb_s, zp_ms_s]
    have r1 : 1 ≤ zp_rl gv (k + 1) := by
      rw [zp_rl_s]
      split <;> omega
    by_cases q : zp_rl gv (k + 1) ≤ zp_ms gv k
    · rw [if_pos q, if_pos q]
      have hk : 0 < k := by
        rcases Nat.eq_zero_or_pos k with z | z
        · rw [z] at q
          have : zp_ms gv 0 = 0 := rfl
          rw [z] at r1
          omega
        · exact z
      obtain ⟨j, hj, a, b, c, d⟩ := ih hk
      refine ⟨j, by omega, a, b, fun i hi => ?_, d⟩
      rcases Nat.lt_or_ge i k with z | z
      · exact c i z
      · rw [show i = k by omega]; exact q
    · rw [if_neg q, if_neg q]
      have all : ∀ i, i < k → zp_rl gv (i + 1) ≤ zp_ms gv k := by
        intro i hi
        obtain ⟨j, hj, a, b, c, d⟩ := ih (by omega)
        exact c i hi
      refine ⟨k, by omega, rfl, rfl, fun i hi => ?_, fun i hi => ?_⟩
      · rcases Nat.lt_or_ge i k with z | z
        · have := all i z
          omega
        · rw [show i = k by omega]; exact Nat.le_refl _
      · have := all i hi
        omega
theorem zp_last {gv : Nat → Int32} {x : Int32} : ∀ m, (∃ i, i < m ∧ gv i = x) → ∃ l, l < m ∧ gv l = x ∧ zp_ct (fun i => decide (gv i = x)) m = zp_ct (fun i => decide (gv i = x)) (l + 1) := by
  intro m
  induction m with
  | zero =>
    rintro ⟨i, hi, _⟩
    exact absurd hi (by omega)
  | succ m ih =>
    rintro ⟨i, hi, e⟩
    by_cases z : gv m = x
    · exact ⟨m, by omega, z, rfl⟩
    · have : i ≠ m := fun y => z (by rw [← y]; exact e)
      obtain ⟨l, hl, a, b⟩ := ih ⟨i, by omega, e⟩
      refine ⟨l, by omega, a, ?_⟩
      rw [zp_ct_f (f := fun i => decide (gv i = x)) (m := m) (decide_eq_false z)]
      exact b
theorem zp_gs_com {gv : Nat → Int32} {g : Nat} {ch : Nat → Bool} {f : Nat → Int32} {n q0 : Nat} (h : zp_gs gv g ch f n) (hq : q0 < n) (hc : ch q0 = true) (hb : ∀ q, q < n → ch q = true → zp_bt ch f n q0 q) : zp_cb gv g = f q0 := by
  obtain ⟨k, hk, ek⟩ := zp_gs_k h hq hc
  obtain ⟨j, hj, a, b, c, d⟩ := zp_cb_ex gv g (by omega)
  obtain ⟨q1, hq1, hc1, e1⟩ := zp_gs_r h hj
  have mu : ∀ x, zp_ct (fun i => decide (gv i = x)) g = zp_ct (zp_lk ch f x) n := fun x => h.2.2 (fun y => decide (y = x))
  obtain ⟨l, hl, el, cl⟩ := zp_last g ⟨k, hk, ek⟩
  have rl := zp_rl_ct h.1 l hl
  rw [el] at rl
  have rj := zp_rl_ct h.1 j hj
  have mj := zp_ct_mono (fun i => decide (gv i = gv j)) (show j + 1 ≤ g by omega)
  have ml := c l hl
  have m1 := mu (f q0)
  have m2 := mu (gv j)
  have bb := hb q1 hq1 hc1
  unfold zp_bt at bb
  rw [e1] at bb
  rw [a]
  have w : f q0 ≤ gv j := by
    rcases bb with bb | bb
    · omega
    · exact bb.2
  have eqm : zp_ct (zp_lk ch f (gv j)) n ≤ zp_ct (zp_lk ch f (f q0)) n := by
    rcases bb with bb | bb
    · omega
    · omega
  rcases Nat.lt_or_ge l j with z | z
  · have := d l z
    omega
  · have := h.1 j l z hl
    rw [el] at this
    rw [Int32.le_iff_toInt_le] at w
    exact Int32.toInt_inj.mp (by omega)
end
section
/-! the component: last loops of its answers; compact -/
def zp_l0 (de : Nat → Int32) (r : Nat) : Bool := decide (de r = 0)
section
variable {f_rowCount f_patchCount f_distinct f_conditions f_gathered : Int32} {f_lowStep : Int64} {a_isDeleted a_formOf a_firstValue a_width a_leastStep a_many a_lowest a_highest a_taken a_words a_lengths a_loose a_patchPlace a_patchValue a_buffer a_sorted a_conditionColumn a_conditionLow a_conditionHigh a_chosenSet a_gatheredValue a_kept : Nat → Int32} {a_values a_packed a_patched a_gone a_columns a_lows a_highs : Nat → Int32}
theorem zx_su20 {post : Int32 → SX → Prop} {g : Nat} (hg : g ≤ 96) (hp : post (zp_xs a_gatheredValue g) (f_rowCount, f_patchCount, f_distinct, f_conditions, nI g, f_lowStep, a_isDeleted, a_formOf, a_firstValue, a_width, a_leastStep, a_many, a_lowest, a_highest, a_taken, a_words, a_lengths, a_loose, a_patchPlace, a_patchValue, a_buffer, a_sorted, a_conditionColumn, a_conditionLow, a_conditionHigh, a_chosenSet, a_gatheredValue, a_kept)) :
    ∀ e k, k + e = g → (wX_sum_20 post f_rowCount f_patchCount f_distinct f_conditions (nI g) f_lowStep a_isDeleted a_formOf a_firstValue a_width a_leastStep a_many a_lowest a_highest a_taken a_words a_lengths a_loose a_patchPlace a_patchValue a_buffer a_sorted a_conditionColumn a_conditionLow a_conditionHigh a_chosenSet a_gatheredValue a_kept (e + 1) (zp_xs a_gatheredValue k) (nI k)) := by
  intro e
  induction e with
  | zero =>
    intro k hk
    have e : k = g := by omega
    subst e
    exact br_t (nI_le (by omega) (by omega)) hp
  | succ e ih =>
    intro k hk
    refine br_f (nI_ge (by omega) (by omega)) ⟨vp_in_nI (by omega) (by omega), ?_⟩
    rw [nI_clamp (by omega)]
    exact nm_e (nm_r (nI_1 k) (ih (k + 1) (by omega)))
theorem zx_df24 {post : Int32 → SX → Prop} {g : Nat} (hg : g ≤ 96) (hp : post (nI (zp_ct (zp_rn a_gatheredValue) g)) (f_rowCount, f_patchCount, f_distinct, f_conditions, nI g, f_lowStep, a_isDeleted, a_formOf, a_firstValue, a_width, a_leastStep, a_many, a_lowest, a_highest, a_taken, a_words, a_lengths, a_loose, a_patchPlace, a_patchValue, a_buffer, a_sorted, a_conditionColumn, a_conditionLow, a_conditionHigh, a_chosenSet, a_gatheredValue, a_kept)) :
    ∀ e k, k + e = g → (wX_different_24 post f_rowCount f_patchCount f_distinct f_conditions (nI g) f_lowStep a_isDeleted a_formOf a_firstValue a_width a_leastStep a_many a_lowest a_highest a_taken a_words a_lengths a_loose a_patchPlace a_patchValue a_buffer a_sorted a_conditionColumn a_conditionLow a_conditionHigh a_chosenSet a_gatheredValue a_kept (e + 1) (nI (zp_ct (zp_rn a_gatheredValue) k)) (nI k)) := by
  intro e
  induction e with
  | zero =>
    intro k hk
    have e : k = g := by omega
    subst e
    exact br_t (nI_le (by omega) (by omega)) hp
  | succ e ih =>
    intro k hk
    have g := ih (k + 1) (by omega)
    refine br_f (nI_ge (by omega) (by omega)) (pk_eq k 0 (fun z => ?_) (fun z => ?_) rfl rfl (by omega) (by omega))
    · rw [zp_ct_t (f := zp_rn a_gatheredValue) (m := k) (decide_eq_true (Or.inl z))] at g
      exact nm_r (nI_1 _) (nm_r (nI_1 k) g)
    · have ep : nI k - 1 = nI (k - 1) := pk_sub (b := 1) (by omega)
      rw [ep, nI_clamp (by omega), nI_clamp (by omega)]
      refine ⟨vp_in_nI (by omega) (by omega), vp_in_nI (by omega) (by omega), br_c (fun y => nm_r (nI_1 k) ?_) (fun y => nm_r (nI_1 _) (nm_r (nI_1 k) ?_))⟩
      · rw [zp_ct_f (f := zp_rn a_gatheredValue) (m := k) (decide_eq_false (by rintro (w | w); exact z w; exact w y))] at g
        exact g
      · rw [zp_ct_t (f := zp_rn a_gatheredValue) (m := k) (decide_eq_true (Or.inr y))] at g
        exact g
theorem zx_cm72 {post : Int32 → SX → Prop} {J31 : Int32 → Int32 → Int32 → Int32 → Prop} {k R : Nat} (hk : k < 96) (hR : zp_rl a_gatheredValue (k + 1) = R)
    (hJ : J31 (zp_cb a_gatheredValue (k + 1)) (nI (zp_ms a_gatheredValue (k + 1))) (nI (zp_rl a_gatheredValue (k + 1))) (nI (k + 1))) :
    (wX_commonest_72 post J31 (zp_cb a_gatheredValue k) (nI (zp_ms a_gatheredValue k)) (nI k) (nI R) f_rowCount f_patchCount f_distinct f_conditions f_gathered f_lowStep a_isDeleted a_formOf a_firstValue a_width a_leastStep a_many a_lowest a_highest a_taken a_words a_lengths a_loose a_patchPlace a_patchValue a_buffer a_sorted a_conditionColumn a_conditionLow a_conditionHigh a_chosenSet a_gatheredValue a_kept) := by
  have b1 := zp_rl_le a_gatheredValue (k + 1)
  have b2 := zp_ms_le a_gatheredValue k
  subst hR
  rw [zp_cb_s, zp_ms_s] at hJ
  refine pk_le (zp_rl a_gatheredValue (k + 1)) (zp_ms a_gatheredValue k) (fun z => ?_) (fun z => ⟨vp_in_nI hk (by omega), ?_⟩) rfl rfl (by omega) (by omega)
  · rw [if_pos z, if_pos z] at hJ
    exact br_t (nI_le z (by omega)) (nm_r (nI_1 k) hJ)
  · rw [if_neg (by omega), if_neg (by omega)] at hJ
    rw [nI_clamp (by omega)]
    exact br_f (nI_ge z (by omega)) (nm_r (nI_1 k) hJ)
theorem zx_cm31 {post : Int32 → SX → Prop} {g : Nat} (hg : g ≤ 96) (hp : post (zp_cb a_gatheredValue g) (f_rowCount, f_patchCount, f_distinct, f_conditions, nI g, f_lowStep, a_isDeleted, a_formOf, a_firstValue, a_width, a_leastStep, a_many, a_lowest, a_highest, a_taken, a_words, a_lengths, a_loose, a_patchPlace, a_patchValue, a_buffer, a_sorted, a_conditionColumn, a_conditionLow, a_conditionHigh, a_chosenSet, a_gatheredValue, a_kept)) :
    ∀ e k, k + e = g → (wX_commonest_31 post f_rowCount f_patchCount f_distinct f_conditions (nI g) f_lowStep a_isDeleted a_formOf a_firstValue a_width a_leastStep a_many a_lowest a_highest a_taken a_words a_lengths a_loose a_patchPlace a_patchValue a_buffer a_sorted a_conditionColumn a_conditionLow a_conditionHigh a_chosenSet a_gatheredValue a_kept (e + 1) (zp_cb a_gatheredValue k) (nI (zp_ms a_gatheredValue k)) (nI (zp_rl a_gatheredValue k)) (nI k)) := by
  intro e
  induction e with
  | zero =>
    intro k hk
    have e : k = g := by omega
    subst e
    exact br_t (nI_le (by omega) (by omega)) hp
  | succ e ih =>
    intro k hk
    have G := ih (k + 1) (by omega)
    refine br_f (nI_ge (by omega) (by omega)) (pk_le k 0 (fun z => ?_) (fun z => ?_) rfl rfl (by omega) (by omega))
    · exact zx_cm72 (R := 1) (by omega) (by rw [zp_rl_s, if_neg (by omega)]) G
    · have ep : nI k - 1 = nI (k - 1) := pk_sub (b := 1) (by omega)
      rw [ep, nI_clamp (by omega), nI_clamp (by omega), nI_1]
      refine ⟨vp_in_nI (by omega) (by omega), vp_in_nI (by omega) (by omega), br_c (fun y => ?_) (fun y => ?_)⟩
      · exact zx_cm72 (by omega) (by rw [zp_rl_s, if_pos ⟨z, y⟩]) G
      · exact zx_cm72 (R := 1) (by omega) (by rw [zp_rl_s, if_neg (fun w => y w.2)]) G
theorem zx_lr4 {post : Int32 → Prop} {n : Nat} (hn : n ≤ 96) (hp : post (nI (zp_ct (zp_l0 a_isDeleted) n))) :
    ∀ e r, r + e = n → (wX_liveRows_4 post (nI n) f_patchCount f_distinct f_conditions f_gathered f_lowStep a_isDeleted a_formOf a_firstValue a_width a_leastStep a_many a_lowest a_highest a_taken a_words a_lengths a_loose a_patchPlace a_patchValue a_buffer a_sorted a_conditionColumn a_conditionLow a_conditionHigh a_chosenSet a_gatheredValue a_kept (e + 1) (nI (zp_ct (zp_l0 a_isDeleted) r)) (nI r)) := by
  intro e
  induction e with
  | zero =>
    intro r hr
    have e : r = n := by omega
    subst e
    exact br_t (nI_le (by omega) (by omega)) hp
  | succ e ih =>
    intro r hr
    have g := ih (r + 1) (by omega)
    refine br_f (nI_ge (by omega) (by omega)) ⟨vp_in_nI (by omega) (by omega), ?_⟩
    rw [nI_clamp (by omega)]
    refine br_c (fun y => nm_r (nI_1 _) (nm_r (nI_1 r) ?_)) (fun y => nm_r (nI_1 r) ?_)
    · rw [zp_ct_t (f := zp_l0 a_isDeleted) (m := r) (decide_eq_true y)] at g
      exact g
    · rw [zp_ct_f (f := zp_l0 a_isDeleted) (m := r) (decide_eq_false y)] at g
      exact g
/-- the sum of the sizes of the blocks -/
def zp_dg (pk : Nat → Int32) (c : Nat) (s0 : Int32) : Nat → Int32
  | 0 => s0
  | b + 1 => zp_dg pk c s0 b + nI (zp_sz (fun i => pk (48 * b + 3 * i + c)) (zp_bs (fun i => pk (48 * b + 3 * i + c))))
theorem zx_dg24 {post : Int32 → Prop} {n c : Nat} {s0 : Int32} (hn : n ≤ 96) (hc : c < 3) (hB : (zp_bl n a_formOf a_firstValue a_width a_leastStep a_many a_lowest a_highest a_taken a_words a_lengths a_packed)) (hp : post (zp_dg a_packed c s0 (n / 16))) :
    ∀ e b, b + e = n / 16 → (wX_digits_24 post (nI c) (nI n) f_patchCount f_distinct f_conditions f_gathered f_lowStep a_isDeleted a_formOf a_firstValue a_width a_leastStep a_many a_lowest a_highest a_taken a_words a_lengths a_loose a_patchPlace a_patchValue a_buffer a_sorted a_conditionColumn a_conditionLow a_conditionHigh a_chosenSet a_gatheredValue a_kept (e + 1) (zp_dg a_packed c s0 b) (nI b)) := by
  intro e
  induction e with
  | zero =>
    intro b hb
    have e : b = n / 16 := by omega
    subst e
    refine And.intro zx_n16 ?_
    rw [zx_d16 (by omega)]
    exact br_t (nI_le (by omega) (by omega)) hp
  | succ e ih =>
    intro b hb
    have hk := (hB b c (by omega) hc).2.1
    refine And.intro zx_n16 ?_
    rw [zx_d16 (by omega)]
    refine br_f (nI_ge (by omega) (by omega)) ?_
    rw [zx_3a, nI_clamp (by omega), hk]
    exact ⟨vp_in_nI (by omega) (by omega), nm_e (nm_r (nI_1 b) (ih (b + 1) (by omega)))⟩
theorem zx_cp71 {post : Int32 → SX → Prop} {m : Nat} (hm : m ≤ 96)
    (hp : ∀ de fo fv wd ls mn lo hi tk W L l B S d lst, zp_bl m fo fv wd ls mn lo hi tk W L a_kept → zp_lo m l a_kept → (∀ r, r < m → de r = 0) →
      post (nI m) (nI m, f_patchCount, d, f_conditions, f_gathered, lst, de, fo, fv, wd, ls, mn, lo, hi, tk, W, L, l, a_patchPlace, a_patchValue, B, S, a_conditionColumn, a_conditionLow, a_conditionHigh, a_chosenSet, a_gatheredValue, a_kept)) :
    ∀ e k de fo fv wd ls mn lo hi tk W L l B S d lst, k + e = m → zp_bl k fo fv wd ls mn lo hi tk W L a_kept → zp_lo k l a_kept → (∀ r, r < k → de r = 0) →
      (wX_compact_71 post (nI m) (e + 1) (nI k) (nI k) f_patchCount d f_conditions f_gathered lst de fo fv wd ls mn lo hi tk W L l a_patchPlace a_patchValue B S a_conditionColumn a_conditionLow a_conditionHigh a_chosenSet a_gatheredValue a_kept) := by
  intro e
  induction e with
  | zero =>
    intro k de fo fv wd ls mn lo hi tk W L l B S d lst hk h1 h2 h3
    have e : k = m := by omega
    subst e
    exact br_t (nI_le (by omega) (by omega)) (hp de fo fv wd ls mn lo hi tk W L l B S d lst h1 h2 h3)
  | succ e ih =>
    intro k de fo fv wd ls mn lo hi tk W L l B S d lst hk h1 h2 h3
    refine br_f (nI_ge (by omega) (by omega)) ?_
    rw [zx_3, show nI (3 * k) + 1 = nI (3 * k + 1) from nI_1 _, show nI (3 * k) + 2 = nI (3 * k + 2) from nI_add _ 2, nI_clamp (by omega), nI_clamp (by omega), nI_clamp (by omega)]
    refine ⟨vp_in_nI (by omega) (by omega), vp_in_nI (by omega) (by omega), vp_in_nI (by omega) (by omega), ?_⟩
    refine zx_addRow (a_values := a_kept) (a_packed := a_kept) (va' := a_kept) (pk' := a_kept) (by omega) h1 h2 rfl rfl rfl (fun _ _ => rfl) (fun _ _ => rfl) (fun _ _ _ _ => rfl) (fun fo fv wd ls mn lo hi tk W L l B S d lst g1 g2 => nm_r (nI_1 k) (ih (k + 1) _ fo fv wd ls mn lo hi tk W L l B S d lst (by omega) g1 g2 (fun r hr => ?_)))
    by_cases z : r = k
    · rw [z, pk_us]
    · rw [pk_un z]
      exact h3 r (by omega)
/-- the kept rows so far -/
def zp_kp (ke va : Nat → Int32) (lv : Nat → Bool) (r : Nat) : Prop := ∀ q c, q < r → lv q = true → c < 3 → ke (3 * zp_ct lv q + c) = va (3 * q + c)
theorem zp_kp_s {ke ke' va : Nat → Int32} {lv : Nat → Bool} {r : Nat} (h : zp_kp ke va lv r) (hl : lv r = true) (h1 : ∀ c, c < 3 → ke' (3 * zp_ct lv r + c) = va (3 * r + c)) (h2 : ∀ q, q < 3 * zp_ct lv r → ke' q = ke q) : zp_kp ke' va lv (r + 1) := by
  intro q c hq hlq hc
  rcases Nat.lt_or_ge q r with z | z
  · have := zp_ct_lt lv z hlq
    rw [h2 _ (by omega)]
    exact h q c z hlq hc
  · rw [show q = r by omega]
    exact h1 c hc
theorem zp_kp_n {ke va : Nat → Int32} {lv : Nat → Bool} {r : Nat} (h : zp_kp ke va lv r) (hl : lv r = false) : zp_kp ke va lv (r + 1) := by
  intro q c hq hlq hc
  rcases Nat.lt_or_ge q r with z | z
  · exact h q c z hlq hc
  · rw [show q = r by omega, hl] at hlq
    exact absurd hlq (by decide)
theorem zx_cp23 {post : Int32 → SX → Prop} {J4 : Int32 → Int32 → Int32 → Int32 → Int32 → Int32 → Int32 → Int64 → (Nat → Int32) → (Nat → Int32) → (Nat → Int32) → (Nat → Int32) → (Nat → Int32) → (Nat → Int32) → (Nat → Int32) → (Nat → Int32) → (Nat → Int32) → (Nat → Int32) → (Nat → Int32) → (Nat → Int32) → (Nat → Int32) → (Nat → Int32) → (Nat → Int32) → (Nat → Int32) → (Nat → Int32) → (Nat → Int32) → (Nat → Int32) → (Nat → Int32) → (Nat → Int32) → (Nat → Int32) → Prop}
    {n pc m r : Nat} (hn : n ≤ 96) (hpc : pc ≤ 20) (hr : r < n) (hm : m ≤ r) (hB : (zp_bl n a_formOf a_firstValue a_width a_leastStep a_many a_lowest a_highest a_taken a_words a_lengths a_packed)) (hL : (zp_lo n a_loose a_values)) (hP : (zp_pt n pc a_patchPlace a_patchValue a_values a_packed a_patched))
    (hJ : ∀ B ke, (∀ c, c < 3 → ke (3 * m + c) = a_values (3 * r + c)) → (∀ q, q < 3 * m → ke q = a_kept q) → J4 (nI (m + 1)) (nI (r + 1)) (nI n) (nI pc) f_distinct f_conditions f_gathered f_lowStep a_isDeleted a_formOf a_firstValue a_width a_leastStep a_many a_lowest a_highest a_taken a_words a_lengths a_loose a_patchPlace a_patchValue B a_sorted a_conditionColumn a_conditionLow a_conditionHigh a_chosenSet a_gatheredValue ke) :
    ∀ e c B ke, c + e = 3 → (∀ c', c' < c → ke (3 * m + c') = a_values (3 * r + c')) → (∀ q, q < 3 * m → ke q = a_kept q) →
      (wX_compact_23 post J4 (nI m) (nI r) (e + 1) (nI c) (nI n) (nI pc) f_distinct f_conditions f_gathered f_lowStep a_isDeleted a_formOf a_firstValue a_width a_leastStep a_many a_lowest a_highest a_taken a_words a_lengths a_loose a_patchPlace a_patchValue B a_sorted a_conditionColumn a_conditionLow a_conditionHigh a_chosenSet a_gatheredValue ke) := by
  intro e
  induction e with
  | zero =>
    intro c B ke hc h1 h2
    have e : c = 3 := by omega
    subst e
    exact br_t (nI_le (a := 3) (by omega) (by omega)) (nm_r (nI_1 m) (nm_r (nI_1 r) (hJ B ke h1 h2)))
  | succ e ih =>
    intro c B ke hc h1 h2
    refine br_f (nI_ge (b := 3) (by omega) (by omega)) (zx_va hn hpc hr (by omega) hB hL hP (fun B' => ?_))
    rw [zx_3a]
    refine ⟨vp_in_nI (by omega) (by omega), nm_r (e' := upd ke (3 * m + c) (a_values (3 * r + c))) (by rw [nI_clamp (by omega)]) (nm_r (nI_1 c) (ih (c + 1) B' _ (by omega) (fun c' hc' => ?_) (fun q hq => ?_)))⟩
    · by_cases z : c' = c
      · rw [z, pk_us]
      · rw [pk_un (by omega)]
        exact h1 c' (by omega)
    · rw [pk_un (by omega)]
      exact h2 q hq
theorem zx_cp4 {post : Int32 → SX → Prop} {n pc : Nat} (hn : n ≤ 96) (hpc : pc ≤ 20) (hB : (zp_bl n a_formOf a_firstValue a_width a_leastStep a_many a_lowest a_highest a_taken a_words a_lengths a_packed)) (hL : (zp_lo n a_loose a_values)) (hP : (zp_pt n pc a_patchPlace a_patchValue a_values a_packed a_patched))
    (hp : ∀ ke, zp_kp ke a_values (zp_l0 a_isDeleted) n → ∀ de fo fv wd ls mn lo hi tk W L l B S d lst, zp_bl (zp_ct (zp_l0 a_isDeleted) n) fo fv wd ls mn lo hi tk W L ke → zp_lo (zp_ct (zp_l0 a_isDeleted) n) l ke → (∀ r, r < zp_ct (zp_l0 a_isDeleted) n → de r = 0) →
      post (nI (zp_ct (zp_l0 a_isDeleted) n)) (nI (zp_ct (zp_l0 a_isDeleted) n), 0, d, f_conditions, f_gathered, lst, de, fo, fv, wd, ls, mn, lo, hi, tk, W, L, l, a_patchPlace, a_patchValue, B, S, a_conditionColumn, a_conditionLow, a_conditionHigh, a_chosenSet, a_gatheredValue, ke)) :
    ∀ e r B ke, r + e = n → zp_kp ke a_values (zp_l0 a_isDeleted) r → (wX_compact_4 post (e + 1) (nI (zp_ct (zp_l0 a_isDeleted) r)) (nI r) (nI n) (nI pc) f_distinct f_conditions f_gathered f_lowStep a_isDeleted a_formOf a_firstValue a_width a_leastStep a_many a_lowest a_highest a_taken a_words a_lengths a_loose a_patchPlace a_patchValue B a_sorted a_conditionColumn a_conditionLow a_conditionHigh a_chosenSet a_gatheredValue ke) := by
  intro e
  induction e with
  | zero =>
    intro r B ke hr h
    have e : r = n := by omega
    subst e
    have hle := zp_ct_le (zp_l0 a_isDeleted) r
    refine br_t (nI_le (by omega) (by omega)) ⟨zp_ct (zp_l0 a_isDeleted) r + 1, zx_cp71 (by omega) (fun de fo fv wd ls mn lo hi tk W L l B S d lst g1 g2 g3 => hp ke h de fo fv wd ls mn lo hi tk W L l B S d lst g1 g2 g3) (zp_ct (zp_l0 a_isDeleted) r) 0 _ _ _ _ _ _ _ _ _ _ _ _ _ _ _ _ (by omega) ?_ ?_ (fun r hr => absurd hr (by omega))⟩
    · intro b c hb
      exact absurd hb (by omega)
    · intro i c hi
      exact absurd hi (by omega)
  | succ e ih =>
    intro r B ke hr h
    have hle := zp_ct_le (zp_l0 a_isDeleted) r
    refine br_f (nI_ge (by omega) (by omega)) ⟨vp_in_nI (by omega) (by omega), ?_⟩
    rw [nI_clamp (by omega)]
    refine br_c (fun y => ⟨4, zx_cp23 hn hpc (by omega) hle hB hL hP (fun B' ke' g1 g2 => ?_) 3 0 B ke (by omega) (fun c' hc' => absurd hc' (by omega)) (fun _ _ => rfl)⟩) (fun y => nm_r (nI_1 r) ?_)
    · have hl : zp_l0 a_isDeleted r = true := decide_eq_true y
      have g := ih (r + 1) B' ke' (by omega) (zp_kp_s h hl g1 g2)
      rw [zp_ct_t hl] at g
      exact g
    · have hl : zp_l0 a_isDeleted r = false := decide_eq_false y
      have g := ih (r + 1) B ke (by omega) (zp_kp_n h hl)
      rw [zp_ct_f hl] at g
      exact g
end
/-! the reference: digits, delete, pack, compact -/
section
variable {f_count f_patchCount f_conditions : Int32} {a_values a_packed a_patched a_gone a_columns a_lows a_highs : Nat → Int32}
theorem zy_dg24 {post : Int32 → Prop} {n c : Nat} {s0 : Int32} (hn : n ≤ 96) (hc : c < 3) (hp : post (zp_dg a_packed c s0 (n / 16))) :
    ∀ e b, b + e = n / 16 → (wY_digits_24 post (nI c) (nI n) f_patchCount f_conditions a_values a_packed a_patched a_gone a_columns a_lows a_highs (e + 1) (zp_dg a_packed c s0 b) (nI b)) := by
  intro e
  induction e with
  | zero =>
    intro b hb
    have e : b = n / 16 := by omega
    subst e
    refine And.intro zx_n16 ?_
    rw [zx_d16 (by omega)]
    exact br_t (nI_le (by omega) (by omega)) hp
  | succ e ih =>
    intro b hb
    have h6 := zp_bs_lt (fun i => a_packed (48 * b + 3 * i + c))
    refine And.intro zx_n16 ?_
    rw [zx_d16 (by omega)]
    exact br_f (nI_ge (by omega) (by omega)) (zy_best rfl (by omega) hc (zy_digs rfl (by omega) hc (by omega) (nm_e (nm_r (nI_1 b) (ih (b + 1) (by omega))))))
theorem zy_de22 {post : Int32 → SY → Prop} {n : Nat} (hn : n ≤ 96) (hp : post (nI (zp_ct (zp_l0 a_gone) n)) (nI n, f_patchCount, f_conditions, a_values, a_packed, a_patched, a_gone, a_columns, a_lows, a_highs)) :
    ∀ e r, r + e = n → (wY_delete_22 post (nI n) f_patchCount f_conditions a_values a_packed a_patched a_gone a_columns a_lows a_highs (e + 1) (nI (zp_ct (zp_l0 a_gone) r)) (nI r)) := by
  intro e
  induction e with
  | zero =>
    intro r hr
    have e : r = n := by omega
    subst e
    exact br_t (nI_le (by omega) (by omega)) hp
  | succ e ih =>
    intro r hr
    have g := ih (r + 1) (by omega)
    refine br_f (nI_ge (by omega) (by omega)) ⟨vp_in_nI (by omega) (by omega), ?_⟩
    rw [nI_clamp (by omega)]
    refine br_c (fun y => nm_r (nI_1 _) (nm_r (nI_1 r) ?_)) (fun y => nm_r (nI_1 r) ?_)
    · rw [zp_ct_t (f := zp_l0 a_gone) (m := r) (decide_eq_true y)] at g
      exact g
    · rw [zp_ct_f (f := zp_l0 a_gone) (m := r) (decide_eq_false y)] at g
      exact g
theorem zy_pk5 {post : SY → Prop} {b : Nat} (hb : b < 6)
    (hp : ∀ pk pd, (∀ q, pk q = if 48 * b ≤ q ∧ q < 48 * b + 48 then a_values q else a_packed q) → (∀ q, pd q = if 48 * b ≤ q ∧ q < 48 * b + 48 then 0 else a_patched q) → post (f_count, f_patchCount, f_conditions, a_values, pk, pd, a_gone, a_columns, a_lows, a_highs)) :
    ∀ e i pk pd, i + e = 48 * b + 48 → 48 * b ≤ i → (∀ q, pk q = if 48 * b ≤ q ∧ q < i then a_values q else a_packed q) → (∀ q, pd q = if 48 * b ≤ q ∧ q < i then 0 else a_patched q) →
      (wY_pack_5 post (nI b) f_count f_patchCount f_conditions (e + 1) (nI i) a_values pk pd a_gone a_columns a_lows a_highs) := by
  have e48 : 48 * nI b + 48 = nI (48 * b + 48) := by
    show nI 48 * nI b + nI 48 = _
    rw [pk_mul, nI_add]
  intro e
  induction e with
  | zero =>
    intro i pk pd hi hi2 h1 h2
    have e : i = 48 * b + 48 := by omega
    subst e
    refine br_t (by rw [e48]; exact nI_le (by omega) (by omega)) (hp pk pd h1 h2)
  | succ e ih =>
    intro i pk pd hi hi2 h1 h2
    have v : vp_in (nI i) 288 := vp_in_nI (by omega) (by omega)
    refine br_f (by rw [e48]; exact nI_ge (by omega) (by omega)) ⟨v, v, ?_⟩
    rw [nI_clamp (by omega)]
    refine nm_e ⟨v, nm_r (e' := upd pd i 0) rfl (nm_r (nI_1 i) (ih (i + 1) _ _ (by omega) (by omega) (fun q => ?_) (fun q => ?_)))⟩
    · by_cases z : q = i
      · rw [z, pk_us, if_pos (by omega)]
      · rw [pk_un z, h1 q]
        by_cases y : 48 * b ≤ q ∧ q < i
        · rw [if_pos y, if_pos (by omega)]
        · rw [if_neg y, if_neg (by omega)]
    · by_cases z : q = i
      · rw [z, pk_us, if_pos (by omega)]
      · rw [pk_un z, h2 q]
        by_cases y : 48 * b ≤ q ∧ q < i
        · rw [if_pos y, if_pos (by omega)]
        · rw [if_neg y, if_neg (by omega)]
theorem zy_pk {post : SY → Prop} {b : Nat} (hb : b < 6)
    (hp : ∀ pk pd, (∀ q, pk q = if 48 * b ≤ q ∧ q < 48 * b + 48 then a_values q else a_packed q) → (∀ q, pd q = if 48 * b ≤ q ∧ q < 48 * b + 48 then 0 else a_patched q) → post (f_count, f_patchCount, f_conditions, a_values, pk, pd, a_gone, a_columns, a_lows, a_highs)) :
    wpY_pack post (f_count, f_patchCount, f_conditions, a_values, a_packed, a_patched, a_gone, a_columns, a_lows, a_highs) (nI b) := by
  have e : 48 * nI b = nI (48 * b) := by
    show nI 48 * nI b = _
    rw [pk_mul]
  unfold wpY_pack
  exact nm_r e ⟨49, zy_pk5 hb hp 48 (48 * b) a_packed a_patched (by omega) (by omega) (fun q => by rw [if_neg (by omega)]) (fun q => by rw [if_neg (by omega)])⟩
theorem zy_cp96 {post : Int32 → SY → Prop} {m : Nat} (hm : m ≤ 96)
    (hp : ∀ pk pd, (∀ q, q < 48 * (m / 16) → pk q = a_values q ∧ pd q = 0) → post (nI m) (nI m, f_patchCount, f_conditions, a_values, pk, pd, a_gone, a_columns, a_lows, a_highs)) :
    ∀ e b pk pd, b + e = m / 16 → (∀ q, q < 48 * b → pk q = a_values q ∧ pd q = 0) → (wY_compact_96 post (e + 1) (nI b) (nI m) f_patchCount f_conditions a_values pk pd a_gone a_columns a_lows a_highs) := by
  intro e
  induction e with
  | zero =>
    intro b pk pd hb h
    have e : b = m / 16 := by omega
    subst e
    refine And.intro zx_n16 ?_
    rw [zx_d16 (by omega)]
    exact br_t (nI_le (by omega) (by omega)) (hp pk pd h)
  | succ e ih =>
    intro b pk pd hb h
    refine And.intro zx_n16 ?_
    rw [zx_d16 (by omega)]
    refine br_f (nI_ge (by omega) (by omega)) (zy_pk (by omega) (fun pk' pd' h1 h2 => nm_r (nI_1 b) (ih (b + 1) pk' pd' (by omega) (fun q hq => ?_))))
    rw [h1 q, h2 q]
    by_cases z : 48 * b ≤ q ∧ q < 48 * b + 48
    · rw [if_pos z, if_pos z]
      exact ⟨rfl, rfl⟩
    · rw [if_neg z, if_neg z]
      exact h q (by omega)
theorem zy_cp75 {post : Int32 → SY → Prop} {m : Nat} (hm : m ≤ 96)
    (hp : ∀ pk pd go, (∀ q, q < 48 * (m / 16) → pk q = a_values q ∧ pd q = 0) → (∀ r, r < 96 → go r = 0) → post (nI m) (nI m, f_patchCount, f_conditions, a_values, pk, pd, go, a_columns, a_lows, a_highs)) :
    ∀ e r go, r + e = 96 → (∀ q, q < r → go q = 0) → (wY_compact_75 post (nI m) f_patchCount f_conditions (e + 1) (nI r) a_values a_packed a_patched go a_columns a_lows a_highs) := by
  intro e
  induction e with
  | zero =>
    intro r go hr h
    have e : r = 96 := by omega
    subst e
    exact br_t (nI_le (a := 96) (by omega) (by omega)) ⟨m / 16 + 1, zy_cp96 hm (fun pk pd h1 => hp pk pd go h1 h) (m / 16) 0 a_packed a_patched (by omega) (fun q hq => absurd hq (by omega))⟩
  | succ e ih =>
    intro r go hr h
    refine br_f (nI_ge (b := 96) (by omega) (by omega)) ⟨vp_in_nI (by omega) (by omega), nm_r (e' := upd go r 0) (by rw [nI_clamp (by omega)]; rfl) (nm_r (nI_1 r) (ih (r + 1) _ (by omega) (fun q hq => ?_)))⟩
    by_cases z : q = r
    · rw [z, pk_us]
    · rw [pk_un z]
      exact h q (by omega)
theorem zy_cp23 {post : Int32 → SY → Prop} {J4 : Int32 → Int32 → (Nat → Int32) → (Nat → Int32) → (Nat → Int32) → (Nat → Int32) → (Nat → Int32) → (Nat → Int32) → (Nat → Int32) → Prop} {m r : Nat} {V : Nat → Int32} (hr : r < 96) (hm : m ≤ r)
    (hJ : ∀ V', (∀ c, c < 3 → V' (3 * m + c) = V (3 * r + c)) → (∀ q, q < 3 * m ∨ 3 * r + 3 ≤ q → V' q = V q) → J4 (nI (m + 1)) (nI (r + 1)) V' a_packed a_patched a_gone a_columns a_lows a_highs) :
    ∀ e c V', c + e = 3 → (∀ c', c' < c → V' (3 * m + c') = V (3 * r + c')) → (∀ q, q < 3 * m ∨ 3 * m + c ≤ q → V' q = V q) → (wY_compact_23 post J4 (nI m) (nI r) f_count f_patchCount f_conditions (e + 1) (nI c) V' a_packed a_patched a_gone a_columns a_lows a_highs) := by
  intro e
  induction e with
  | zero =>
    intro c V' hc h1 h2
    have e : c = 3 := by omega
    subst e
    exact br_t (nI_le (a := 3) (by omega) (by omega)) (nm_r (nI_1 m) (nm_r (nI_1 r) (hJ V' h1 (fun q hq => h2 q (by omega)))))
  | succ e ih =>
    intro c V' hc h1 h2
    refine br_f (nI_ge (b := 3) (by omega) (by omega)) ?_
    rw [zx_3a m c, zx_3a r c, nI_clamp (show 3 * m + c < 2 ^ 31 by omega), nI_clamp (show 3 * r + c < 2 ^ 31 by omega)]
    refine ⟨vp_in_nI (by omega) (by omega), vp_in_nI (by omega) (by omega), nm_e (nm_r (nI_1 c) (ih (c + 1) _ (by omega) (fun c' hc' => ?_) (fun q hq => ?_)))⟩
    · by_cases z : c' = c
      · rw [z, pk_us]
        exact h2 _ (by omega)
      · rw [pk_un (by omega)]
        exact h1 c' (by omega)
    · rw [pk_un (by omega)]
      exact h2 q (by omega)
theorem zy_cp4 {post : Int32 → SY → Prop} {n : Nat} (hn : n ≤ 96)
    (hp : ∀ V pk pd go, zp_kp V a_values (zp_l0 a_gone) n → (∀ q, q < 48 * (zp_ct (zp_l0 a_gone) n / 16) → pk q = V q ∧ pd q = 0) → (∀ r, r < 96 → go r = 0) →
      post (nI (zp_ct (zp_l0 a_gone) n)) (nI (zp_ct (zp_l0 a_gone) n), 0, f_conditions, V, pk, pd, go, a_columns, a_lows, a_highs)) :
    ∀ e r V, r + e = n → zp_kp V a_values (zp_l0 a_gone) r → (∀ q, 3 * r ≤ q → V q = a_values q) → (wY_compact_4 post (nI n) f_patchCount f_conditions (e + 1) (nI (zp_ct (zp_l0 a_gone) r)) (nI r) V a_packed a_patched a_gone a_columns a_lows a_highs) := by
  intro e
  induction e with
  | zero =>
    intro r V hr h1 h2
    have e : r = n := by omega
    subst e
    have hle := zp_ct_le (zp_l0 a_gone) r
    exact br_t (nI_le (by omega) (by omega)) ⟨97, zy_cp75 (by omega) (fun pk pd go g1 g2 => hp V pk pd go h1 g1 g2) 96 0 a_gone (by omega) (fun q hq => absurd hq (by omega))⟩
  | succ e ih =>
    intro r V hr h1 h2
    have hle := zp_ct_le (zp_l0 a_gone) r
    refine br_f (nI_ge (by omega) (by omega)) ⟨vp_in_nI (by omega) (by omega), ?_⟩
    rw [nI_clamp (by omega)]
    refine br_c (fun y => ⟨4, zy_cp23 (V := V) (by omega) hle (fun V' g1 g2 => ?_) 3 0 V (by omega) (fun c' hc' => absurd hc' (by omega)) (fun _ _ => rfl)⟩) (fun y => nm_r (nI_1 r) ?_)
    · have hl : zp_l0 a_gone r = true := decide_eq_true y
      have g := ih (r + 1) V' (by omega) (zp_kp_s h1 hl (fun c hc => by rw [g1 c hc]; exact h2 _ (by omega)) (fun q hq => g2 q (Or.inl hq))) (fun q hq => by rw [g2 q (by omega)]; exact h2 q (by omega))
      rw [zp_ct_t hl] at g
      exact g
    · have hl : zp_l0 a_gone r = false := decide_eq_false y
      have g := ih (r + 1) V (by omega) (zp_kp_n h1 hl) (fun q hq => h2 q (by omega))
      rw [zp_ct_f hl] at g
      exact g
end
end
section
/-! the relation -/
def zp_ri (n pc nc : Nat) (cl : Nat → Nat) (de fo fv wd ls mn lo hi tk W L l pp pv col va pk pd go : Nat → Int32) : Prop :=
  n ≤ 96 ∧ pc ≤ 20 ∧ nc ≤ 4 ∧ (∀ k, k < nc → col k = nI (cl k) ∧ cl k < 3) ∧ (∀ r, r < n → de r = go r) ∧ zp_bl n fo fv wd ls mn lo hi tk W L pk ∧ zp_lo n l va ∧ zp_pt n pc pp pv va pk pd
/-- the component's packed blocks, loose rows and patches hold the reference's rows; the conditions are the same -/
def i_Rel (_ : Nat) (u : SX) (v : SY) : Prop := match u with
  | (f_rowCount, f_patchCount, f_distinct, f_conditions, f_gathered, f_lowStep, a_isDeleted, a_formOf, a_firstValue, a_width, a_leastStep, a_many, a_lowest, a_highest, a_taken, a_words, a_lengths, a_loose, a_patchPlace, a_patchValue, a_buffer, a_sorted, a_conditionColumn, a_conditionLow, a_conditionHigh, a_chosenSet, a_gatheredValue, a_kept) => match v with
    | (f_count, g_patchCount, g_conditions, a_values, a_packed, a_patched, a_gone, a_columns, a_lows, a_highs) =>
      ∃ (n pc nc : Nat) (cl : Nat → Nat), f_rowCount = nI n ∧ f_patchCount = nI pc ∧ f_conditions = nI nc ∧ f_count = nI n ∧ g_patchCount = nI pc ∧ g_conditions = nI nc ∧
        a_columns = a_conditionColumn ∧ a_lows = a_conditionLow ∧ a_highs = a_conditionHigh ∧ (zp_ri n pc nc cl a_isDeleted a_formOf a_firstValue a_width a_leastStep a_many a_lowest a_highest a_taken a_words a_lengths a_loose a_patchPlace a_patchValue a_conditionColumn a_values a_packed a_patched a_gone)
section
variable {f_rowCount f_patchCount f_distinct f_conditions f_gathered : Int32} {f_lowStep : Int64} {a_isDeleted a_formOf a_firstValue a_width a_leastStep a_many a_lowest a_highest a_taken a_words a_lengths a_loose a_patchPlace a_patchValue a_buffer a_sorted a_conditionColumn a_conditionLow a_conditionHigh a_chosenSet a_gatheredValue a_kept : Nat → Int32} {a_values a_packed a_patched a_gone a_columns a_lows a_highs : Nat → Int32}
theorem zr_mk {k n pc nc : Nat} {cl : Nat → Nat} (h : (zp_ri n pc nc cl a_isDeleted a_formOf a_firstValue a_width a_leastStep a_many a_lowest a_highest a_taken a_words a_lengths a_loose a_patchPlace a_patchValue a_conditionColumn a_values a_packed a_patched a_gone)) :
    i_Rel k (nI n, nI pc, f_distinct, nI nc, f_gathered, f_lowStep, a_isDeleted, a_formOf, a_firstValue, a_width, a_leastStep, a_many, a_lowest, a_highest, a_taken, a_words, a_lengths, a_loose, a_patchPlace, a_patchValue, a_buffer, a_sorted, a_conditionColumn, a_conditionLow, a_conditionHigh, a_chosenSet, a_gatheredValue, a_kept) (nI n, nI pc, nI nc, a_values, a_packed, a_patched, a_gone, a_conditionColumn, a_conditionLow, a_conditionHigh) :=
  Exists.intro n (Exists.intro pc (Exists.intro nc (Exists.intro cl ⟨rfl, rfl, rfl, rfl, rfl, rfl, rfl, rfl, rfl, h⟩)))
end
theorem zr_el {P : SX → SY → Prop} {k : Nat} {u : SX} {v : SY} (h : ∀ {f_distinct f_gathered : Int32} {f_lowStep : Int64} {a_isDeleted a_formOf a_firstValue a_width a_leastStep a_many a_lowest a_highest a_taken a_words a_lengths a_loose a_patchPlace a_patchValue a_buffer a_sorted a_conditionColumn a_conditionLow a_conditionHigh a_chosenSet a_gatheredValue a_kept a_values a_packed a_patched a_gone : Nat → Int32} {n pc nc : Nat} {cl : Nat → Nat}, (zp_ri n pc nc cl a_isDeleted a_formOf a_firstValue a_width a_leastStep a_many a_lowest a_highest a_taken a_words a_lengths a_loose a_patchPlace a_patchValue a_conditionColumn a_values a_packed a_patched a_gone) →
      P (nI n, nI pc, f_distinct, nI nc, f_gathered, f_lowStep, a_isDeleted, a_formOf, a_firstValue, a_width, a_leastStep, a_many, a_lowest, a_highest, a_taken, a_words, a_lengths, a_loose, a_patchPlace, a_patchValue, a_buffer, a_sorted, a_conditionColumn, a_conditionLow, a_conditionHigh, a_chosenSet, a_gatheredValue, a_kept) (nI n, nI pc, nI nc, a_values, a_packed, a_patched, a_gone, a_conditionColumn, a_conditionLow, a_conditionHigh)) (I : i_Rel k u v) : P u v := by
  obtain ⟨f_rowCount, f_patchCount, f_distinct, f_conditions, f_gathered, f_lowStep, a_isDeleted, a_formOf, a_firstValue, a_width, a_leastStep, a_many, a_lowest, a_highest, a_taken, a_words, a_lengths, a_loose, a_patchPlace, a_patchValue, a_buffer, a_sorted, a_conditionColumn, a_conditionLow, a_conditionHigh, a_chosenSet, a_gatheredValue, a_kept⟩ := u
  obtain ⟨f_count, g_patchCount, g_conditions, a_values, a_packed, a_patched, a_gone, a_columns, a_lows, a_highs⟩ := v
  obtain ⟨n, pc, nc, cl, e1, e2, e3, e4, e5, e6, e7, e8, e9, hh⟩ := I
  subst e1 e2 e3 e4 e5 e6 e7 e8 e9
  exact h hh
theorem i_up {k : Nat} {u : SX} {v : SY} (h : i_Rel k u v) : i_Rel (k + 4) u v := h
theorem i_vc0 : wpX_init (fun u => wpY_init (fun v => i_Rel 0 u v)) := by
  show i_Rel 0 (0, 0, 0, 0, 0, 0, (fun _ => 0), (fun _ => 0), (fun _ => 0), (fun _ => 0), (fun _ => 0), (fun _ => 0), (fun _ => 0), (fun _ => 0), (fun _ => 0), (fun _ => 0), (fun _ => 0), (fun _ => 0), (fun _ => 0), (fun _ => 0), (fun _ => 0), (fun _ => 0), (fun _ => 0), (fun _ => 0), (fun _ => 0), (fun _ => 0), (fun _ => 0), (fun _ => 0)) (0, 0, 0, (fun _ => 0), (fun _ => 0), (fun _ => 0), (fun _ => 0), (fun _ => 0), (fun _ => 0), (fun _ => 0))
  exact zr_mk (n := 0) (pc := 0) (nc := 0) (cl := fun _ => 0) ⟨by omega, by omega, by omega, fun k hk => absurd hk (by omega), fun r hr => absurd hr (by omega), fun b c hb => absurd hb (by omega), fun i c hi => absurd hi (by omega), fun _ => 0, fun k hk => absurd hk (by omega), fun k j hk => absurd hk (by omega), fun q hq => absurd hq (by omega)⟩
/-! transfers -/
theorem zp_bl_c {n : Nat} {fo fv wd ls mn lo hi tk W L pk pk' : Nat → Int32} (h : zp_bl n fo fv wd ls mn lo hi tk W L pk) (e : ∀ q, q < 48 * (n / 16) → pk' q = pk q) : zp_bl n fo fv wd ls mn lo hi tk W L pk' :=
  fun b c hb hc => zp_bk_p (h b c hb hc) (fun i hi => (e _ (by omega)).symm)
theorem zp_lo_c {n : Nat} {l va va' : Nat → Int32} (h : zp_lo n l va) (e : ∀ q, q < 3 * n → va' q = va q) : zp_lo n l va' :=
  fun i c hi hc => (h i c hi hc).trans (e _ (by omega)).symm
theorem zp_pt_add {n pc : Nat} {pp pv va pk pd va' pk' pd' : Nat → Int32} (h : zp_pt n pc pp pv va pk pd) (e1 : ∀ q, q < 48 * (n / 16) → va' q = va q) (e2 : ∀ q, q < 48 * (n / 16) → pk' q = pk q) (e3 : ∀ q, q < 48 * (n / 16) → pd' q = pd q)
    (en : n % 16 = 15 → ∀ q, 48 * (n / 16) ≤ q → q < 48 * (n / 16) + 48 → va' q = pk' q ∧ pd' q = 0) : zp_pt (n + 1) pc pp pv va' pk' pd' := by
  obtain ⟨pl, h1, h2, h3⟩ := h
  refine ⟨pl, fun k hk => ?_, h2, fun q hq hno => ?_⟩
  · obtain ⟨a, b, c, d⟩ := h1 k hk
    exact ⟨a, by omega, by rw [e1 _ b]; exact c, by rw [e3 _ b]; exact d⟩
  · rcases Nat.lt_or_ge q (48 * (n / 16)) with z | z
    · obtain ⟨a, b⟩ := h3 q z hno
      rw [e1 q z, e2 q z, e3 q z]
      exact ⟨a, b⟩
    · exact en (by omega) q z (by omega)
theorem zp_pt_c {n pc : Nat} {pp pv va pk pd va' : Nat → Int32} (h : zp_pt n pc pp pv va pk pd) (e1 : ∀ q, q < 48 * (n / 16) → va' q = va q) : zp_pt n pc pp pv va' pk pd := by
  obtain ⟨pl, h1, h2, h3⟩ := h
  refine ⟨pl, fun k hk => ?_, h2, fun q hq hno => ?_⟩
  · obtain ⟨a, b, c, d⟩ := h1 k hk
    exact ⟨a, b, by rw [e1 _ b]; exact c, d⟩
  · obtain ⟨a, b⟩ := h3 q hq hno
    rw [e1 q hq]
    exact ⟨a, b⟩
theorem zp_upd_id {f : Nat → Int32} {k : Nat} {x : Int32} (h : f k = x) : upd f k x = f := by
  funext j
  by_cases z : j = k
  · rw [z, pk_us, h]
  · rw [pk_un z]
theorem zp_ch_eq {n nc : Nat} {cl : Nat → Nat} {de go va lo hi : Nat → Int32} (h : ∀ r, r < n → de r = go r) : zp_ch n nc cl de va lo hi = zp_ch n nc cl go va lo hi := by
  funext r
  unfold zp_ch zp_lv
  by_cases z : r < n
  · rw [h r z]
  · rw [decide_eq_false z]; rfl
theorem zp_l0_eq {n : Nat} {de go : Nat → Int32} (h : ∀ r, r < n → de r = go r) : zp_ct (zp_l0 de) n = zp_ct (zp_l0 go) n :=
  zp_ct_congr n (fun i hi => by unfold zp_l0; rw [h i hi])
end
section
/-! one statement a method: the readers -/
section
variable {f_rowCount f_patchCount f_distinct f_conditions f_gathered : Int32} {f_lowStep : Int64} {a_isDeleted a_formOf a_firstValue a_width a_leastStep a_many a_lowest a_highest a_taken a_words a_lengths a_loose a_patchPlace a_patchValue a_buffer a_sorted a_conditionColumn a_conditionLow a_conditionHigh a_chosenSet a_gatheredValue a_kept : Nat → Int32} {a_values a_packed a_patched a_gone a_columns a_lows a_highs : Nat → Int32}
variable {k n pc nc : Nat} {cl : Nat → Nat}
theorem zz_rows (h : (zp_ri n pc nc cl a_isDeleted a_formOf a_firstValue a_width a_leastStep a_many a_lowest a_highest a_taken a_words a_lengths a_loose a_patchPlace a_patchValue a_conditionColumn a_values a_packed a_patched a_gone)) : wpX_rows (fun r => wpY_rows (fun r' => r' = r ∧ i_Rel k (nI n, nI pc, f_distinct, nI nc, f_gathered, f_lowStep, a_isDeleted, a_formOf, a_firstValue, a_width, a_leastStep, a_many, a_lowest, a_highest, a_taken, a_words, a_lengths, a_loose, a_patchPlace, a_patchValue, a_buffer, a_sorted, a_conditionColumn, a_conditionLow, a_conditionHigh, a_chosenSet, a_gatheredValue, a_kept) (nI n, nI pc, nI nc, a_values, a_packed, a_patched, a_gone, a_conditionColumn, a_conditionLow, a_conditionHigh)) (nI n, nI pc, nI nc, a_values, a_packed, a_patched, a_gone, a_conditionColumn, a_conditionLow, a_conditionHigh)) (nI n, nI pc, f_distinct, nI nc, f_gathered, f_lowStep, a_isDeleted, a_formOf, a_firstValue, a_width, a_leastStep, a_many, a_lowest, a_highest, a_taken, a_words, a_lengths, a_loose, a_patchPlace, a_patchValue, a_buffer, a_sorted, a_conditionColumn, a_conditionLow, a_conditionHigh, a_chosenSet, a_gatheredValue, a_kept) := And.intro rfl (zr_mk h)
theorem zz_patches (h : (zp_ri n pc nc cl a_isDeleted a_formOf a_firstValue a_width a_leastStep a_many a_lowest a_highest a_taken a_words a_lengths a_loose a_patchPlace a_patchValue a_conditionColumn a_values a_packed a_patched a_gone)) : wpX_patches (fun r => wpY_patches (fun r' => r' = r ∧ i_Rel k (nI n, nI pc, f_distinct, nI nc, f_gathered, f_lowStep, a_isDeleted, a_formOf, a_firstValue, a_width, a_leastStep, a_many, a_lowest, a_highest, a_taken, a_words, a_lengths, a_loose, a_patchPlace, a_patchValue, a_buffer, a_sorted, a_conditionColumn, a_conditionLow, a_conditionHigh, a_chosenSet, a_gatheredValue, a_kept) (nI n, nI pc, nI nc, a_values, a_packed, a_patched, a_gone, a_conditionColumn, a_conditionLow, a_conditionHigh)) (nI n, nI pc, nI nc, a_values, a_packed, a_patched, a_gone, a_conditionColumn, a_conditionLow, a_conditionHigh)) (nI n, nI pc, f_distinct, nI nc, f_gathered, f_lowStep, a_isDeleted, a_formOf, a_firstValue, a_width, a_leastStep, a_many, a_lowest, a_highest, a_taken, a_words, a_lengths, a_loose, a_patchPlace, a_patchValue, a_buffer, a_sorted, a_conditionColumn, a_conditionLow, a_conditionHigh, a_chosenSet, a_gatheredValue, a_kept) := And.intro rfl (zr_mk h)
theorem zz_blocks (h : (zp_ri n pc nc cl a_isDeleted a_formOf a_firstValue a_width a_leastStep a_many a_lowest a_highest a_taken a_words a_lengths a_loose a_patchPlace a_patchValue a_conditionColumn a_values a_packed a_patched a_gone)) : wpX_blocks (fun r => wpY_blocks (fun r' => r' = r ∧ i_Rel k (nI n, nI pc, f_distinct, nI nc, f_gathered, f_lowStep, a_isDeleted, a_formOf, a_firstValue, a_width, a_leastStep, a_many, a_lowest, a_highest, a_taken, a_words, a_lengths, a_loose, a_patchPlace, a_patchValue, a_buffer, a_sorted, a_conditionColumn, a_conditionLow, a_conditionHigh, a_chosenSet, a_gatheredValue, a_kept) (nI n, nI pc, nI nc, a_values, a_packed, a_patched, a_gone, a_conditionColumn, a_conditionLow, a_conditionHigh)) (nI n, nI pc, nI nc, a_values, a_packed, a_patched, a_gone, a_conditionColumn, a_conditionLow, a_conditionHigh)) (nI n, nI pc, f_distinct, nI nc, f_gathered, f_lowStep, a_isDeleted, a_formOf, a_firstValue, a_width, a_leastStep, a_many, a_lowest, a_highest, a_taken, a_words, a_lengths, a_loose, a_patchPlace, a_patchValue, a_buffer, a_sorted, a_conditionColumn, a_conditionLow, a_conditionHigh, a_chosenSet, a_gatheredValue, a_kept) :=
  And.intro zx_n16 (And.intro zx_n16 (And.intro rfl (zr_mk h)))
theorem zz_free (h : (zp_ri n pc nc cl a_isDeleted a_formOf a_firstValue a_width a_leastStep a_many a_lowest a_highest a_taken a_words a_lengths a_loose a_patchPlace a_patchValue a_conditionColumn a_values a_packed a_patched a_gone)) : wpX_free (fun r u' => wpY_free (fun r' v' => r' = r ∧ i_Rel k u' v') (nI n, nI pc, nI nc, a_values, a_packed, a_patched, a_gone, a_conditionColumn, a_conditionLow, a_conditionHigh)) (nI n, nI pc, f_distinct, nI nc, f_gathered, f_lowStep, a_isDeleted, a_formOf, a_firstValue, a_width, a_leastStep, a_many, a_lowest, a_highest, a_taken, a_words, a_lengths, a_loose, a_patchPlace, a_patchValue, a_buffer, a_sorted, a_conditionColumn, a_conditionLow, a_conditionHigh, a_chosenSet, a_gatheredValue, a_kept) :=
  And.intro rfl (zr_mk (nc := 0) (cl := cl) ⟨h.1, h.2.1, by omega, fun k hk => absurd hk (by omega), h.2.2.2.2⟩)
theorem zz_value (h : (zp_ri n pc nc cl a_isDeleted a_formOf a_firstValue a_width a_leastStep a_many a_lowest a_highest a_taken a_words a_lengths a_loose a_patchPlace a_patchValue a_conditionColumn a_values a_packed a_patched a_gone)) (v1 v2 : Int32) : wpX_value (fun r u' => wpY_value (fun r' => r' = r ∧ i_Rel k u' (nI n, nI pc, nI nc, a_values, a_packed, a_patched, a_gone, a_conditionColumn, a_conditionLow, a_conditionHigh)) (nI n, nI pc, nI nc, a_values, a_packed, a_patched, a_gone, a_conditionColumn, a_conditionLow, a_conditionHigh) v1 v2) (nI n, nI pc, f_distinct, nI nc, f_gathered, f_lowStep, a_isDeleted, a_formOf, a_firstValue, a_width, a_leastStep, a_many, a_lowest, a_highest, a_taken, a_words, a_lengths, a_loose, a_patchPlace, a_patchValue, a_buffer, a_sorted, a_conditionColumn, a_conditionLow, a_conditionHigh, a_chosenSet, a_gatheredValue, a_kept) v1 v2 := by
  have h' := h
  obtain ⟨hn, hpc, hnc, hcl, hde, hB, hL, hP⟩ := h'
  unfold wpX_value wpY_value
  rcases pk_ix v2 (n := 3) (by omega) with hc | hc | ⟨c, hc, rfl⟩
  · exact zx_badL hc (br_f (by decide) (zy_colL hc (br_t rfl ⟨rfl, zr_mk h⟩)))
  · exact zx_badH hc (br_f (by decide) (zy_colH hc (br_t rfl ⟨rfl, zr_mk h⟩)))
  · refine zx_bad hc (br_t rfl ?_)
    rcases pk_ix v1 (n := n) (by omega) with hr | hr | ⟨r, hr, rfl⟩
    · exact zx_nrO hn (Or.inl hr) (br_f (by decide) (zy_col hc (br_f (by decide) (zy_rowO (Or.inl hr) (br_t rfl ⟨rfl, zr_mk h⟩)))))
    · exact zx_nrO hn (Or.inr hr) (br_f (by decide) (zy_col hc (br_f (by decide) (zy_rowO (Or.inr hr) (br_t rfl ⟨rfl, zr_mk h⟩)))))
    · refine zx_nr hn hr (fun q => br_t rfl (zx_va hn hpc hr hc hB hL hP (fun B => zy_col hc (br_f (by decide) (zy_row hn hr (fun _ => br_f (by decide) ?_) (fun y => absurd ((hde r hr).symm.trans q) y)))))) (fun q => br_f (by decide) (zy_col hc (br_f (by decide) (zy_row hn hr (fun y => absurd ((hde r hr).trans y) q) (fun _ => br_t rfl ⟨rfl, zr_mk h⟩)))))
      rw [zx_3a, nI_clamp (by omega)]
      exact ⟨vp_in_nI (by omega) (by omega), rfl, zr_mk h⟩
theorem zz_form (h : (zp_ri n pc nc cl a_isDeleted a_formOf a_firstValue a_width a_leastStep a_many a_lowest a_highest a_taken a_words a_lengths a_loose a_patchPlace a_patchValue a_conditionColumn a_values a_packed a_patched a_gone)) (v1 v2 : Int32) : wpX_form (fun r => wpY_form (fun r' => r' = r ∧ i_Rel k (nI n, nI pc, f_distinct, nI nc, f_gathered, f_lowStep, a_isDeleted, a_formOf, a_firstValue, a_width, a_leastStep, a_many, a_lowest, a_highest, a_taken, a_words, a_lengths, a_loose, a_patchPlace, a_patchValue, a_buffer, a_sorted, a_conditionColumn, a_conditionLow, a_conditionHigh, a_chosenSet, a_gatheredValue, a_kept) (nI n, nI pc, nI nc, a_values, a_packed, a_patched, a_gone, a_conditionColumn, a_conditionLow, a_conditionHigh)) (nI n, nI pc, nI nc, a_values, a_packed, a_patched, a_gone, a_conditionColumn, a_conditionLow, a_conditionHigh) v1 v2) (nI n, nI pc, f_distinct, nI nc, f_gathered, f_lowStep, a_isDeleted, a_formOf, a_firstValue, a_width, a_leastStep, a_many, a_lowest, a_highest, a_taken, a_words, a_lengths, a_loose, a_patchPlace, a_patchValue, a_buffer, a_sorted, a_conditionColumn, a_conditionLow, a_conditionHigh, a_chosenSet, a_gatheredValue, a_kept) v1 v2 := by
  have h' := h
  obtain ⟨hn, hpc, hnc, hcl, hde, hB, hL, hP⟩ := h'
  unfold wpX_form wpY_form
  rcases pk_ix v2 (n := 3) (by omega) with hc | hc | ⟨c, hc, rfl⟩
  · exact zx_badL hc (br_f (by decide) (zy_colL hc (br_t rfl ⟨rfl, zr_mk h⟩)))
  · exact zx_badH hc (br_f (by decide) (zy_colH hc (br_t rfl ⟨rfl, zr_mk h⟩)))
  · refine zx_bad hc (br_t rfl ?_)
    by_cases h0 : v1 < 0
    · exact br_t h0 (zy_col hc (br_f (by decide) (br_t h0 ⟨rfl, zr_mk h⟩)))
    · obtain ⟨b, hb, rfl⟩ := nI_of h0
      refine br_f h0 (zx_bc (by omega) (pk_lt b (n / 16) (fun z => ?_) (fun z => ?_) rfl rfl (by omega) (by omega)))
      · have e := (hB b c z hc).1
        rw [zx_3a, nI_clamp (by omega), e]
        exact ⟨vp_in_nI (by omega) (by omega), zy_col hc (br_f (by decide) (br_f h0 (zy_bc (by omega) (br_f (nI_ge z (by omega)) (zy_best rfl (by omega) hc ⟨rfl, zr_mk h⟩)))))⟩
      · exact zy_col hc (br_f (by decide) (br_f h0 (zy_bc (by omega) (br_t (nI_le z (by omega)) ⟨rfl, zr_mk h⟩))))
theorem zz_digits (h : (zp_ri n pc nc cl a_isDeleted a_formOf a_firstValue a_width a_leastStep a_many a_lowest a_highest a_taken a_words a_lengths a_loose a_patchPlace a_patchValue a_conditionColumn a_values a_packed a_patched a_gone)) (v1 : Int32) : wpX_digits (fun r => wpY_digits (fun r' => r' = r ∧ i_Rel k (nI n, nI pc, f_distinct, nI nc, f_gathered, f_lowStep, a_isDeleted, a_formOf, a_firstValue, a_width, a_leastStep, a_many, a_lowest, a_highest, a_taken, a_words, a_lengths, a_loose, a_patchPlace, a_patchValue, a_buffer, a_sorted, a_conditionColumn, a_conditionLow, a_conditionHigh, a_chosenSet, a_gatheredValue, a_kept) (nI n, nI pc, nI nc, a_values, a_packed, a_patched, a_gone, a_conditionColumn, a_conditionLow, a_conditionHigh)) (nI n, nI pc, nI nc, a_values, a_packed, a_patched, a_gone, a_conditionColumn, a_conditionLow, a_conditionHigh) v1) (nI n, nI pc, f_distinct, nI nc, f_gathered, f_lowStep, a_isDeleted, a_formOf, a_firstValue, a_width, a_leastStep, a_many, a_lowest, a_highest, a_taken, a_words, a_lengths, a_loose, a_patchPlace, a_patchValue, a_buffer, a_sorted, a_conditionColumn, a_conditionLow, a_conditionHigh, a_chosenSet, a_gatheredValue, a_kept) v1 := by
  have h' := h
  obtain ⟨hn, hpc, hnc, hcl, hde, hB, hL, hP⟩ := h'
  unfold wpX_digits wpY_digits
  rcases pk_ix v1 (n := 3) (by omega) with hc | hc | ⟨c, hc, rfl⟩
  · exact zx_badL hc (br_f (by decide) (zy_colL hc (br_t rfl ⟨rfl, zr_mk h⟩)))
  · exact zx_badH hc (br_f (by decide) (zy_colH hc (br_t rfl ⟨rfl, zr_mk h⟩)))
  · exact zx_bad hc (br_t rfl ⟨zx_n16, nm_e ⟨n / 16 + 1, zx_dg24 hn hc hB (zy_col hc (br_f (by decide) ⟨zx_n16, nm_e ⟨n / 16 + 1, zy_dg24 hn hc ⟨rfl, zr_mk h⟩ (n / 16) 0 (by omega)⟩⟩)) (n / 16) 0 (by omega)⟩⟩)
theorem zz_condition (h : (zp_ri n pc nc cl a_isDeleted a_formOf a_firstValue a_width a_leastStep a_many a_lowest a_highest a_taken a_words a_lengths a_loose a_patchPlace a_patchValue a_conditionColumn a_values a_packed a_patched a_gone)) (v1 v2 v3 : Int32) : wpX_condition (fun r u' => wpY_condition (fun r' v' => r' = r ∧ i_Rel k u' v') (nI n, nI pc, nI nc, a_values, a_packed, a_patched, a_gone, a_conditionColumn, a_conditionLow, a_conditionHigh) v1 v2 v3) (nI n, nI pc, f_distinct, nI nc, f_gathered, f_lowStep, a_isDeleted, a_formOf, a_firstValue, a_width, a_leastStep, a_many, a_lowest, a_highest, a_taken, a_words, a_lengths, a_loose, a_patchPlace, a_patchValue, a_buffer, a_sorted, a_conditionColumn, a_conditionLow, a_conditionHigh, a_chosenSet, a_gatheredValue, a_kept) v1 v2 v3 := by
  have h' := h
  obtain ⟨hn, hpc, hnc, hcl, hde, hB, hL, hP⟩ := h'
  unfold wpX_condition wpY_condition
  rcases pk_ix v1 (n := 3) (by omega) with hc | hc | ⟨c, hc, rfl⟩
  · exact zx_badL hc (br_f (by decide) (zy_colL hc (br_t rfl ⟨rfl, zr_mk h⟩)))
  · exact zx_badH hc (br_f (by decide) (zy_colH hc (br_t rfl ⟨rfl, zr_mk h⟩)))
  · refine zx_bad hc (br_t rfl (pk_eq nc 4 (fun z => ?_) (fun z => ?_) rfl rfl (by omega) (by omega)))
    · exact zy_col hc (br_f (by decide) (br_t (congrArg nI z) ⟨rfl, zr_mk h⟩))
    · have v : vp_in (nI nc) 4 := vp_in_nI (by omega) (by omega)
      have ne : ¬ nI nc = 4 := fun q => z ((nI_eq (b := 4) (by omega) (by omega)).mp q)
      rw [nI_clamp (by omega)]
      refine ⟨v, nm_e ⟨v, nm_e ⟨v, nm_e (nm_r (nI_1 nc) (zy_col hc (br_f (by decide) (br_f ne ?_))))⟩⟩⟩
      rw [nI_clamp (by omega)]
      refine ⟨v, nm_e ⟨v, nm_e ⟨v, nm_e (nm_r (nI_1 nc) ⟨rfl, zr_mk (cl := fun j => if j = nc then c else cl j) ⟨hn, hpc, by omega, fun j hj => ?_, hde, hB, hL, hP⟩⟩)⟩⟩⟩
      by_cases y : j = nc
      · rw [y, pk_us]
        show nI c = nI (if nc = nc then c else cl nc) ∧ (if nc = nc then c else cl nc) < 3
        rw [if_pos rfl]
        exact ⟨rfl, hc⟩
      · rw [pk_un y]
        show a_conditionColumn j = nI (if j = nc then c else cl j) ∧ (if j = nc then c else cl j) < 3
        rw [if_neg y]
        exact hcl j (by omega)
end
end
section
/-! one statement a method: the answers over chosen rows -/
section
variable {f_rowCount f_patchCount f_distinct f_conditions f_gathered : Int32} {f_lowStep : Int64} {a_isDeleted a_formOf a_firstValue a_width a_leastStep a_many a_lowest a_highest a_taken a_words a_lengths a_loose a_patchPlace a_patchValue a_buffer a_sorted a_conditionColumn a_conditionLow a_conditionHigh a_chosenSet a_gatheredValue a_kept : Nat → Int32} {a_values a_packed a_patched a_gone a_columns a_lows a_highs : Nat → Int32}
variable {k n pc nc : Nat} {cl : Nat → Nat}
theorem zz_passed (h : (zp_ri n pc nc cl a_isDeleted a_formOf a_firstValue a_width a_leastStep a_many a_lowest a_highest a_taken a_words a_lengths a_loose a_patchPlace a_patchValue a_conditionColumn a_values a_packed a_patched a_gone)) : wpX_passed (fun r u' => wpY_passed (fun r' => r' = r ∧ i_Rel k u' (nI n, nI pc, nI nc, a_values, a_packed, a_patched, a_gone, a_conditionColumn, a_conditionLow, a_conditionHigh)) (nI n, nI pc, nI nc, a_values, a_packed, a_patched, a_gone, a_conditionColumn, a_conditionLow, a_conditionHigh)) (nI n, nI pc, f_distinct, nI nc, f_gathered, f_lowStep, a_isDeleted, a_formOf, a_firstValue, a_width, a_leastStep, a_many, a_lowest, a_highest, a_taken, a_words, a_lengths, a_loose, a_patchPlace, a_patchValue, a_buffer, a_sorted, a_conditionColumn, a_conditionLow, a_conditionHigh, a_chosenSet, a_gatheredValue, a_kept) := by
  have h' := h
  obtain ⟨hn, hpc, hnc, hcl, hde, hB, hL, hP⟩ := h'
  exact zx_passed hn hnc hcl hB (fun B => Exists.intro (n / 16 + 1) (zy_ps4 hn hnc hcl ⟨rfl, zr_mk h⟩ (n / 16) 0 (by omega)))
theorem zz_count (h : (zp_ri n pc nc cl a_isDeleted a_formOf a_firstValue a_width a_leastStep a_many a_lowest a_highest a_taken a_words a_lengths a_loose a_patchPlace a_patchValue a_conditionColumn a_values a_packed a_patched a_gone)) : wpX_count (fun r u' => wpY_count (fun r' => r' = r ∧ i_Rel k u' (nI n, nI pc, nI nc, a_values, a_packed, a_patched, a_gone, a_conditionColumn, a_conditionLow, a_conditionHigh)) (nI n, nI pc, nI nc, a_values, a_packed, a_patched, a_gone, a_conditionColumn, a_conditionLow, a_conditionHigh)) (nI n, nI pc, f_distinct, nI nc, f_gathered, f_lowStep, a_isDeleted, a_formOf, a_firstValue, a_width, a_leastStep, a_many, a_lowest, a_highest, a_taken, a_words, a_lengths, a_loose, a_patchPlace, a_patchValue, a_buffer, a_sorted, a_conditionColumn, a_conditionLow, a_conditionHigh, a_chosenSet, a_gatheredValue, a_kept) := by
  have h' := h
  obtain ⟨hn, hpc, hnc, hcl, hde, hB, hL, hP⟩ := h'
  unfold wpX_count
  refine zx_choose hn hpc hnc hcl hB hL hP (fun B cs hcs => ?_)
  rw [zp_ch_eq hde] at hcs
  exact ⟨n / 16 + 2, zx_ct8 hn (fun r hr => zp_ch_ge hr) hcs (Exists.intro (n + 1) (zy_ct4 hn hnc hcl ⟨rfl, zr_mk h⟩ n 0 (by omega))) (n / 16 + 1) 0 (by omega)⟩
theorem zz_chosen (h : (zp_ri n pc nc cl a_isDeleted a_formOf a_firstValue a_width a_leastStep a_many a_lowest a_highest a_taken a_words a_lengths a_loose a_patchPlace a_patchValue a_conditionColumn a_values a_packed a_patched a_gone)) (v1 : Int32) : wpX_chosen (fun r u' => wpY_chosen (fun r' => r' = r ∧ i_Rel k u' (nI n, nI pc, nI nc, a_values, a_packed, a_patched, a_gone, a_conditionColumn, a_conditionLow, a_conditionHigh)) (nI n, nI pc, nI nc, a_values, a_packed, a_patched, a_gone, a_conditionColumn, a_conditionLow, a_conditionHigh) v1) (nI n, nI pc, f_distinct, nI nc, f_gathered, f_lowStep, a_isDeleted, a_formOf, a_firstValue, a_width, a_leastStep, a_many, a_lowest, a_highest, a_taken, a_words, a_lengths, a_loose, a_patchPlace, a_patchValue, a_buffer, a_sorted, a_conditionColumn, a_conditionLow, a_conditionHigh, a_chosenSet, a_gatheredValue, a_kept) v1 := by
  have h' := h
  obtain ⟨hn, hpc, hnc, hcl, hde, hB, hL, hP⟩ := h'
  unfold wpX_chosen
  refine zx_choose hn hpc hnc hcl hB hL hP (fun B cs hcs => ?_)
  rw [zp_ch_eq hde] at hcs
  have e0 : v1 = v1 - nI (zp_ct (zp_ch n nc cl a_gone a_values a_conditionLow a_conditionHigh) 0) := by
    show v1 = v1 - 0
    rw [Int32.sub_zero]
  by_cases h0 : v1 < 0
  · refine ⟨1, And.intro zx_n16 ?_⟩
    rw [zx_d16 (by omega)]
    refine br_f (nI_nlt (b := 0) (by omega) (by omega)) (br_t h0 (Exists.intro (n + 1) (zy_cn4 hn hnc hcl (fun r hr hc e => ?_) (fun _ => ⟨rfl, zr_mk h⟩) n 0 v1 (by omega) e0 (fun q hq => absurd hq (by omega)))))
    have hle := zp_ct_le (zp_ch n nc cl a_gone a_values a_conditionLow a_conditionHigh) r
    rw [e] at h0
    exact absurd h0 (nI_pos (by omega))
  · obtain ⟨K, hK, rfl⟩ := nI_of h0
    have key1 : ∀ r r2, zp_ch n nc cl a_gone a_values a_conditionLow a_conditionHigh r = true → zp_ct (zp_ch n nc cl a_gone a_values a_conditionLow a_conditionHigh) r = K → r2 < n → zp_ch n nc cl a_gone a_values a_conditionLow a_conditionHigh r2 = true → nI K = nI (zp_ct (zp_ch n nc cl a_gone a_values a_conditionLow a_conditionHigh) r2) → nI r2 = nI r := by
      intro r r2 hc e hr2 hc2 e2
      have hl2 := zp_ct_le (zp_ch n nc cl a_gone a_values a_conditionLow a_conditionHigh) r2
      rw [nI_eq hK (by omega)] at e2
      rw [zp_ct_inj _ hc2 hc (by omega)]
    have key2 : zp_ct (zp_ch n nc cl a_gone a_values a_conditionLow a_conditionHigh) n ≤ K → ∀ r2, r2 < n → zp_ch n nc cl a_gone a_values a_conditionLow a_conditionHigh r2 = true → nI K = nI (zp_ct (zp_ch n nc cl a_gone a_values a_conditionLow a_conditionHigh) r2) → False := by
      intro hle r2 hr2 hc2 e2
      have hl2 := zp_ct_le (zp_ch n nc cl a_gone a_values a_conditionLow a_conditionHigh) r2
      rw [nI_eq hK (by omega)] at e2
      have := zp_ct_lt _ hr2 hc2
      omega
    exact ⟨n / 16 + 2, zx_cn8 (ch := zp_ch n nc cl a_gone a_values a_conditionLow a_conditionHigh) hn hK (fun r hr => zp_ch_ge hr) hcs (fun r hr hc e => Exists.intro (n + 1) (zy_cn4 hn hnc hcl (fun r2 hr2 hc2 e2 => ⟨key1 r r2 hc e hr2 hc2 e2, zr_mk h⟩) (fun hno => absurd (congrArg nI e).symm (hno r hr hc)) n 0 _ (by omega) e0 (fun q hq => absurd hq (by omega)))) (fun hle => Exists.intro (n + 1) (zy_cn4 hn hnc hcl (fun r2 hr2 hc2 e2 => (key2 hle r2 hr2 hc2 e2).elim) (fun _ => ⟨rfl, zr_mk h⟩) n 0 _ (by omega) e0 (fun q hq => absurd hq (by omega)))) (n / 16 + 1) 0 (by omega) (Nat.zero_le _)⟩
theorem zz_sum (h : (zp_ri n pc nc cl a_isDeleted a_formOf a_firstValue a_width a_leastStep a_many a_lowest a_highest a_taken a_words a_lengths a_loose a_patchPlace a_patchValue a_conditionColumn a_values a_packed a_patched a_gone)) (v1 : Int32) : wpX_sum (fun r u' => wpY_sum (fun r' => r' = r ∧ i_Rel k u' (nI n, nI pc, nI nc, a_values, a_packed, a_patched, a_gone, a_conditionColumn, a_conditionLow, a_conditionHigh)) (nI n, nI pc, nI nc, a_values, a_packed, a_patched, a_gone, a_conditionColumn, a_conditionLow, a_conditionHigh) v1) (nI n, nI pc, f_distinct, nI nc, f_gathered, f_lowStep, a_isDeleted, a_formOf, a_firstValue, a_width, a_leastStep, a_many, a_lowest, a_highest, a_taken, a_words, a_lengths, a_loose, a_patchPlace, a_patchValue, a_buffer, a_sorted, a_conditionColumn, a_conditionLow, a_conditionHigh, a_chosenSet, a_gatheredValue, a_kept) v1 := by
  have h' := h
  obtain ⟨hn, hpc, hnc, hcl, hde, hB, hL, hP⟩ := h'
  unfold wpX_sum wpY_sum
  rcases pk_ix v1 (n := 3) (by omega) with hc | hc | ⟨c, hc, rfl⟩
  · exact zx_badL hc (br_f (by decide) (zy_colL hc (br_t rfl ⟨rfl, zr_mk h⟩)))
  · exact zx_badH hc (br_f (by decide) (zy_colH hc (br_t rfl ⟨rfl, zr_mk h⟩)))
  · refine zx_bad hc (br_t rfl (zx_gather hn hpc hnc hc hcl hB hL hP (fun B cs gv hg => ?_)))
    rw [zp_ch_eq hde] at hg ⊢
    have hle := zp_ct_le (zp_ch n nc cl a_gone a_values a_conditionLow a_conditionHigh) n
    refine ⟨_, zx_su20 (by omega) (zy_col hc (br_f (by decide) ⟨n + 1, zy_su15 hn hnc hc hcl ⟨?_, zr_mk h⟩ n 0 (by omega)⟩)) _ 0 (Nat.zero_add _)⟩
    exact (zp_xs_ys n hg).symm
theorem zz_least (h : (zp_ri n pc nc cl a_isDeleted a_formOf a_firstValue a_width a_leastStep a_many a_lowest a_highest a_taken a_words a_lengths a_loose a_patchPlace a_patchValue a_conditionColumn a_values a_packed a_patched a_gone)) (v1 : Int32) : wpX_least (fun r u' => wpY_least (fun r' => r' = r ∧ i_Rel k u' (nI n, nI pc, nI nc, a_values, a_packed, a_patched, a_gone, a_conditionColumn, a_conditionLow, a_conditionHigh)) (nI n, nI pc, nI nc, a_values, a_packed, a_patched, a_gone, a_conditionColumn, a_conditionLow, a_conditionHigh) v1) (nI n, nI pc, f_distinct, nI nc, f_gathered, f_lowStep, a_isDeleted, a_formOf, a_firstValue, a_width, a_leastStep, a_many, a_lowest, a_highest, a_taken, a_words, a_lengths, a_loose, a_patchPlace, a_patchValue, a_buffer, a_sorted, a_conditionColumn, a_conditionLow, a_conditionHigh, a_chosenSet, a_gatheredValue, a_kept) v1 := by
  have h' := h
  obtain ⟨hn, hpc, hnc, hcl, hde, hB, hL, hP⟩ := h'
  unfold wpX_least wpY_least
  rcases pk_ix v1 (n := 3) (by omega) with hc | hc | ⟨c, hc, rfl⟩
  · exact zx_badL hc (br_f (by decide) (zy_colL hc (br_t rfl ⟨rfl, zr_mk h⟩)))
  · exact zx_badH hc (br_f (by decide) (zy_colH hc (br_t rfl ⟨rfl, zr_mk h⟩)))
  · refine zx_bad hc (br_t rfl (zx_gather hn hpc hnc hc hcl hB hL hP (fun B cs gv hg => ?_)))
    rw [zp_ch_eq hde] at hg ⊢
    have hle := zp_ct_le (zp_ch n nc cl a_gone a_values a_conditionLow a_conditionHigh) n
    refine zx_order (by omega) (fun g hs hpm => ?_)
    have gs := zp_gs_mk hs hpm hg
    have li0 : zp_li (zp_ch n nc cl a_gone a_values a_conditionLow a_conditionHigh) (fun r => a_values (3 * r + c)) 0 0 (-1000000003) := Or.inl ⟨rfl, rfl, fun q hq => absurd hq (by omega)⟩
    have l1 : zp_ct (zp_ch n nc cl a_gone a_values a_conditionLow a_conditionHigh) n = 0 → ∀ fl x, zp_li (zp_ch n nc cl a_gone a_values a_conditionLow a_conditionHigh) (fun r => a_values (3 * r + c)) n fl x → x = -1000000003 := by
      intro z fl x hx
      have := zp_gs_least gs hx
      rw [if_pos z] at this
      exact this
    have l2 : zp_ct (zp_ch n nc cl a_gone a_values a_conditionLow a_conditionHigh) n ≠ 0 → ∀ fl x, zp_li (zp_ch n nc cl a_gone a_values a_conditionLow a_conditionHigh) (fun r => a_values (3 * r + c)) n fl x → x = g 0 := by
      intro z fl x hx
      have := zp_gs_least gs hx
      rw [if_neg z] at this
      exact this
    exact pk_eq _ 0 (fun z => zy_col hc (br_f (by decide) ⟨n + 1, zy_ls19 hn hnc hc hcl (fun fl x hx => ⟨l1 z fl x hx, zr_mk h⟩) n 0 0 _ (by omega) li0⟩)) (fun z => zy_col hc (br_f (by decide) ⟨n + 1, zy_ls19 hn hnc hc hcl (fun fl x hx => ⟨l2 z fl x hx, zr_mk h⟩) n 0 0 _ (by omega) li0⟩)) rfl rfl (by omega) (by omega)
theorem zz_ranked (h : (zp_ri n pc nc cl a_isDeleted a_formOf a_firstValue a_width a_leastStep a_many a_lowest a_highest a_taken a_words a_lengths a_loose a_patchPlace a_patchValue a_conditionColumn a_values a_packed a_patched a_gone)) (v1 v2 : Int32) : wpX_ranked (fun r u' => wpY_ranked (fun r' => r' = r ∧ i_Rel k u' (nI n, nI pc, nI nc, a_values, a_packed, a_patched, a_gone, a_conditionColumn, a_conditionLow, a_conditionHigh)) (nI n, nI pc, nI nc, a_values, a_packed, a_patched, a_gone, a_conditionColumn, a_conditionLow, a_conditionHigh) v1 v2) (nI n, nI pc, f_distinct, nI nc, f_gathered, f_lowStep, a_isDeleted, a_formOf, a_firstValue, a_width, a_leastStep, a_many, a_lowest, a_highest, a_taken, a_words, a_lengths, a_loose, a_patchPlace, a_patchValue, a_buffer, a_sorted, a_conditionColumn, a_conditionLow, a_conditionHigh, a_chosenSet, a_gatheredValue, a_kept) v1 v2 := by
  have h' := h
  obtain ⟨hn, hpc, hnc, hcl, hde, hB, hL, hP⟩ := h'
  unfold wpX_ranked wpY_ranked
  rcases pk_ix v1 (n := 3) (by omega) with hc | hc | ⟨c, hc, rfl⟩
  · exact zx_badL hc (br_f (by decide) (zy_colL hc (br_t rfl ⟨rfl, zr_mk h⟩)))
  · exact zx_badH hc (br_f (by decide) (zy_colH hc (br_t rfl ⟨rfl, zr_mk h⟩)))
  · refine zx_bad hc (br_t rfl (zx_gather hn hpc hnc hc hcl hB hL hP (fun B cs gv hg => ?_)))
    rw [zp_ch_eq hde] at hg ⊢
    have hle := zp_ct_le (zp_ch n nc cl a_gone a_values a_conditionLow a_conditionHigh) n
    refine zx_order (by omega) (fun g hs hpm => ?_)
    have gs := zp_gs_mk hs hpm hg
    by_cases h0 : v2 < 0
    · refine br_t h0 (zy_col hc (br_f (by decide) ⟨n + 1, zy_rd13 hn hnc hc hcl (fun r hr hcr e => ?_) (fun _ => ⟨rfl, zr_mk h⟩) n 0 (by omega) (fun q hq => absurd hq (by omega))⟩))
      have := zp_ct_le (zp_rk (zp_ch n nc cl a_gone a_values a_conditionLow a_conditionHigh) (fun r => a_values (3 * r + c)) r) n
      rw [← e] at h0
      exact absurd h0 (nI_pos (by omega))
    · obtain ⟨K, hK, rfl⟩ := nI_of h0
      have key1 : ∀ r, r < n → zp_ch n nc cl a_gone a_values a_conditionLow a_conditionHigh r = true → nI (zp_ct (zp_rk (zp_ch n nc cl a_gone a_values a_conditionLow a_conditionHigh) (fun r => a_values (3 * r + c)) r) n) = nI K → zp_ct (zp_rk (zp_ch n nc cl a_gone a_values a_conditionLow a_conditionHigh) (fun r => a_values (3 * r + c)) r) n = K := by
        intro r hr hcr e
        have b := zp_ct_le (zp_rk (zp_ch n nc cl a_gone a_values a_conditionLow a_conditionHigh) (fun r => a_values (3 * r + c)) r) n
        exact (nI_eq (by omega) hK).mp e
      have key2 : ∀ r, r < n → zp_ch n nc cl a_gone a_values a_conditionLow a_conditionHigh r = true → nI (zp_ct (zp_rk (zp_ch n nc cl a_gone a_values a_conditionLow a_conditionHigh) (fun r => a_values (3 * r + c)) r) n) = nI K → a_values (3 * r + c) = g (zp_ct (zp_ch n nc cl a_gone a_values a_conditionLow a_conditionHigh) n - 1 - K) := by
        intro r hr hcr e
        have q := (zp_gs_rank gs hr hcr).2
        rw [key1 r hr hcr e] at q
        exact q.symm
      have key3 : zp_ct (zp_ch n nc cl a_gone a_values a_conditionLow a_conditionHigh) n ≤ K → ∀ r, r < n → zp_ch n nc cl a_gone a_values a_conditionLow a_conditionHigh r = true → nI (zp_ct (zp_rk (zp_ch n nc cl a_gone a_values a_conditionLow a_conditionHigh) (fun r => a_values (3 * r + c)) r) n) = nI K → False := by
        intro z r hr hcr e
        have q := (zp_gs_rank gs hr hcr).1
        rw [key1 r hr hcr e] at q
        omega
      have key4 : K < zp_ct (zp_ch n nc cl a_gone a_values a_conditionLow a_conditionHigh) n → (∀ r, r < n → zp_ch n nc cl a_gone a_values a_conditionLow a_conditionHigh r = true → nI (zp_ct (zp_rk (zp_ch n nc cl a_gone a_values a_conditionLow a_conditionHigh) (fun r => a_values (3 * r + c)) r) n) ≠ nI K) → False := by
        intro z hno
        obtain ⟨r, hr, hcr, e⟩ := zp_gs_ranked gs z
        exact absurd (congrArg nI e) (hno r hr hcr)
      refine br_f h0 (pk_lt K (zp_ct (zp_ch n nc cl a_gone a_values a_conditionLow a_conditionHigh) n) (fun z => ?_) (fun z => zy_col hc (br_f (by decide) ⟨n + 1, zy_rd13 hn hnc hc hcl (fun r hr hcr e => (key3 z r hr hcr e).elim) (fun _ => ⟨rfl, zr_mk h⟩) n 0 (by omega) (fun q hq => absurd hq (by omega))⟩)) rfl rfl (by omega) (by omega))
      have e1 : nI (zp_ct (zp_ch n nc cl a_gone a_values a_conditionLow a_conditionHigh) n) - 1 - nI K = nI (zp_ct (zp_ch n nc cl a_gone a_values a_conditionLow a_conditionHigh) n - 1 - K) := by
        rw [show nI (zp_ct (zp_ch n nc cl a_gone a_values a_conditionLow a_conditionHigh) n) - 1 = nI (zp_ct (zp_ch n nc cl a_gone a_values a_conditionLow a_conditionHigh) n - 1) from pk_sub (b := 1) (by omega), pk_sub (by omega)]
      rw [e1, nI_clamp (by omega)]
      exact ⟨vp_in_nI (by omega) (by omega), zy_col hc (br_f (by decide) ⟨n + 1, zy_rd13 hn hnc hc hcl (fun r hr hcr e => ⟨key2 r hr hcr e, zr_mk h⟩) (fun hno => (key4 z hno).elim) n 0 (by omega) (fun q hq => absurd hq (by omega))⟩)⟩
theorem zz_different (h : (zp_ri n pc nc cl a_isDeleted a_formOf a_firstValue a_width a_leastStep a_many a_lowest a_highest a_taken a_words a_lengths a_loose a_patchPlace a_patchValue a_conditionColumn a_values a_packed a_patched a_gone)) (v1 : Int32) : wpX_different (fun r u' => wpY_different (fun r' => r' = r ∧ i_Rel k u' (nI n, nI pc, nI nc, a_values, a_packed, a_patched, a_gone, a_conditionColumn, a_conditionLow, a_conditionHigh)) (nI n, nI pc, nI nc, a_values, a_packed, a_patched, a_gone, a_conditionColumn, a_conditionLow, a_conditionHigh) v1) (nI n, nI pc, f_distinct, nI nc, f_gathered, f_lowStep, a_isDeleted, a_formOf, a_firstValue, a_width, a_leastStep, a_many, a_lowest, a_highest, a_taken, a_words, a_lengths, a_loose, a_patchPlace, a_patchValue, a_buffer, a_sorted, a_conditionColumn, a_conditionLow, a_conditionHigh, a_chosenSet, a_gatheredValue, a_kept) v1 := by
  have h' := h
  obtain ⟨hn, hpc, hnc, hcl, hde, hB, hL, hP⟩ := h'
  unfold wpX_different wpY_different
  rcases pk_ix v1 (n := 3) (by omega) with hc | hc | ⟨c, hc, rfl⟩
  · exact zx_badL hc (br_f (by decide) (zy_colL hc (br_t rfl ⟨rfl, zr_mk h⟩)))
  · exact zx_badH hc (br_f (by decide) (zy_colH hc (br_t rfl ⟨rfl, zr_mk h⟩)))
  · refine zx_bad hc (br_t rfl (zx_gather hn hpc hnc hc hcl hB hL hP (fun B cs gv hg => ?_)))
    rw [zp_ch_eq hde] at hg ⊢
    have hle := zp_ct_le (zp_ch n nc cl a_gone a_values a_conditionLow a_conditionHigh) n
    refine zx_order (by omega) (fun g hs hpm => ?_)
    have gs := zp_gs_mk hs hpm hg
    refine ⟨_, zx_df24 (by omega) (zy_col hc (br_f (by decide) ⟨n + 1, zy_df15 hn hnc hc hcl ⟨?_, zr_mk h⟩ n 0 (by omega)⟩)) _ 0 (Nat.zero_add _)⟩
    exact congrArg nI (zp_gs_diff gs).symm
theorem zz_commonest (h : (zp_ri n pc nc cl a_isDeleted a_formOf a_firstValue a_width a_leastStep a_many a_lowest a_highest a_taken a_words a_lengths a_loose a_patchPlace a_patchValue a_conditionColumn a_values a_packed a_patched a_gone)) (v1 : Int32) : wpX_commonest (fun r u' => wpY_commonest (fun r' => r' = r ∧ i_Rel k u' (nI n, nI pc, nI nc, a_values, a_packed, a_patched, a_gone, a_conditionColumn, a_conditionLow, a_conditionHigh)) (nI n, nI pc, nI nc, a_values, a_packed, a_patched, a_gone, a_conditionColumn, a_conditionLow, a_conditionHigh) v1) (nI n, nI pc, f_distinct, nI nc, f_gathered, f_lowStep, a_isDeleted, a_formOf, a_firstValue, a_width, a_leastStep, a_many, a_lowest, a_highest, a_taken, a_words, a_lengths, a_loose, a_patchPlace, a_patchValue, a_buffer, a_sorted, a_conditionColumn, a_conditionLow, a_conditionHigh, a_chosenSet, a_gatheredValue, a_kept) v1 := by
  have h' := h
  obtain ⟨hn, hpc, hnc, hcl, hde, hB, hL, hP⟩ := h'
  unfold wpX_commonest wpY_commonest
  rcases pk_ix v1 (n := 3) (by omega) with hc | hc | ⟨c, hc, rfl⟩
  · exact zx_badL hc (br_f (by decide) (zy_colL hc (br_t rfl ⟨rfl, zr_mk h⟩)))
  · exact zx_badH hc (br_f (by decide) (zy_colH hc (br_t rfl ⟨rfl, zr_mk h⟩)))
  · refine zx_bad hc (br_t rfl (zx_gather hn hpc hnc hc hcl hB hL hP (fun B cs gv hg => ?_)))
    rw [zp_ch_eq hde] at hg ⊢
    have hle := zp_ct_le (zp_ch n nc cl a_gone a_values a_conditionLow a_conditionHigh) n
    refine zx_order (by omega) (fun g hs hpm => ?_)
    have gs := zp_gs_mk hs hpm hg
    refine ⟨_, zx_cm31 (by omega) (zy_col hc (br_f (by decide) ⟨n + 1, zy_cm15 hn hnc hc hcl (fun hno => ⟨?_, zr_mk h⟩) (fun q0 hq hcq hb => ⟨?_, zr_mk h⟩) n 0 (-1) (by omega) (Or.inl ⟨rfl, fun q hq => absurd hq (by omega)⟩)⟩)) _ 0 (Nat.zero_add _)⟩
    · rw [zp_ct_zero n hno]
      rfl
    · exact (zp_gs_com gs hq hcq hb).symm
end
end
section
/-! one statement a method: the writers -/
section
variable {f_rowCount f_patchCount f_distinct f_conditions f_gathered : Int32} {f_lowStep : Int64} {a_isDeleted a_formOf a_firstValue a_width a_leastStep a_many a_lowest a_highest a_taken a_words a_lengths a_loose a_patchPlace a_patchValue a_buffer a_sorted a_conditionColumn a_conditionLow a_conditionHigh a_chosenSet a_gatheredValue a_kept : Nat → Int32} {a_values a_packed a_patched a_gone a_columns a_lows a_highs : Nat → Int32}
variable {k n pc nc : Nat} {cl : Nat → Nat}
theorem zz_append (h : (zp_ri n pc nc cl a_isDeleted a_formOf a_firstValue a_width a_leastStep a_many a_lowest a_highest a_taken a_words a_lengths a_loose a_patchPlace a_patchValue a_conditionColumn a_values a_packed a_patched a_gone)) (v1 v2 v3 : Int32) : wpX_append (fun r u' => wpY_append (fun r' v' => r' = r ∧ i_Rel k u' v') (nI n, nI pc, nI nc, a_values, a_packed, a_patched, a_gone, a_conditionColumn, a_conditionLow, a_conditionHigh) v1 v2 v3) (nI n, nI pc, f_distinct, nI nc, f_gathered, f_lowStep, a_isDeleted, a_formOf, a_firstValue, a_width, a_leastStep, a_many, a_lowest, a_highest, a_taken, a_words, a_lengths, a_loose, a_patchPlace, a_patchValue, a_buffer, a_sorted, a_conditionColumn, a_conditionLow, a_conditionHigh, a_chosenSet, a_gatheredValue, a_kept) v1 v2 v3 := by
  have h' := h
  obtain ⟨hn, hpc, hnc, hcl, hde, hB, hL, hP⟩ := h'
  unfold wpX_append wpY_append
  refine pk_eq n 96 (fun z => br_t (congrArg nI z) ⟨rfl, zr_mk h⟩) (fun z => ?_) rfl rfl (by omega) (by omega)
  have hn96 : n < 96 := by omega
  have ne : ¬ nI n = 96 := fun q => z ((nI_eq (b := 96) (by omega) (by omega)).mp q)
  have hva : ∀ q, q < 3 * n → upd (upd (upd a_values (3 * n) v1) (3 * n + 1) v2) (3 * n + 2) v3 q = a_values q := fun q hq => by
    rw [pk_un (by omega), pk_un (by omega), pk_un (by omega)]
  refine zx_addRow (va' := upd (upd (upd a_values (3 * n) v1) (3 * n + 1) v2) (3 * n + 2) v3)
    (pk' := fun q => if n % 16 = 15 ∧ 48 * (n / 16) ≤ q ∧ q < 48 * (n / 16) + 48 then upd (upd (upd a_values (3 * n) v1) (3 * n + 1) v2) (3 * n + 2) v3 q else a_packed q) hn96 hB hL ?_ ?_ ?_ hva ?_ ?_ ?_
  · rw [pk_un (by omega), pk_un (by omega), pk_us]
  · rw [pk_un (by omega), pk_us]
  · rw [pk_us]
  · intro q hq
    show (if n % 16 = 15 ∧ 48 * (n / 16) ≤ q ∧ q < 48 * (n / 16) + 48 then _ else a_packed q) = a_packed q
    rw [if_neg (by omega)]
  · intro h15 q h1 h2
    show (if n % 16 = 15 ∧ 48 * (n / 16) ≤ q ∧ q < 48 * (n / 16) + 48 then _ else a_packed q) = _
    rw [if_pos ⟨h15, h1, h2⟩]
  · intro fo fv wd ls mn lo hi tk W L l B S d lst g1 g2
    have hde' : ∀ r, r < n + 1 → upd a_isDeleted n 0 r = upd a_gone n 0 r := by
      intro r hr
      by_cases q : r = n
      · rw [q, pk_us, pk_us]
      · rw [pk_un q, pk_un q]
        exact hde r (by omega)
    refine br_f ne ?_
    rw [zx_3, show nI (3 * n) + 1 = nI (3 * n + 1) from nI_1 _, show nI (3 * n) + 2 = nI (3 * n + 2) from nI_add _ 2, nI_clamp (show 3 * n < 2 ^ 31 by omega), nI_clamp (show 3 * n + 1 < 2 ^ 31 by omega), nI_clamp (show 3 * n + 2 < 2 ^ 31 by omega), nI_clamp (show n < 2 ^ 31 by omega)]
    refine ⟨vp_in_nI (by omega) (by omega), nm_e ⟨vp_in_nI (by omega) (by omega), nm_e ⟨vp_in_nI (by omega) (by omega), nm_e ⟨vp_in_nI hn96 (by omega), nm_r (e' := upd a_gone n 0) rfl (nm_r (nI_1 n) ⟨zx_n16, ?_⟩)⟩⟩⟩⟩
    rw [zx_m16 (by omega), zx_d16 (by omega), nI_pred]
    refine pk_eq ((n + 1) % 16) 0 (fun y => ⟨zx_n16, ?_⟩) (fun y => ⟨rfl, zr_mk ⟨by omega, hpc, hnc, hcl, hde', zp_bl_c g1 (fun q hq => ?_), g2, zp_pt_add hP (fun q hq => hva q (by omega)) (fun _ _ => rfl) (fun _ _ => rfl) (fun h15 => absurd h15 (by omega))⟩⟩) rfl rfl (by omega) (by omega)
    · rw [show nI ((n + 1) / 16) - 1 = nI (n / 16) by rw [show (n + 1) / 16 = n / 16 + 1 by omega, nI_pred]]
      refine zy_pk (by omega) (fun pk pd p1 p2 => ⟨nI_pred n, zr_mk ⟨by omega, hpc, hnc, hcl, hde', zp_bl_c g1 (fun q hq => ?_), g2, zp_pt_add hP (fun q hq => hva q (by omega)) (fun q hq => ?_) (fun q hq => ?_) (fun h15 q q1 q2 => ⟨?_, ?_⟩)⟩⟩)
      · rw [p1 q]
        show _ = (if n % 16 = 15 ∧ 48 * (n / 16) ≤ q ∧ q < 48 * (n / 16) + 48 then _ else a_packed q)
        by_cases w : 48 * (n / 16) ≤ q ∧ q < 48 * (n / 16) + 48
        · rw [if_pos w, if_pos ⟨by omega, w⟩]
        · rw [if_neg w, if_neg (fun y => w y.2)]
      · rw [p1 q, if_neg (by omega)]
      · rw [p2 q, if_neg (by omega)]
      · rw [p1 q, if_pos ⟨q1, q2⟩]
      · rw [p2 q, if_pos ⟨q1, q2⟩]
    · show a_packed q = (if n % 16 = 15 ∧ 48 * (n / 16) ≤ q ∧ q < 48 * (n / 16) + 48 then _ else a_packed q)
      rw [if_neg (by omega)]
theorem zx_lr {post : Int32 → Prop} (hn : n ≤ 96) (hp : post (nI (zp_ct (zp_l0 a_isDeleted) n))) : wpX_liveRows post (nI n, f_patchCount, f_distinct, f_conditions, f_gathered, f_lowStep, a_isDeleted, a_formOf, a_firstValue, a_width, a_leastStep, a_many, a_lowest, a_highest, a_taken, a_words, a_lengths, a_loose, a_patchPlace, a_patchValue, a_buffer, a_sorted, a_conditionColumn, a_conditionLow, a_conditionHigh, a_chosenSet, a_gatheredValue, a_kept) :=
  Exists.intro (n + 1) (zx_lr4 hn hp n 0 (by omega))
theorem zz_delete (h : (zp_ri n pc nc cl a_isDeleted a_formOf a_firstValue a_width a_leastStep a_many a_lowest a_highest a_taken a_words a_lengths a_loose a_patchPlace a_patchValue a_conditionColumn a_values a_packed a_patched a_gone)) (v1 : Int32) : wpX_delete (fun r u' => wpY_delete (fun r' v' => r' = r ∧ i_Rel k u' v') (nI n, nI pc, nI nc, a_values, a_packed, a_patched, a_gone, a_conditionColumn, a_conditionLow, a_conditionHigh) v1) (nI n, nI pc, f_distinct, nI nc, f_gathered, f_lowStep, a_isDeleted, a_formOf, a_firstValue, a_width, a_leastStep, a_many, a_lowest, a_highest, a_taken, a_words, a_lengths, a_loose, a_patchPlace, a_patchValue, a_buffer, a_sorted, a_conditionColumn, a_conditionLow, a_conditionHigh, a_chosenSet, a_gatheredValue, a_kept) v1 := by
  have h' := h
  obtain ⟨hn, hpc, hnc, hcl, hde, hB, hL, hP⟩ := h'
  unfold wpX_delete wpY_delete
  rcases pk_ix v1 (n := n) (by omega) with hr | hr | ⟨r, hr, rfl⟩
  · exact zx_nrO hn (Or.inl hr) (br_f (by decide) (zy_rowO (Or.inl hr) (br_t rfl ⟨rfl, zr_mk h⟩)))
  · exact zx_nrO hn (Or.inr hr) (br_f (by decide) (zy_rowO (Or.inr hr) (br_t rfl ⟨rfl, zr_mk h⟩)))
  · have v : vp_in (nI r) 96 := vp_in_nI (by omega) (by omega)
    have hde' : ∀ j, j < n → upd a_isDeleted r 1 j = upd a_gone r 1 j := by
      intro j hj
      by_cases q : j = r
      · rw [q, pk_us, pk_us]
      · rw [pk_un q, pk_un q]
        exact hde j hj
    refine zx_nr hn hr (fun q => br_t rfl ?_) (fun q => br_f (by decide) (zy_row hn hr (fun y => absurd ((hde r hr).trans y) q) (fun _ => br_t rfl ⟨rfl, zr_mk h⟩)))
    rw [nI_clamp (by omega)]
    refine ⟨v, nm_r (e' := upd a_isDeleted r 1) rfl ?_⟩
    refine zx_lr hn ?_
    refine zy_row hn hr (fun _ => br_f (by decide) ?_) (fun y => absurd ((hde r hr).symm.trans q) y)
    exact ⟨v, nm_r (e' := upd a_gone r 1) rfl ⟨n + 1, zy_de22 hn ⟨congrArg nI (zp_l0_eq hde').symm, zr_mk ⟨hn, hpc, hnc, hcl, hde', hB, hL, hP⟩⟩ n 0 (by omega)⟩⟩
theorem zz_compact (h : (zp_ri n pc nc cl a_isDeleted a_formOf a_firstValue a_width a_leastStep a_many a_lowest a_highest a_taken a_words a_lengths a_loose a_patchPlace a_patchValue a_conditionColumn a_values a_packed a_patched a_gone)) : wpX_compact (fun r u' => wpY_compact (fun r' v' => r' = r ∧ i_Rel k u' v') (nI n, nI pc, nI nc, a_values, a_packed, a_patched, a_gone, a_conditionColumn, a_conditionLow, a_conditionHigh)) (nI n, nI pc, f_distinct, nI nc, f_gathered, f_lowStep, a_isDeleted, a_formOf, a_firstValue, a_width, a_leastStep, a_many, a_lowest, a_highest, a_taken, a_words, a_lengths, a_loose, a_patchPlace, a_patchValue, a_buffer, a_sorted, a_conditionColumn, a_conditionLow, a_conditionHigh, a_chosenSet, a_gatheredValue, a_kept) := by
  have h' := h
  obtain ⟨hn, hpc, hnc, hcl, hde, hB, hL, hP⟩ := h'
  have ect := zp_l0_eq hde
  have hle := zp_ct_le (zp_l0 a_gone) n
  refine Exists.intro (n + 1) (zx_cp4 hn hpc hB hL hP (fun ke hke de fo fv wd ls mn lo hi tk W L l B S d lst g1 g2 g3 => ?_) n 0 a_buffer a_kept (by omega) (fun q c hq => absurd hq (by omega)))
  rw [ect] at g1 g2 g3 ⊢
  refine Exists.intro (n + 1) (zy_cp4 hn (fun V pk pd go p1 p2 p3 => ⟨rfl, ?_⟩) n 0 a_values (by omega) (fun q c hq => absurd hq (by omega)) (fun _ _ => rfl))
  have hV : ∀ q, q < 3 * zp_ct (zp_l0 a_gone) n → V q = ke q := by
    intro q hq
    obtain ⟨r, hr, hl, e⟩ := zp_ct_nth (zp_l0 a_gone) (j := q / 3) n (by omega)
    have hl2 : zp_l0 a_isDeleted r = true := by
      unfold zp_l0 at hl ⊢
      rw [hde r hr]
      exact hl
    have e2 : zp_ct (zp_l0 a_isDeleted) r = q / 3 := by
      rw [← e]
      exact zp_ct_congr r (fun i hi => by unfold zp_l0; rw [hde i (by omega)])
    have a := p1 r (q % 3) hr hl (by omega)
    have b := hke r (q % 3) hr hl2 (by omega)
    rw [e, show 3 * (q / 3) + q % 3 = q by omega] at a
    rw [e2, show 3 * (q / 3) + q % 3 = q by omega] at b
    rw [a, b]
  refine zr_mk (pc := 0) (cl := cl) ⟨by omega, by omega, hnc, hcl, fun r hr => ?_, zp_bl_c g1 (fun q hq => ?_), zp_lo_c g2 hV, ⟨fun _ => 0, fun k hk => absurd hk (by omega), fun k j hk => absurd hk (by omega), fun q hq _ => ⟨(p2 q hq).1.symm, (p2 q hq).2⟩⟩⟩
  · rw [g3 r hr, p3 r (by omega)]
  · rw [(p2 q hq).1]
    exact hV q (by omega)
end
end
section
/-! change -/
theorem zp_pt_set {n pc k0 q : Nat} {pl : Nat → Nat} {pp pv va pk pd : Nat → Int32} {x : Int32} (h : zp_pl n pc pl pp pv va pk pd) (hk : k0 < pc) (e : pl k0 = q) : zp_pt n pc pp (upd pv k0 x) (upd va q x) pk pd := by
  obtain ⟨h1, h2, h3⟩ := h
  refine ⟨pl, fun k hk' => ?_, h2, fun q' hq hno => ?_⟩
  · obtain ⟨a, b, c, d⟩ := h1 k hk'
    refine ⟨a, b, ?_, d⟩
    by_cases z : k = k0
    · rw [z, pk_us, e, pk_us]
    · rw [pk_un z, pk_un (fun y => z (h2 k k0 hk' hk (y.trans e.symm)))]
      exact c
  · have ne : q' ≠ q := fun y => hno k0 hk (e.trans y.symm)
    rw [pk_un ne]
    exact h3 q' hq hno
theorem zp_pt_new {n pc q : Nat} {pl : Nat → Nat} {pp pv va pk pd : Nat → Int32} {x : Int32} (h : zp_pl n pc pl pp pv va pk pd) (hq : q < 48 * (n / 16)) (hno : ∀ k, k < pc → pl k ≠ q) : zp_pt n (pc + 1) (upd pp pc (nI q)) (upd pv pc x) (upd va q x) pk (upd pd q 1) := by
  obtain ⟨h1, h2, h3⟩ := h
  refine ⟨fun k => if k = pc then q else pl k, fun k hk => ?_, fun k j hk hj => ?_, fun q' hq' hno' => ?_⟩
  · show upd pp pc (nI q) k = nI (if k = pc then q else pl k) ∧ (if k = pc then q else pl k) < 48 * (n / 16) ∧ upd pv pc x k = upd va q x (if k = pc then q else pl k) ∧ upd pd q 1 (if k = pc then q else pl k) = 1
    by_cases z : k = pc
    · rw [if_pos z, z, pk_us, pk_us, pk_us, pk_us]
      exact ⟨rfl, hq, rfl, rfl⟩
    · obtain ⟨a, b, c, d⟩ := h1 k (by omega)
      have ne := hno k (by omega)
      rw [if_neg z, pk_un z, pk_un z, pk_un ne, pk_un ne]
      exact ⟨a, b, c, d⟩
  · show (if k = pc then q else pl k) = (if j = pc then q else pl j) → k = j
    by_cases z : k = pc
    · rw [if_pos z]
      by_cases y : j = pc
      · rw [if_pos y]
        intro _
        omega
      · rw [if_neg y]
        intro w
        exact absurd w.symm (hno j (by omega))
    · rw [if_neg z]
      by_cases y : j = pc
      · rw [if_pos y]
        intro w
        exact absurd w (hno k (by omega))
      · rw [if_neg y]
        exact h2 k j (by omega) (by omega)
  · have ne : q' ≠ q := by
      intro y
      have := hno' pc (by omega)
      apply this
      show (if pc = pc then q else pl pc) = q'
      rw [if_pos rfl, y]
    rw [pk_un ne, pk_un ne]
    refine h3 q' hq' (fun k hk => ?_)
    have := hno' k (by omega)
    have t : (if k = pc then q else pl k) ≠ q' := this
    rw [if_neg (by omega)] at t
    exact t
section
variable {f_rowCount f_patchCount f_distinct f_conditions f_gathered : Int32} {f_lowStep : Int64} {a_isDeleted a_formOf a_firstValue a_width a_leastStep a_many a_lowest a_highest a_taken a_words a_lengths a_loose a_patchPlace a_patchValue a_buffer a_sorted a_conditionColumn a_conditionLow a_conditionHigh a_chosenSet a_gatheredValue a_kept : Nat → Int32} {a_values a_packed a_patched a_gone a_columns a_lows a_highs : Nat → Int32}
variable {k n pc nc : Nat} {cl : Nat → Nat}
/-- the reference stores the value and nothing else -/
theorem zy_ch69 {post : Int32 → SY → Prop} {f_count f_patchCount f_conditions : Int32} {a_columns a_lows a_highs : Nat → Int32} {q : Nat} {x old : Int32} (hq : q < 288) (hp : post old (f_count, f_patchCount, f_conditions, upd a_values q x, a_packed, a_patched, a_gone, a_columns, a_lows, a_highs)) : (wY_change_69 post x (nI q) old f_count f_patchCount f_conditions a_values a_packed a_patched a_gone a_columns a_lows a_highs) := by
  refine br_t rfl (br_t rfl ⟨vp_in_nI hq (by omega), nm_r (e' := upd a_values q x) (by rw [nI_clamp (by omega)]) hp⟩)
theorem zz_change (h : (zp_ri n pc nc cl a_isDeleted a_formOf a_firstValue a_width a_leastStep a_many a_lowest a_highest a_taken a_words a_lengths a_loose a_patchPlace a_patchValue a_conditionColumn a_values a_packed a_patched a_gone)) (v1 v2 v3 : Int32) : wpX_change (fun r u' => wpY_change (fun r' v' => r' = r ∧ i_Rel k u' v') (nI n, nI pc, nI nc, a_values, a_packed, a_patched, a_gone, a_conditionColumn, a_conditionLow, a_conditionHigh) v1 v2 v3) (nI n, nI pc, f_distinct, nI nc, f_gathered, f_lowStep, a_isDeleted, a_formOf, a_firstValue, a_width, a_leastStep, a_many, a_lowest, a_highest, a_taken, a_words, a_lengths, a_loose, a_patchPlace, a_patchValue, a_buffer, a_sorted, a_conditionColumn, a_conditionLow, a_conditionHigh, a_chosenSet, a_gatheredValue, a_kept) v1 v2 v3 := by
  have h' := h
  obtain ⟨hn, hpc, hnc, hcl, hde, hB, hL, hP⟩ := h'
  unfold wpX_change wpY_change
  rcases pk_ix v2 (n := 3) (by omega) with hc | hc | ⟨c, hc, rfl⟩
  · exact zx_badL hc (br_f (by decide) (zy_colL hc (br_t rfl ⟨rfl, zr_mk h⟩)))
  · exact zx_badH hc (br_f (by decide) (zy_colH hc (br_t rfl ⟨rfl, zr_mk h⟩)))
  · refine zx_bad hc (br_t rfl ?_)
    rcases pk_ix v1 (n := n) (by omega) with hr | hr | ⟨r, hr, rfl⟩
    · exact zx_nrO hn (Or.inl hr) (br_f (by decide) (zy_col hc (br_f (by decide) (zy_rowO (Or.inl hr) (br_t rfl ⟨rfl, zr_mk h⟩)))))
    · exact zx_nrO hn (Or.inr hr) (br_f (by decide) (zy_col hc (br_f (by decide) (zy_rowO (Or.inr hr) (br_t rfl ⟨rfl, zr_mk h⟩)))))
    · refine zx_nr hn hr (fun q => br_t rfl ?_) (fun q => br_f (by decide) (zy_col hc (br_f (by decide) (zy_row hn hr (fun y => absurd ((hde r hr).trans y) q) (fun _ => br_t rfl ⟨rfl, zr_mk h⟩)))))
      have hg : a_gone r = 0 := (hde r hr).symm.trans q
      have hq288 : 3 * r + c < 288 := by omega
      have hv : vp_in (nI (3 * r + c)) 288 := vp_in_nI hq288 (by omega)
      refine zx_va hn hpc hr hc hB hL hP (fun B => ⟨zx_n16, zx_bc (by omega) ?_⟩)
      rw [zx_m16 (by omega), zx_d16 (by omega), zx_3a r c, zx_3a (r % 16) c]
      refine pk_eq (r / 16) (n / 16) (fun z => ⟨zx_n16, vp_in_nI (by omega) (by omega), nm_r (e' := upd a_loose (3 * (r % 16) + c) v3) (by rw [nI_clamp (by omega)]) ?_⟩) (fun z => ?_) rfl rfl (by omega) (by omega)
      · refine zy_col hc (br_f (by decide) (zy_row hn hr (fun _ => br_f (by decide) (nm_e ⟨hv, nm_r (e' := a_values (3 * r + c)) (by rw [nI_clamp (by omega)]) ⟨zx_n16, zy_bc (by omega) (br_t (nI_le (by omega) (by omega)) (zy_ch69 hq288 ⟨rfl, zr_mk ⟨hn, hpc, hnc, hcl, hde, hB, ?_, ?_⟩⟩))⟩⟩)) (fun y => absurd hg y)))
        · intro i c' hi hc'
          by_cases e : i = r % 16 ∧ c' = c
          · rw [e.1, e.2, pk_us, show 48 * (n / 16) + 3 * (r % 16) + c = 3 * r + c by omega, pk_us]
          · rw [pk_un (by omega), pk_un (by omega)]
            exact hL i c' hi hc'
        · exact zp_pt_c hP (fun q' hq' => pk_un (by omega))
      · obtain ⟨pl, hpl⟩ := hP
        have hq48 : 3 * r + c < 48 * (n / 16) := by omega
        have nb : ¬ nI (n / 16) ≤ nI (r / 16) := nI_ge (by omega) (by omega)
        have hlo : zp_lo n a_loose (upd a_values (3 * r + c) v3) := fun i c' hi hc' => by
          rw [pk_un (by omega)]
          exact hL i c' hi hc'
        refine zx_pat hpc (fun k hk => ⟨(hpl.1 k hk).1, by have := (hpl.1 k hk).2.1; omega⟩) hq288 (fun k0 hk0 e => ?_) (fun hno => br_t rfl ?_)
        · have nk : ¬ nI k0 = -1 := by
            intro q
            have := congrArg Int32.toInt q
            rw [nI_toInt (by omega), show (-1 : Int32).toInt = -1 from by decide] at this
            omega
          have pd1 := (hpl.1 k0 hk0).2.2.2
          rw [e] at pd1
          have rel : i_Rel k (nI n, nI pc, f_distinct, nI nc, f_gathered, f_lowStep, a_isDeleted, a_formOf, a_firstValue, a_width, a_leastStep, a_many, a_lowest, a_highest, a_taken, a_words, a_lengths, a_loose, a_patchPlace, upd a_patchValue k0 v3, B, a_sorted, a_conditionColumn, a_conditionLow, a_conditionHigh, a_chosenSet, a_gatheredValue, a_kept) (nI n, nI pc, nI nc, upd a_values (3 * r + c) v3, a_packed, a_patched, a_gone, a_conditionColumn, a_conditionLow, a_conditionHigh) := zr_mk ⟨hn, hpc, hnc, hcl, hde, hB, hlo, zp_pt_set hpl hk0 e⟩
          refine br_f nk (br_f nk (br_f nk ⟨vp_in_nI (by omega) (by omega), nm_r (e' := upd a_patchValue k0 v3) (by rw [nI_clamp (by omega)]) ?_⟩))
          refine zy_col hc (br_f (by decide) (zy_row hn hr (fun _ => br_f (by decide) (nm_e ⟨hv, nm_r (e' := a_values (3 * r + c)) (by rw [nI_clamp (by omega)]) ⟨zx_n16, zy_bc (by omega) (br_f nb (br_c (fun _ => zy_ch69 hq288 ⟨rfl, rel⟩) (fun _ => ⟨hv, br_f ?_ (zy_ch69 hq288 ⟨rfl, rel⟩)⟩)))⟩⟩)) (fun y => absurd hg y)))
          rw [nI_clamp (by omega), pd1]
          decide
        · have pd0 := (hpl.2.2 _ hq48 hno).2
          have pd0' : a_patched (nI (3 * r + c)).toNatClampNeg = 0 := by rw [nI_clamp (by omega)]; exact pd0
          refine br_c (fun eo => ?_) (fun eo => br_t rfl (pk_eq pc 20 (fun z20 => ?_) (fun z20 => br_t rfl ⟨vp_in_nI (by omega) (by omega), nm_r (e' := upd a_patchPlace pc (nI (3 * r + c))) (by rw [nI_clamp (by omega), zx_3a]) (nm_r (nI_1 pc) ⟨vp_in_nI (by omega) (by omega), nm_r (e' := upd a_patchValue pc v3) (by rw [nI_clamp (by omega)]) ?_⟩)⟩) rfl rfl (by omega) (by omega)))
          · have rel : i_Rel k (nI n, nI pc, f_distinct, nI nc, f_gathered, f_lowStep, a_isDeleted, a_formOf, a_firstValue, a_width, a_leastStep, a_many, a_lowest, a_highest, a_taken, a_words, a_lengths, a_loose, a_patchPlace, a_patchValue, B, a_sorted, a_conditionColumn, a_conditionLow, a_conditionHigh, a_chosenSet, a_gatheredValue, a_kept) (nI n, nI pc, nI nc, upd a_values (3 * r + c) v3, a_packed, a_patched, a_gone, a_conditionColumn, a_conditionLow, a_conditionHigh) := by
              rw [zp_upd_id eo]
              exact zr_mk h
            exact zy_col hc (br_f (by decide) (zy_row hn hr (fun _ => br_f (by decide) (nm_e ⟨hv, nm_r (e' := a_values (3 * r + c)) (by rw [nI_clamp (by omega)]) ⟨zx_n16, zy_bc (by omega) (br_f nb (br_t eo (zy_ch69 hq288 ⟨rfl, rel⟩)))⟩⟩)) (fun y => absurd hg y)))
          · exact zy_col hc (br_f (by decide) (zy_row hn hr (fun _ => br_f (by decide) (nm_e ⟨hv, nm_r (e' := a_values (3 * r + c)) (by rw [nI_clamp (by omega)]) ⟨zx_n16, zy_bc (by omega) (br_f nb (br_f eo ⟨hv, br_t pd0' (br_f (by decide) (br_t (congrArg nI z20) ⟨rfl, zr_mk h⟩))⟩))⟩⟩)) (fun y => absurd hg y)))
          · have n20 : ¬ nI pc = 20 := fun w => z20 ((nI_eq (b := 20) (by omega) (by omega)).mp w)
            have rel : i_Rel k (nI n, nI (pc + 1), f_distinct, nI nc, f_gathered, f_lowStep, a_isDeleted, a_formOf, a_firstValue, a_width, a_leastStep, a_many, a_lowest, a_highest, a_taken, a_words, a_lengths, a_loose, upd a_patchPlace pc (nI (3 * r + c)), upd a_patchValue pc v3, B, a_sorted, a_conditionColumn, a_conditionLow, a_conditionHigh, a_chosenSet, a_gatheredValue, a_kept) (nI n, nI (pc + 1), nI nc, upd a_values (3 * r + c) v3, a_packed, upd a_patched (3 * r + c) 1, a_gone, a_conditionColumn, a_conditionLow, a_conditionHigh) := zr_mk ⟨hn, by omega, hnc, hcl, hde, hB, hlo, zp_pt_new hpl hq48 hno⟩
            exact zy_col hc (br_f (by decide) (zy_row hn hr (fun _ => br_f (by decide) (nm_e ⟨hv, nm_r (e' := a_values (3 * r + c)) (by rw [nI_clamp (by omega)]) ⟨zx_n16, zy_bc (by omega) (br_f nb (br_f eo ⟨hv, br_t pd0' (br_f (by decide) (br_f n20 (br_f (by decide) ⟨hv, nm_r (e' := upd a_patched (3 * r + c) 1) (by rw [nI_clamp (by omega)]; rfl) (nm_r (nI_1 pc) ⟨hv, nm_r (e' := upd a_values (3 * r + c) v3) (by rw [nI_clamp (by omega)]) ⟨rfl, rel⟩⟩)⟩)))⟩))⟩⟩)) (fun y => absurd hg y)))
end
end
section
/-! what is owed: one statement a case -/
theorem i_vc_append {k : Nat} {u : SX} {v : SY} (I : i_Rel k u v) (hk : k + 4 ≤ 2048) (v1 : Int32) (v2 : Int32) (v3 : Int32) : wpX_append (fun r u' => wpY_append (fun r' v' => r' = r ∧ i_Rel (k + 4) u' v') v v1 v2 v3) u v1 v2 v3 :=
  zr_el (P := fun u v => wpX_append (fun r u' => wpY_append (fun r' v' => r' = r ∧ i_Rel (k + 4) u' v') v v1 v2 v3) u v1 v2 v3) (fun h => zz_append h v1 v2 v3) I
theorem i_vc_change {k : Nat} {u : SX} {v : SY} (I : i_Rel k u v) (hk : k + 4 ≤ 2048) (v1 : Int32) (v2 : Int32) (v3 : Int32) : wpX_change (fun r u' => wpY_change (fun r' v' => r' = r ∧ i_Rel (k + 4) u' v') v v1 v2 v3) u v1 v2 v3 :=
  zr_el (P := fun u v => wpX_change (fun r u' => wpY_change (fun r' v' => r' = r ∧ i_Rel (k + 4) u' v') v v1 v2 v3) u v1 v2 v3) (fun h => zz_change h v1 v2 v3) I
theorem i_vc_delete {k : Nat} {u : SX} {v : SY} (I : i_Rel k u v) (hk : k + 4 ≤ 2048) (v1 : Int32) : wpX_delete (fun r u' => wpY_delete (fun r' v' => r' = r ∧ i_Rel (k + 4) u' v') v v1) u v1 :=
  zr_el (P := fun u v => wpX_delete (fun r u' => wpY_delete (fun r' v' => r' = r ∧ i_Rel (k + 4) u' v') v v1) u v1) (fun h => zz_delete h v1) I
theorem i_vc_compact {k : Nat} {u : SX} {v : SY} (I : i_Rel k u v) (hk : k + 4 ≤ 2048) : wpX_compact (fun r u' => wpY_compact (fun r' v' => r' = r ∧ i_Rel (k + 4) u' v') v) u :=
  zr_el (P := fun u v => wpX_compact (fun r u' => wpY_compact (fun r' v' => r' = r ∧ i_Rel (k + 4) u' v') v) u) (fun h => zz_compact h) I
theorem i_vc_rows {k : Nat} {u : SX} {v : SY} (I : i_Rel k u v) (hk : k + 4 ≤ 2048) : wpX_rows (fun r => wpY_rows (fun r' => r' = r ∧ i_Rel (k + 4) u v) v) u :=
  zr_el (P := fun u v => wpX_rows (fun r => wpY_rows (fun r' => r' = r ∧ i_Rel (k + 4) u v) v) u) (fun h => zz_rows h) I
theorem i_vc_value {k : Nat} {u : SX} {v : SY} (I : i_Rel k u v) (hk : k + 4 ≤ 2048) (v1 : Int32) (v2 : Int32) : wpX_value (fun r u' => wpY_value (fun r' => r' = r ∧ i_Rel (k + 4) u' v) v v1 v2) u v1 v2 :=
  zr_el (P := fun u v => wpX_value (fun r u' => wpY_value (fun r' => r' = r ∧ i_Rel (k + 4) u' v) v v1 v2) u v1 v2) (fun h => zz_value h v1 v2) I
theorem i_vc_blocks {k : Nat} {u : SX} {v : SY} (I : i_Rel k u v) (hk : k + 4 ≤ 2048) : wpX_blocks (fun r => wpY_blocks (fun r' => r' = r ∧ i_Rel (k + 4) u v) v) u :=
  zr_el (P := fun u v => wpX_blocks (fun r => wpY_blocks (fun r' => r' = r ∧ i_Rel (k + 4) u v) v) u) (fun h => zz_blocks h) I
theorem i_vc_form {k : Nat} {u : SX} {v : SY} (I : i_Rel k u v) (hk : k + 4 ≤ 2048) (v1 : Int32) (v2 : Int32) : wpX_form (fun r => wpY_form (fun r' => r' = r ∧ i_Rel (k + 4) u v) v v1 v2) u v1 v2 :=
  zr_el (P := fun u v => wpX_form (fun r => wpY_form (fun r' => r' = r ∧ i_Rel (k + 4) u v) v v1 v2) u v1 v2) (fun h => zz_form h v1 v2) I
theorem i_vc_digits {k : Nat} {u : SX} {v : SY} (I : i_Rel k u v) (hk : k + 4 ≤ 2048) (v1 : Int32) : wpX_digits (fun r => wpY_digits (fun r' => r' = r ∧ i_Rel (k + 4) u v) v v1) u v1 :=
  zr_el (P := fun u v => wpX_digits (fun r => wpY_digits (fun r' => r' = r ∧ i_Rel (k + 4) u v) v v1) u v1) (fun h => zz_digits h v1) I
theorem i_vc_patches {k : Nat} {u : SX} {v : SY} (I : i_Rel k u v) (hk : k + 4 ≤ 2048) : wpX_patches (fun r => wpY_patches (fun r' => r' = r ∧ i_Rel (k + 4) u v) v) u :=
  zr_el (P := fun u v => wpX_patches (fun r => wpY_patches (fun r' => r' = r ∧ i_Rel (k + 4) u v) v) u) (fun h => zz_patches h) I
theorem i_vc_condition {k : Nat} {u : SX} {v : SY} (I : i_Rel k u v) (hk : k + 4 ≤ 2048) (v1 : Int32) (v2 : Int32) (v3 : Int32) : wpX_condition (fun r u' => wpY_condition (fun r' v' => r' = r ∧ i_Rel (k + 4) u' v') v v1 v2 v3) u v1 v2 v3 :=
  zr_el (P := fun u v => wpX_condition (fun r u' => wpY_condition (fun r' v' => r' = r ∧ i_Rel (k + 4) u' v') v v1 v2 v3) u v1 v2 v3) (fun h => zz_condition h v1 v2 v3) I
theorem i_vc_free {k : Nat} {u : SX} {v : SY} (I : i_Rel k u v) (hk : k + 4 ≤ 2048) : wpX_free (fun r u' => wpY_free (fun r' v' => r' = r ∧ i_Rel (k + 4) u' v') v) u :=
  zr_el (P := fun u v => wpX_free (fun r u' => wpY_free (fun r' v' => r' = r ∧ i_Rel (k + 4) u' v') v) u) (fun h => zz_free h) I
theorem i_vc_passed {k : Nat} {u : SX} {v : SY} (I : i_Rel k u v) (hk : k + 4 ≤ 2048) : wpX_passed (fun r u' => wpY_passed (fun r' => r' = r ∧ i_Rel (k + 4) u' v) v) u :=
  zr_el (P := fun u v => wpX_passed (fun r u' => wpY_passed (fun r' => r' = r ∧ i_Rel (k + 4) u' v) v) u) (fun h => zz_passed h) I
theorem i_vc_count {k : Nat} {u : SX} {v : SY} (I : i_Rel k u v) (hk : k + 4 ≤ 2048) : wpX_count (fun r u' => wpY_count (fun r' => r' = r ∧ i_Rel (k + 4) u' v) v) u :=
  zr_el (P := fun u v => wpX_count (fun r u' => wpY_count (fun r' => r' = r ∧ i_Rel (k + 4) u' v) v) u) (fun h => zz_count h) I
theorem i_vc_chosen {k : Nat} {u : SX} {v : SY} (I : i_Rel k u v) (hk : k + 4 ≤ 2048) (v1 : Int32) : wpX_chosen (fun r u' => wpY_chosen (fun r' => r' = r ∧ i_Rel (k + 4) u' v) v v1) u v1 :=
  zr_el (P := fun u v => wpX_chosen (fun r u' => wpY_chosen (fun r' => r' = r ∧ i_Rel (k + 4) u' v) v v1) u v1) (fun h => zz_chosen h v1) I
theorem i_vc_sum {k : Nat} {u : SX} {v : SY} (I : i_Rel k u v) (hk : k + 4 ≤ 2048) (v1 : Int32) : wpX_sum (fun r u' => wpY_sum (fun r' => r' = r ∧ i_Rel (k + 4) u' v) v v1) u v1 :=
  zr_el (P := fun u v => wpX_sum (fun r u' => wpY_sum (fun r' => r' = r ∧ i_Rel (k + 4) u' v) v v1) u v1) (fun h => zz_sum h v1) I
theorem i_vc_least {k : Nat} {u : SX} {v : SY} (I : i_Rel k u v) (hk : k + 4 ≤ 2048) (v1 : Int32) : wpX_least (fun r u' => wpY_least (fun r' => r' = r ∧ i_Rel (k + 4) u' v) v v1) u v1 :=
  zr_el (P := fun u v => wpX_least (fun r u' => wpY_least (fun r' => r' = r ∧ i_Rel (k + 4) u' v) v v1) u v1) (fun h => zz_least h v1) I
theorem i_vc_ranked {k : Nat} {u : SX} {v : SY} (I : i_Rel k u v) (hk : k + 4 ≤ 2048) (v1 : Int32) (v2 : Int32) : wpX_ranked (fun r u' => wpY_ranked (fun r' => r' = r ∧ i_Rel (k + 4) u' v) v v1 v2) u v1 v2 :=
  zr_el (P := fun u v => wpX_ranked (fun r u' => wpY_ranked (fun r' => r' = r ∧ i_Rel (k + 4) u' v) v v1 v2) u v1 v2) (fun h => zz_ranked h v1 v2) I
theorem i_vc_different {k : Nat} {u : SX} {v : SY} (I : i_Rel k u v) (hk : k + 4 ≤ 2048) (v1 : Int32) : wpX_different (fun r u' => wpY_different (fun r' => r' = r ∧ i_Rel (k + 4) u' v) v v1) u v1 :=
  zr_el (P := fun u v => wpX_different (fun r u' => wpY_different (fun r' => r' = r ∧ i_Rel (k + 4) u' v) v v1) u v1) (fun h => zz_different h v1) I
theorem i_vc_commonest {k : Nat} {u : SX} {v : SY} (I : i_Rel k u v) (hk : k + 4 ≤ 2048) (v1 : Int32) : wpX_commonest (fun r u' => wpY_commonest (fun r' => r' = r ∧ i_Rel (k + 4) u' v) v v1) u v1 :=
  zr_el (P := fun u v => wpX_commonest (fun r u' => wpY_commonest (fun r' => r' = r ∧ i_Rel (k + 4) u' v) v v1) u v1) (fun h => zz_commonest h v1) I
end
