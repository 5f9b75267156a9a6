section
/-! rows of the kit to paste (starting text): pk_ rows of PURE-ROWS, and BITS -/
theorem pk_us {f : Nat → Int32} {k : Nat} {x : Int32} : upd f k x k = x := if_pos rfl
theorem pk_un {f : Nat → Int32} {k j : Nat} {x : Int32} (h : j ≠ k) : upd f k x j = f j := if_neg h
theorem pk_uLs {f : Nat → Int64} {k : Nat} {x : Int64} : vp_updL f k x k = x := if_pos rfl
theorem pk_uLn {f : Nat → Int64} {k j : Nat} {x : Int64} (h : j ≠ k) : vp_updL f k x j = f j := if_neg h
theorem pk_sub {a b : Nat} (h : b ≤ a) : nI a - nI b = nI (a - b) := by
  obtain ⟨c, rfl⟩ : ∃ c, a = c + b := ⟨a - b, by omega⟩
  rw [← nI_add, Int32.add_sub_cancel, Nat.add_sub_cancel]
theorem pk_m1 (n : Nat) : nI (n + 1) + (-1) = nI n := by
  rw [← nI_1, Int32.add_assoc, show (1 : Int32) + (-1) = 0 from rfl, Int32.add_zero]
theorem pk_mul (a b : Nat) : nI a * nI b = nI (a * b) := (Int32.ofNat_mul a b).symm
theorem pk_div {a d : Nat} (ha : a < 2 ^ 31) (h0 : 0 < d) (hd : d < 2 ^ 31) : nI a / nI d = nI (a / d) := by
  apply Int32.toInt_inj.mp
  rw [lg_idiv_nonneg (by rw [nI_toInt ha]; omega) (by rw [nI_toInt hd]; omega), nI_toInt ha, nI_toInt hd, nI_toInt (Nat.lt_of_le_of_lt (Nat.div_le_self a d) ha)]
  first | rfl | exact (Int.natCast_ediv _ _).symm
theorem pk_rem {a d : Nat} (ha : a < 2 ^ 31) (h0 : 0 < d) (hd : d < 2 ^ 31) : nI a - nI a / nI d * nI d = nI (a % d) := by
  rw [pk_div ha h0 hd, pk_mul, pk_sub (Nat.div_mul_le_self a d)]
  exact congrArg nI (by have := Nat.div_add_mod' a d; omega)
theorem pk_sub_toInt {a b : Nat} (ha : a < 2 ^ 30) (hb : b < 2 ^ 30) : (nI a - nI b).toInt = (a : Int) - b := by
  rw [Int32.toInt_sub, nI_toInt (by omega), nI_toInt (by omega)]
  exact Int.bmod_eq_of_le (by omega) (by omega)
theorem pk_sneg {a b : Nat} (hb : b < 2 ^ 30) (h : a < b) : nI a - nI b < 0 := by
  rw [Int32.lt_iff_toInt_lt, pk_sub_toInt (by omega) hb, show (0 : Int32).toInt = 0 from by decide]
  omega
theorem pk_ix (x : Int32) {n : Nat} (hn : n < 2 ^ 31) : x < 0 ∨ nI n ≤ x ∨ ∃ j : Nat, j < n ∧ x = nI j := by
  by_cases h : x < 0
  · exact Or.inl h
  · obtain ⟨j, hj, rfl⟩ := nI_of h
    by_cases h2 : j < n
    · exact Or.inr (Or.inr ⟨j, h2, rfl⟩)
    · exact Or.inr (Or.inl (nI_le (by omega) hj))
theorem pk_le {x y : Int32} {A B : Prop} (a b : Nat) (f : a ≤ b → A) (g : b < a → B) (hx : x = nI a := by rfl) (hy : y = nI b := by rfl) (ha : a < 2 ^ 31 := by omega) (hb : b < 2 ^ 31 := by omega) : (x ≤ y → A) ∧ (¬ x ≤ y → B) := by
  subst hx hy
  rw [nI_leI ha hb]
  exact ⟨f, fun z => g (by omega)⟩
theorem pk_lt {x y : Int32} {A B : Prop} (a b : Nat) (f : a < b → A) (g : b ≤ a → B) (hx : x = nI a := by rfl) (hy : y = nI b := by rfl) (ha : a < 2 ^ 31 := by omega) (hb : b < 2 ^ 31 := by omega) : (x < y → A) ∧ (¬ x < y → B) := by
  subst hx hy
  rw [nI_ltI ha hb]
  exact ⟨f, fun z => g (by omega)⟩
theorem pk_eq {x y : Int32} {A B : Prop} (a b : Nat) (f : a = b → A) (g : a ≠ b → B) (hx : x = nI a := by rfl) (hy : y = nI b := by rfl) (ha : a < 2 ^ 31 := by omega) (hb : b < 2 ^ 31 := by omega) : (x = y → A) ∧ (¬ x = y → B) := by
  subst hx hy
  rw [nI_eq ha hb]
  exact ⟨f, g⟩
theorem pk_in {x : Int32} (n N : Nat) (h : n < N) (hx : x = nI n := by rfl) (hN : N < 2 ^ 31 := by omega) : vp_in x N := by
  subst hx
  exact vp_in_nI h hN
theorem pk_cl {x : Int32} (n : Nat) (hx : x = nI n := by rfl) (h : n < 2 ^ 31 := by omega) : x.toNatClampNeg = n := by
  subst hx
  exact nI_clamp h
theorem pk_tn {n : Nat} (h : n < 2 ^ 32) : (nI n).toBitVec.toNat = n := Nat.mod_eq_of_lt h
theorem pk_and (x : Int32) {m : Int32} (k : Nat) (hm : m.toBitVec.toNat = 2 ^ k - 1) : x &&& m = nI (x.toBitVec.toNat % 2 ^ k) := by
  apply Int32.toBitVec_inj.mp
  apply BitVec.eq_of_toNat_eq
  rw [Int32.toBitVec_and, BitVec.toNat_and, hm, Nat.and_two_pow_sub_one_eq_mod]
  show _ = (BitVec.ofNat 32 _).toNat
  rw [BitVec.toNat_ofNat]
  exact (Nat.mod_eq_of_lt (Nat.lt_of_le_of_lt (Nat.mod_le _ _) x.toBitVec.isLt)).symm
theorem pk_andN {n : Nat} (h : n < 2 ^ 32) {m : Int32} (k : Nat) (hm : m.toBitVec.toNat = 2 ^ k - 1) : nI n &&& m = nI (n % 2 ^ k) := by
  rw [pk_and _ k hm, pk_tn h]
theorem pk_andE (x : Int32) {m : Int32} (k : Nat) (hm : m.toBitVec.toNat = 2 ^ k - 1) : ∃ j : Nat, j < 2 ^ k ∧ x &&& m = nI j := ⟨_, Nat.mod_lt _ (Nat.two_pow_pos k), pk_and x k hm⟩
theorem pk_andIn (x : Int32) {m : Int32} (k : Nat) (hm : m.toBitVec.toNat = 2 ^ k - 1) (hk : k ≤ 30) : vp_in (x &&& m) (2 ^ k) := by
  obtain ⟨j, hj, e⟩ := pk_andE x k hm
  rw [e]
  exact vp_in_nI hj (Nat.lt_of_le_of_lt (Nat.pow_le_pow_right (by decide) hk) (by decide))
theorem pk_shl (a s : Int32) (k : Nat) (hs : (s.toBitVec.smod 32).toNat = k) : (a <<< s).toBitVec.toNat = a.toBitVec.toNat * 2 ^ k % 2 ^ 32 := by
  show (a.toBitVec <<< (s.toBitVec.smod 32).toNat).toNat = _
  rw [hs, BitVec.toNat_shiftLeft, Nat.shiftLeft_eq]
theorem pk_shlN {n : Nat} (s : Int32) (k : Nat) (hs : (s.toBitVec.smod 32).toNat = k) (h : n * 2 ^ k < 2 ^ 32) : nI n <<< s = nI (n * 2 ^ k) := by
  apply Int32.toBitVec_inj.mp
  apply BitVec.eq_of_toNat_eq
  have hn : n < 2 ^ 32 := Nat.lt_of_le_of_lt (Nat.le_mul_of_pos_right n (Nat.two_pow_pos k)) h
  rw [pk_shl _ _ k hs, pk_tn hn, pk_tn h, Nat.mod_eq_of_lt h]
theorem pk_shr (a s : Int32) (k : Nat) (hs : (s.toBitVec.smod 32).toNat = k) : (a >>> s).toInt = a.toInt >>> k := by
  show (a.toBitVec.sshiftRight (s.toBitVec.smod 32).toNat).toInt = _
  rw [hs, BitVec.toInt_sshiftRight]
  rfl
theorem pk_shrN {n : Nat} (h : n < 2 ^ 31) (s : Int32) (k : Nat) (hs : (s.toBitVec.smod 32).toNat = k) : nI n >>> s = nI (n / 2 ^ k) := by
  apply Int32.toInt_inj.mp
  have h2 : n / 2 ^ k ≤ n := Nat.div_le_self _ _
  rw [pk_shr _ _ k hs, nI_toInt h, nI_toInt (by omega), Int.shiftRight_eq_div_pow]
  rfl
theorem pk_ushr (x s : Int32) (k : Nat) (hs : ((s.toUInt32 &&& Int32.toUInt32 31).toBitVec % 32).toNat = k) : (x.toUInt32 >>> (s.toUInt32 &&& Int32.toUInt32 31)).toInt32.toBitVec.toNat = x.toBitVec.toNat / 2 ^ k := by
  have e : (x.toUInt32 >>> (s.toUInt32 &&& Int32.toUInt32 31)).toInt32.toBitVec = x.toBitVec >>> k := by
    rw [← hs]
    exact UInt32.toBitVec_shiftRight _ _
  rw [e, BitVec.toNat_ushiftRight, Nat.shiftRight_eq_div_pow]
theorem pk_ushrN {n : Nat} (hn : n < 2 ^ 32) (s : Int32) (k : Nat) (hs : ((s.toUInt32 &&& Int32.toUInt32 31).toBitVec % 32).toNat = k) : ((nI n).toUInt32 >>> (s.toUInt32 &&& Int32.toUInt32 31)).toInt32 = nI (n / 2 ^ k) := by
  apply Int32.toBitVec_inj.mp
  apply BitVec.eq_of_toNat_eq
  rw [pk_ushr _ s k hs, pk_tn hn, pk_tn (Nat.lt_of_le_of_lt (Nat.div_le_self _ _) hn)]
theorem pk_nb (z : Int32) : narrow .byte (.int z.toInt8.toInt32) = .int z.toInt8.toInt32 := congrArg Value.int (by simp)
theorem pk_ns (z : Int32) : narrow .short (.int z.toInt16.toInt32) = .int z.toInt16.toInt32 := congrArg Value.int (by simp)
theorem pk_fb (r : Int32) : fits .byte (.int r.toInt8.toInt32) = true := by
  have ⟨a, b⟩ := lg_i2b_range r
  have h1 : (-128 : Int32).toInt = -128 := by decide
  have h2 : (127 : Int32).toInt = 127 := by decide
  simp only [fits, Bool.and_eq_true, decide_eq_true_eq, Int32.le_iff_toInt_le, h1, h2]
  omega
theorem pk_fs (r : Int32) : fits .short (.int r.toInt16.toInt32) = true := by
  have ⟨a, b⟩ := lg_i2s_range r
  have h1 : (-32768 : Int32).toInt = -32768 := by decide
  have h2 : (32767 : Int32).toInt = 32767 := by decide
  simp only [fits, Bool.and_eq_true, decide_eq_true_eq, Int32.le_iff_toInt_le, h1, h2]
  omega
theorem pk_charN {q : Nat} (hq : q < 65536) : narrow .char (.int (nI q)) = .int (nI q) ∧ fits .char (.int (nI q)) = true := by
  constructor
  · have e : (nI q).toUInt32.toUInt16.toUInt32.toInt32 = nI q := by
      apply Int32.toBitVec_inj.mp
      apply BitVec.eq_of_toNat_eq
      show (nI q).toUInt32.toUInt16.toUInt32.toNat = q % 2 ^ 32
      rw [UInt16.toNat_toUInt32, UInt32.toNat_toUInt16, show (nI q).toUInt32.toNat = q % 2 ^ 32 from rfl]
      omega
    exact congrArg Value.int e
  · have a : (0 : Int32) ≤ nI q := nI_pos' (by omega)
    have b : nI q ≤ 65535 := nI_le (b := 65535) (by omega) (by decide)
    show (decide ((0 : Int32) ≤ nI q) && decide (nI q ≤ 65535)) = true
    rw [decide_eq_true a, decide_eq_true b]
    rfl
theorem pk_char (x : Int32) : (x.toUInt32 % 65536).toInt32 = nI (x.toBitVec.toNat % 65536) := by
  apply Int32.toBitVec_inj.mp
  apply BitVec.eq_of_toNat_eq
  rw [pk_tn (by omega)]
  show (x.toUInt32 % 65536).toNat = _
  rw [UInt32.toNat_mod]
  rfl
theorem pk_nc (x : Int32) : narrow .char (.int (x.toUInt32 % 65536).toInt32) = .int (x.toUInt32 % 65536).toInt32 := by
  rw [pk_char]
  exact (pk_charN (Nat.mod_lt _ (by decide))).1
theorem pk_fc (x : Int32) : fits .char (.int (x.toUInt32 % 65536).toInt32) = true := by
  rw [pk_char]
  exact (pk_charN (Nat.mod_lt _ (by decide))).2
theorem pk_vb (z : Int32) : vp_nar .byte z.toInt8.toInt32 = z.toInt8.toInt32 := by rw [vp_nar_byte]; simp
theorem pk_vs (z : Int32) : vp_nar .short z.toInt16.toInt32 = z.toInt16.toInt32 := by rw [vp_nar_short]; simp
theorem pk_vc (z : Int32) : vp_nar .char (z.toUInt32 % 65536).toInt32 = (z.toUInt32 % 65536).toInt32 := Value.int.inj (pk_nc z)
theorem pk_lT {n : Nat} (h : n < 2 ^ 63) : (lN n).toInt = (n : Int) := lg_ofNat_toInt h
theorem pk_lLT {a b : Nat} (ha : a < 2 ^ 63) (hb : b < 2 ^ 63) : lN a < lN b ↔ a < b := by
  rw [Int64.lt_iff_toInt_lt, pk_lT ha, pk_lT hb]; omega
theorem pk_lLE {a b : Nat} (ha : a < 2 ^ 63) (hb : b < 2 ^ 63) : lN a ≤ lN b ↔ a ≤ b := by
  rw [Int64.le_iff_toInt_le, pk_lT ha, pk_lT hb]; omega
theorem pk_lEQ {a b : Nat} (ha : a < 2 ^ 63) (hb : b < 2 ^ 63) : lN a = lN b ↔ a = b := by
  rw [← Int64.toInt_inj, pk_lT ha, pk_lT hb]; omega
theorem pk_lOf {x : Int64} (h : ¬ x < 0) : ∃ k : Nat, k < 2 ^ 63 ∧ x = lN k := by
  rw [Int64.lt_iff_toInt_lt] at h
  have h0 : (0 : Int64).toInt = 0 := by decide
  have hx := Int64.toInt_lt x
  refine ⟨x.toInt.toNat, by omega, Int64.toInt_inj.mp ?_⟩
  rw [pk_lT (by omega)]
  omega
theorem pk_lDiv {a b : Nat} (ha : a < 2 ^ 63) (h0 : 0 < b) (hb : b < 2 ^ 63) : lN a / lN b = lN (a / b) := by
  apply Int64.toInt_inj.mp
  rw [lg_ldiv_nonneg (by rw [pk_lT ha]; omega) (by rw [pk_lT hb]; omega), pk_lT ha, pk_lT hb, pk_lT (Nat.lt_of_le_of_lt (Nat.div_le_self a b) ha)]
  rfl
theorem pk_lRem {a b : Nat} (ha : a < 2 ^ 63) (h0 : 0 < b) (hb : b < 2 ^ 63) : lN a - lN a / lN b * lN b = lN (a % b) := by
  rw [pk_lDiv ha h0 hb, lN_mul, lN_sub (Nat.div_mul_le_self a b)]
  exact congrArg lN (by have := Nat.div_add_mod' a b; omega)
theorem pk_loop {σ : Type} (W : Nat → Nat → σ → Prop) (I : Nat → σ → Prop) (e i0 : Nat) (s : σ) (hi : i0 ≤ e) (h0 : I i0 s) (hx : ∀ n s, I e s → W (n + 1) e s)
    (hs : ∀ n i s, i < e → I i s → (∀ s', I (i + 1) s' → W n (i + 1) s') → W (n + 1) i s) : ∃ n, W n i0 s :=
  ⟨e + 1, loop_i W I e hx hs (e + 1) i0 s hi (by omega) h0⟩
theorem pk_loopD {σ : Type} (W : Nat → Nat → σ → Prop) (I : Nat → σ → Prop) (hx : ∀ n s, I 0 s → W (n + 1) 0 s)
    (hs : ∀ n i s, I (i + 1) s → (∀ s', I i s' → W n i s') → W (n + 1) (i + 1) s) : ∀ (e : Nat) (s : σ), I e s → W (e + 1) e s := by
  intro e
  induction e with
  | zero => exact fun s h => hx 0 s h
  | succ e ih => exact fun s h => hs (e + 1) e s h (fun s' h' => ih s' h')
theorem pk_least (P : Nat → Prop) (h : ∃ k, P k) : ∃ k, P k ∧ ∀ j, j < k → ¬ P j := by
  obtain ⟨k, hk⟩ := h
  induction k using Nat.strongRecOn with
  | ind k ih =>
    by_cases e : ∃ j, j < k ∧ P j
    · obtain ⟨j, hj, pj⟩ := e
      exact ih j hj pj
    · exact ⟨k, hk, fun j hj pj => e ⟨j, hj, pj⟩⟩
theorem pk_mu {x : Int32} {L : Nat} (h0 : ¬ x < 0) (h : ¬ nI L ≤ x) (hL : L < 2 ^ 31) : ∃ j : Nat, j < L ∧ x = nI j ∧ x + 1 = nI (j + 1) ∧ x.toNatClampNeg = j ∧ L - (x + 1).toNatClampNeg < L - x.toNatClampNeg := by
  obtain ⟨j, hj, rfl⟩ := nI_of h0
  have hl : j < L := Nat.not_le.mp fun q => h (nI_le q hj)
  refine ⟨j, hl, rfl, nI_1 j, nI_clamp hj, ?_⟩
  rw [nI_1, nI_clamp (by omega), nI_clamp hj]
  omega
/-! rows on bits, shifts and unsigned numbers, to paste: each family out of a closed proof of our own, whole with what it rests on; each by itself clean at Lean in its own claim (generation 39, form 5). Take a family whole -/
/-! ===== Int32 by its bits: bt x i ===== -/
def bt (x : Int32) (i : Nat) : Bool := x.toBitVec.getLsbD i
theorem b_ext {x y : Int32} (h : ∀ i, i < 32 → bt x i = bt y i) : x = y := Int32.toBitVec_inj.mp (BitVec.eq_of_getLsbD_eq (fun i hi => h i hi))
theorem b_or (x y : Int32) (i : Nat) : bt (x ||| y) i = (bt x i || bt y i) := by unfold bt; rw [Int32.toBitVec_or, BitVec.getLsbD_or]
theorem b_and (x y : Int32) (i : Nat) : bt (x &&& y) i = (bt x i && bt y i) := by unfold bt; rw [Int32.toBitVec_and, BitVec.getLsbD_and]
theorem b_xor (x y : Int32) (i : Nat) : bt (x ^^^ y) i = (bt x i ^^ bt y i) := by unfold bt; rw [Int32.toBitVec_xor, BitVec.getLsbD_xor]
theorem b_big {x : Int32} {i : Nat} (h : 32 ≤ i) : bt x i = false := BitVec.getLsbD_of_ge _ _ h
theorem b_255 (i : Nat) : bt 255 i = decide (i < 8) := by
  rcases Nat.lt_or_ge i 32 with h | h
  · exact (by decide +kernel : ∀ i, i < 32 → bt 255 i = decide (i < 8)) i h
  · rw [b_big h, decide_eq_false (by omega)]
theorem b_65535 (i : Nat) : bt 65535 i = decide (i < 16) := by
  rcases Nat.lt_or_ge i 32 with h | h
  · exact (by decide +kernel : ∀ i, i < 32 → bt 65535 i = decide (i < 16)) i h
  · rw [b_big h, decide_eq_false (by omega)]
theorem b_m1 : ∀ i, i < 32 → bt (-1) i = true := by decide +kernel
theorem b_0 (i : Nat) : bt 0 i = false := BitVec.getLsbD_zero
theorem s_l : ∀ n, n < 32 → ((nI n &&& 31).toBitVec.smod 32).toNat = n := by decide +kernel
theorem s_u : ∀ n, n < 32 → (((nI n).toUInt32 &&& Int32.toUInt32 31).toBitVec % 32).toNat = n := by decide +kernel
theorem b_shl (n : Nat) (hn : n < 32) (x : Int32) {i : Nat} (hi : i < 32) : bt (x <<< (nI n &&& 31)) i = (decide (n ≤ i) && bt x (i - n)) := by
  unfold bt
  rw [Int32.toBitVec_shiftLeft]
  show (x.toBitVec <<< ((nI n &&& 31).toBitVec.smod 32).toNat).getLsbD i = _
  rw [s_l n hn, BitVec.getLsbD_shiftLeft]
  rcases Nat.lt_or_ge i n with h | h
  · simp [h, Nat.not_le.mpr h]
  · simp [hi, h, Nat.not_lt.mpr h]
theorem b_ushr (n : Nat) (hn : n < 32) (x : Int32) (i : Nat) : bt ((x.toUInt32 >>> ((nI n).toUInt32 &&& Int32.toUInt32 31)).toInt32) i = bt x (n + i) := by
  show (x.toUInt32 >>> ((nI n).toUInt32 &&& Int32.toUInt32 31)).toBitVec.getLsbD i = x.toUInt32.toBitVec.getLsbD (n + i)
  rw [UInt32.toBitVec_shiftRight]
  show (x.toUInt32.toBitVec >>> (((nI n).toUInt32 &&& Int32.toUInt32 31).toBitVec % 32).toNat).getLsbD i = _
  rw [s_u n hn, BitVec.getLsbD_ushiftRight]
theorem b_sshr (n : Nat) (hn : n < 32) (x : Int32) {i : Nat} (hi : i < 32) : bt (x >>> (nI n &&& 31)) i = if n + i < 32 then bt x (n + i) else bt x 31 := by
  unfold bt
  rw [Int32.toBitVec_shiftRight]
  show (x.toBitVec.sshiftRight ((nI n &&& 31).toBitVec.smod 32).toNat).getLsbD i = _
  rw [s_l n hn, BitVec.getLsbD_sshiftRight, BitVec.msb_eq_getLsbD_last]
  simp [hi]
theorem b_shl8 (x : Int32) {i : Nat} (hi : i < 32) : bt (x <<< ((8 : Int32) &&& 31)) i = (decide (8 ≤ i) && bt x (i - 8)) := b_shl 8 (by omega) x hi
theorem b_shl16 (x : Int32) {i : Nat} (hi : i < 32) : bt (x <<< ((16 : Int32) &&& 31)) i = (decide (16 ≤ i) && bt x (i - 16)) := b_shl 16 (by omega) x hi
theorem b_shl24 (x : Int32) {i : Nat} (hi : i < 32) : bt (x <<< ((24 : Int32) &&& 31)) i = (decide (24 ≤ i) && bt x (i - 24)) := b_shl 24 (by omega) x hi
theorem b_sshr8 (x : Int32) {i : Nat} (hi : i < 32) : bt (x >>> ((8 : Int32) &&& 31)) i = if 8 + i < 32 then bt x (8 + i) else bt x 31 := b_sshr 8 (by omega) x hi
/-! ===== nI under and, xor, >>>, one bit, 65535 ===== -/
theorem nx_and (a b : Nat) : nI a &&& nI b = nI (a &&& b) := by
  apply Int32.toBitVec_inj.1
  show BitVec.ofNat 32 a &&& BitVec.ofNat 32 b = BitVec.ofNat 32 (a &&& b)
  apply BitVec.eq_of_getLsbD_eq
  intro i hi
  simp [hi]
theorem nx_xor (a b : Nat) : nI a ^^^ nI b = nI (a ^^^ b) := by
  apply Int32.toBitVec_inj.1
  show BitVec.ofNat 32 a ^^^ BitVec.ofNat 32 b = BitVec.ofNat 32 (a ^^^ b)
  apply BitVec.eq_of_getLsbD_eq
  intro i hi
  simp [hi]
theorem nx_cnt : ∀ j : Fin 32, (UInt32.ofNat j.val &&& Int32.toUInt32 31).toNat % 32 = j.val := by decide +kernel
theorem nx_ush {k j : Nat} (hk : k < 65536) (hj : j < 32) : ((nI k).toUInt32 >>> ((nI j).toUInt32 &&& Int32.toUInt32 31)).toInt32 = nI (k >>> j) := by
  have hs : k >>> j ≤ k := by
    rw [Nat.shiftRight_eq_div_pow]
    exact Nat.div_le_self _ _
  have e2 : UInt32.ofNat k >>> (UInt32.ofNat j &&& Int32.toUInt32 31) = UInt32.ofNat (k >>> j) := by
    apply UInt32.toNat_inj.1
    have h1 : (UInt32.ofNat k).toNat = k := Nat.mod_eq_of_lt (by omega)
    have h2 : (UInt32.ofNat (k >>> j)).toNat = k >>> j := Nat.mod_eq_of_lt (by omega)
    rw [UInt32.toNat_shiftRight, nx_cnt ⟨j, hj⟩, h1, h2]
  show (UInt32.ofNat k >>> (UInt32.ofNat j &&& Int32.toUInt32 31)).toInt32 = _
  rw [e2]
  rfl
theorem nx_bit {k j : Nat} (hk : k < 65536) (hj : j < 16) : (((nI k).toUInt32 >>> ((nI j).toUInt32 &&& Int32.toUInt32 31)).toInt32 &&& 1) = 0 ↔ k.testBit j = false := by
  rw [nx_ush hk (by omega)]
  show nI (k >>> j) &&& nI 1 = 0 ↔ _
  rw [nx_and, Nat.and_one_is_mod, ← nI_0, nI_eq (by omega) (by omega), Nat.testBit_eq_decide_div_mod_eq, Nat.shiftRight_eq_div_pow, decide_eq_false_iff_not]
  generalize k / 2 ^ j = z
  omega
theorem nx_mod (k : Nat) : nI k &&& 65535 = nI (k % 65536) := by
  show nI k &&& nI 65535 = _
  rw [nx_and, show (65535 : Nat) = 2 ^ 16 - 1 from rfl, Nat.and_two_pow_sub_one_eq_mod]
theorem nx_m16 {k : Nat} (h : k < 65536) : nI k &&& 65535 = nI k := by rw [nx_mod, Nat.mod_eq_of_lt h]
theorem nx_mask (x : Int32) : ∃ k, k < 65536 ∧ x &&& 65535 = nI k := by
  have e : x = nI x.toBitVec.toNat := by
    apply Int32.toBitVec_inj.1
    show x.toBitVec = BitVec.ofNat 32 x.toBitVec.toNat
    simp
  refine ⟨x.toBitVec.toNat % 65536, Nat.mod_lt _ (by omega), ?_⟩
  rw [← nx_mod, ← e]
/-! ===== Int32 as a set of bits: test, set ===== -/
def nf_M (m : Int32) : Nat := 4294967296 - m.toBitVec.toNat
theorem nf_sh : ∀ l, l < 32 → ((1 : Int32) <<< (nI l &&& 31)).toBitVec = BitVec.twoPow 32 l := by decide +kernel
theorem nf_sl : ∀ l, l < 32 → (((nI l).toUInt32 &&& Int32.toUInt32 31).toBitVec % 32).toNat = l := by decide +kernel
theorem nf_tp : ∀ l, l < 32 → BitVec.twoPow 32 l ≠ 0#32 := by decide +kernel
theorem nf_bit (m : Int32) (l : Nat) (hl : l < 32) : ((m.toUInt32 >>> ((nI l).toUInt32 &&& Int32.toUInt32 31)).toInt32 &&& 1) = 0 ↔ (m &&& ((1 : Int32) <<< (nI l &&& 31))) = 0 := by
  have e : ((m.toUInt32 >>> ((nI l).toUInt32 &&& Int32.toUInt32 31)).toInt32).toBitVec = m.toBitVec >>> l := by
    show m.toBitVec >>> (((nI l).toUInt32 &&& Int32.toUInt32 31).toBitVec % 32) = m.toBitVec >>> l
    rw [BitVec.ushiftRight_eq', nf_sl l hl]
  rw [← Int32.toBitVec_inj, ← Int32.toBitVec_inj, Int32.toBitVec_and, Int32.toBitVec_and, nf_sh l hl, e, BitVec.and_twoPow]
  show (m.toBitVec >>> l &&& 1#32) = 0#32 ↔ _ = 0#32
  rw [BitVec.and_one_eq_setWidth_ofBool_getLsbD, BitVec.getLsbD_ushiftRight, Nat.add_zero]
  cases hb : m.toBitVec.getLsbD l
  · exact ⟨fun _ => by simp, fun _ => by decide⟩
  · exact ⟨fun z => absurd z (by decide), fun z => absurd ((if_pos rfl).symm.trans z) (nf_tp l hl)⟩
theorem nf_gr (m k : Int32) (h : m &&& k = 0) (hk : k ≠ 0) : nf_M (m ||| k) < nf_M m := by
  have hm := m.toBitVec.isLt
  have hm' := (m ||| k).toBitVec.isLt
  have h1 : m.toBitVec.toNat ≤ (m ||| k).toBitVec.toNat := by
    rw [Int32.toBitVec_or, BitVec.toNat_or]
    exact Nat.left_le_or
  have h2 : m.toBitVec.toNat ≠ (m ||| k).toBitVec.toNat := by
    intro e
    have e2 : m = m ||| k := Int32.toBitVec_inj.mp (BitVec.eq_of_toNat_eq e)
    apply hk
    apply Int32.toBitVec_inj.mp
    show k.toBitVec = 0#32
    apply BitVec.eq_of_getLsbD_eq
    intro i hi
    have a : m.toBitVec.getLsbD i = (m.toBitVec.getLsbD i || k.toBitVec.getLsbD i) := by rw [← BitVec.getLsbD_or, ← Int32.toBitVec_or, ← e2]
    have b : (m.toBitVec.getLsbD i && k.toBitVec.getLsbD i) = false := by
      rw [← BitVec.getLsbD_and, ← Int32.toBitVec_and, h]
      exact BitVec.getLsbD_zero
    rw [BitVec.getLsbD_zero]
    revert a b
    cases m.toBitVec.getLsbD i <;> cases k.toBitVec.getLsbD i <;> simp
  unfold nf_M
  omega
/-! ===== a byte read unsigned ===== -/
theorem bp_b (x : Int32) : x.toInt8.toInt32 &&& 255 = x &&& 255 := by
  apply Int32.toBitVec_inj.mp
  rw [Int32.toBitVec_and, Int32.toBitVec_and, Int8.toBitVec_toInt32, Int32.toBitVec_toInt8]
  apply BitVec.eq_of_getLsbD_eq
  intro i hi
  rw [BitVec.getLsbD_and, BitVec.getLsbD_and]
  have hm : ∀ i < 32, 8 ≤ i → (255 : Int32).toBitVec.getLsbD i = false := by decide
  rcases Nat.lt_or_ge i 8 with z | z
  · rw [BitVec.getLsbD_signExtend, BitVec.getLsbD_signExtend, if_pos z, if_pos hi]
    simp only [z, hi, decide_true, Bool.true_and]
  · rw [hm i hi z]; simp
/-! ===== the char cast and 65535 ===== -/
theorem em_w (v : Int32) : ∃ w : Nat, w < 65536 ∧ (v.toUInt32 % 65536).toInt32 = nI w ∧ v &&& 65535 = nI w := by
  have hr := lw_u16_r v
  have h0 : (0 : Int32).toInt = 0 := by decide
  obtain ⟨w, h1, h2⟩ := nI_of (x := lw_u16 v) (by rw [Int32.lt_iff_toInt_lt]; omega)
  have h3 : (v.toUInt32 % 65536).toInt32 = nI w := h2
  rw [h2, nI_toInt h1] at hr
  exact ⟨w, by omega, h3, by rw [← lg_i2c_mask, ← lg_i2c_nf, h3]⟩
/-! ===== Int64 as a set of bits: test, set, clear ===== -/
theorem ts_nf {x : Bool} (h : ¬ x = false) : x = true := by cases x <;> first | rfl | exact absurd rfl h
theorem ts_nt {x : Bool} (h : ¬ x = true) : x = false := by cases x <;> first | rfl | exact absurd rfl h
theorem ts_bit {w : Int64} {s : UInt64} {j : Nat} (hj : j < 64) (hs : s.toNat = j) : ((w.toUInt64 >>> s).toInt64 &&& 1) = 0 ↔ w.toBitVec.getLsbD j = false := by
  have e : (w.toUInt64 >>> s).toInt64.toBitVec = w.toBitVec >>> j := by
    apply BitVec.eq_of_toNat_eq
    show (w.toUInt64 >>> s).toNat = _
    rw [UInt64.toNat_shiftRight, hs, Nat.mod_eq_of_lt hj, BitVec.toNat_ushiftRight]
    rfl
  rw [← Int64.toBitVec_inj, Int64.toBitVec_and, e]
  show w.toBitVec >>> j &&& 1#64 = 0#64 ↔ _
  constructor
  · intro h
    have t := congrArg (fun x => x.getLsbD 0) h
    simpa using t
  · intro h
    apply BitVec.eq_of_getLsbD_eq
    intro i hi
    cases i with
    | zero => simp [h]
    | succ i => simp
theorem ts_or {w m : Int64} {j : Nat} (hj : j < 64) (hm : m.toBitVec = BitVec.twoPow 64 j) : (w ||| m) = w ↔ w.toBitVec.getLsbD j = true := by
  rw [← Int64.toBitVec_inj, Int64.toBitVec_or, hm]
  constructor
  · intro h
    have t := congrArg (fun x => x.getLsbD j) h
    simp only [BitVec.getLsbD_or, BitVec.getLsbD_twoPow] at t
    simpa [hj] using t.symm
  · intro h
    apply BitVec.eq_of_getLsbD_eq
    intro i hi
    rw [BitVec.getLsbD_or, BitVec.getLsbD_twoPow]
    by_cases e : j = i
    · subst e; rw [h, Bool.true_or]
    · simp [e]
theorem ts_and {w m : Int64} {j : Nat} (hj : j < 64) (hm : m.toBitVec = BitVec.twoPow 64 j) : (w &&& (m ^^^ (-1))) = w ↔ w.toBitVec.getLsbD j = false := by
  have ha : (-1 : Int64).toBitVec = BitVec.allOnes 64 := by decide
  rw [← Int64.toBitVec_inj, Int64.toBitVec_and, Int64.toBitVec_xor, hm, ha]
  constructor
  · intro h
    have t := congrArg (fun x => x.getLsbD j) h
    simp only [BitVec.getLsbD_and, BitVec.getLsbD_xor, BitVec.getLsbD_twoPow, BitVec.getLsbD_allOnes] at t
    simpa [hj] using t.symm
  · intro h
    apply BitVec.eq_of_getLsbD_eq
    intro i hi
    rw [BitVec.getLsbD_and, BitVec.getLsbD_xor, BitVec.getLsbD_twoPow, BitVec.getLsbD_allOnes]
    by_cases e : j = i
    · subst e; rw [h, Bool.false_and]
    · simp [e, hi]
/-! ===== lN n to 2^64: shifts, and, or, masks, one bit ===== -/
theorem wb_tb (n : Nat) : (lN n).toBitVec = BitVec.ofNat 64 n := rfl
theorem wb_inj {a b : Int64} (h : a.toBitVec = b.toBitVec) : a = b := Int64.toBitVec_inj.mp h
theorem wb_tn {n : Nat} (h : n < 2 ^ 64) : (lN n).toBitVec.toNat = n := by rw [wb_tb, BitVec.toNat_ofNat, Nat.mod_eq_of_lt h]
theorem wb_of (x : Int64) : ∃ n, n < 2 ^ 64 ∧ x = lN n := ⟨x.toBitVec.toNat, x.toBitVec.isLt, wb_inj (by rw [wb_tb]; simp)⟩
theorem wb_of32 (x : Int32) : ∃ n, n < 2 ^ 32 ∧ x = nI n := ⟨x.toBitVec.toNat, x.toBitVec.isLt, Int32.toBitVec_inj.mp (by show _ = BitVec.ofNat 32 _; simp)⟩
theorem wb_c : ∀ k, k < 64 → ((nI k).toInt64 &&& 63) = lN k := by decide +kernel
theorem wb_cu : ∀ k, k < 64 → ((nI k).toInt64.toUInt64 &&& Int64.toUInt64 63) = UInt64.ofNat k := by decide +kernel
theorem wb_sm : ∀ k, k < 64 → (BitVec.ofNat 64 k).smod 64 = BitVec.ofNat 64 k := by decide +kernel
theorem wb_pw {a b : Nat} (h : a ≤ b) : 2 ^ b = 2 ^ a * 2 ^ (b - a) := by rw [← Nat.pow_add]; congr 1; omega
theorem wb_lt2 {a b : Nat} (h : a < b) : 2 ^ a < 2 ^ b := Nat.pow_lt_pow_right (by decide) h
theorem wb_mod (n : Nat) : lN n = lN (n % 2 ^ 64) := wb_inj (by rw [wb_tb, wb_tb]; apply BitVec.eq_of_toNat_eq; rw [BitVec.toNat_ofNat, BitVec.toNat_ofNat, Nat.mod_mod])
theorem wb_shr {n k : Nat} (hn : n < 2 ^ 64) (hk : k < 64) : ((lN n).toUInt64 >>> ((nI k).toInt64.toUInt64 &&& Int64.toUInt64 63)).toInt64 = lN (n / 2 ^ k) := by
  rw [wb_cu k hk]
  apply wb_inj
  apply BitVec.eq_of_toNat_eq
  show ((lN n).toUInt64 >>> UInt64.ofNat k).toNat = (BitVec.ofNat 64 _).toNat
  have h1 : (UInt64.ofNat k).toNat = k := by
    show (BitVec.ofNat 64 k).toNat = k
    rw [BitVec.toNat_ofNat, Nat.mod_eq_of_lt (by omega)]
  have h2 : (lN n).toUInt64.toNat = n := wb_tn hn
  rw [UInt64.toNat_shiftRight, h1, h2, Nat.mod_eq_of_lt hk, Nat.shiftRight_eq_div_pow, BitVec.toNat_ofNat, Nat.mod_eq_of_lt (Nat.lt_of_le_of_lt (Nat.div_le_self _ _) hn)]
theorem wb_shl (n : Nat) {k : Nat} (hk : k < 64) : lN n <<< ((nI k).toInt64 &&& 63) = lN (n * 2 ^ k) := by
  rw [wb_c k hk]
  apply wb_inj
  rw [Int64.toBitVec_shiftLeft, wb_tb, wb_tb, wb_tb, wb_sm k hk]
  apply BitVec.eq_of_toNat_eq
  rw [BitVec.shiftLeft_eq', BitVec.toNat_shiftLeft, BitVec.toNat_ofNat, BitVec.toNat_ofNat, BitVec.toNat_ofNat, Nat.mod_eq_of_lt (show k < 2 ^ 64 by omega), Nat.shiftLeft_eq, Nat.mul_mod, Nat.mod_mod, ← Nat.mul_mod]
theorem wb_and {a b : Nat} (ha : a < 2 ^ 64) (hb : b < 2 ^ 64) : lN a &&& lN b = lN (a &&& b) := by
  apply wb_inj
  rw [Int64.toBitVec_and, wb_tb, wb_tb, wb_tb]
  apply BitVec.eq_of_toNat_eq
  rw [BitVec.toNat_and, BitVec.toNat_ofNat, BitVec.toNat_ofNat, BitVec.toNat_ofNat, Nat.mod_eq_of_lt ha, Nat.mod_eq_of_lt hb, Nat.mod_eq_of_lt (Nat.and_lt_two_pow _ hb)]
theorem wb_or {a b : Nat} (ha : a < 2 ^ 64) (hb : b < 2 ^ 64) : lN a ||| lN b = lN (a ||| b) := by
  apply wb_inj
  rw [Int64.toBitVec_or, wb_tb, wb_tb, wb_tb]
  apply BitVec.eq_of_toNat_eq
  rw [BitVec.toNat_or, BitVec.toNat_ofNat, BitVec.toNat_ofNat, BitVec.toNat_ofNat, Nat.mod_eq_of_lt ha, Nat.mod_eq_of_lt hb, Nat.mod_eq_of_lt (Nat.or_lt_two_pow ha hb)]
theorem wb_mask {n k : Nat} (hn : n < 2 ^ 64) (hk : k < 64) : lN n &&& lN (2 ^ k - 1) = lN (n % 2 ^ k) := by
  rw [wb_and hn (by have := wb_lt2 hk; omega), Nat.and_two_pow_sub_one_eq_mod]
theorem wb_a1 {n : Nat} (hn : n < 2 ^ 64) : lN n &&& 1 = lN (n % 2) := wb_mask (k := 1) hn (by decide)
theorem wb_bit {n k : Nat} (hn : n < 2 ^ 64) (hk : k < 64) : ((lN n).toUInt64 >>> ((nI k).toInt64.toUInt64 &&& Int64.toUInt64 63)).toInt64 &&& 1 = lN (n / 2 ^ k % 2) := by
  rw [wb_shr hn hk, wb_a1 (Nat.lt_of_le_of_lt (Nat.div_le_self _ _) hn)]
theorem wb_xor {q k : Nat} (hk : k < 63) (h : 2 ^ k ≤ q) (h2 : q < 2 ^ (k + 1)) : lN q ^^^ lN (2 ^ k) = lN (q - 2 ^ k) := by
  obtain ⟨r, rfl⟩ : ∃ r, q = 2 ^ k + r := ⟨q - 2 ^ k, by omega⟩
  have hr : r < 2 ^ k := by rw [Nat.pow_succ] at h2; omega
  have hx : (2 ^ k + r) ^^^ 2 ^ k = r := by
    apply Nat.eq_of_testBit_eq
    intro i
    rw [Nat.testBit_xor, Nat.testBit_two_pow]
    rcases Nat.lt_trichotomy i k with h | h | h
    · rw [Nat.testBit_two_pow_add_gt h]
      simp [show ¬ k = i by omega]
    · subst h
      rw [Nat.testBit_two_pow_add_eq]
      simp
    · have a1 : 2 ^ (k + 1) ≤ 2 ^ i := Nat.pow_le_pow_right (by decide) h
      rw [Nat.testBit_lt_two_pow (show 2 ^ k + r < 2 ^ i by omega), Nat.testBit_lt_two_pow (show r < 2 ^ i by omega)]
      simp [show ¬ k = i by omega]
  have b1 := wb_lt2 (show k + 1 < 64 by omega)
  have b2 := wb_lt2 (show k < 64 by omega)
  apply wb_inj
  rw [Int64.toBitVec_xor, wb_tb, wb_tb, wb_tb]
  apply BitVec.eq_of_toNat_eq
  rw [BitVec.toNat_xor, BitVec.toNat_ofNat, BitVec.toNat_ofNat, BitVec.toNat_ofNat, Nat.mod_eq_of_lt (by omega : 2 ^ k + r < 2 ^ 64), Nat.mod_eq_of_lt b2, hx, Nat.add_sub_cancel_left, Nat.mod_eq_of_lt (by omega)]
/-! ===== lN: masks, 'or' of parts that don't overlap is a sum ===== -/
theorem u_tn {n : Nat} (h : n < 2 ^ 64) : (UInt64.ofNat n).toNat = n := Nat.mod_eq_of_lt h
theorem g_and {a b c : Nat} (ha : a < 2 ^ 64) (hb : b < 2 ^ 64) (hc : a &&& b = c) : lN a &&& lN b = lN c := by
  subst hc
  have h : UInt64.ofNat a &&& UInt64.ofNat b = UInt64.ofNat (a &&& b) := UInt64.toNat_inj.mp (by rw [UInt64.toNat_and, u_tn ha, u_tn hb, u_tn (Nat.and_lt_two_pow a hb)])
  have h2 := congrArg UInt64.toInt64 h
  exact h2
theorem g_and1 {a : Nat} (ha : a < 2 ^ 64) : lN a &&& 1 = lN (a % 2) := g_and (b := 1) ha (by decide) (Nat.and_two_pow_sub_one_eq_mod a 1)
theorem g_mask {a s p : Nat} (hp : 2 ^ s = p) (hs : s < 64) (ha : a < 2 ^ 64) : lN a &&& lN (p - 1) = lN (a % p) := by
  subst hp
  have := Nat.pow_lt_pow_right (show 1 < 2 by decide) hs
  exact g_and ha (by omega) (Nat.and_two_pow_sub_one_eq_mod a s)
theorem g_or {k p a b : Nat} (hp : 2 ^ k = p) (ha : a < p) (h : b * p + a < 2 ^ 64) : lN (b * p) ||| lN a = lN (b * p + a) := by
  subst hp
  have h1 : b * 2 ^ k ||| a = b * 2 ^ k + a := by rw [← Nat.shiftLeft_eq, Nat.shiftLeft_add_eq_or_of_lt ha]
  have h3 : UInt64.ofNat (b * 2 ^ k) ||| UInt64.ofNat a = UInt64.ofNat (b * 2 ^ k + a) := UInt64.toNat_inj.mp (by rw [UInt64.toNat_or, u_tn (by omega), u_tn (by omega), u_tn h, h1])
  have h2 := congrArg UInt64.toInt64 h3
  exact h2
theorem g_or' {k p a b : Nat} (hp : 2 ^ k = p) (ha : a < p) (h : a + b * p < 2 ^ 64) : lN a ||| lN (b * p) = lN (a + b * p) := by
  rw [Int64.or_comm, g_or hp ha (by omega), Nat.add_comm]
theorem g_ushr {a k p : Nat} {y : UInt64} (hy : y = UInt64.ofNat k) (hk : k < 64) (hp : 2 ^ k = p) (ha : a < 2 ^ 64) : ((lN a).toUInt64 >>> y).toInt64 = lN (a / p) := by
  subst hy hp
  have h : UInt64.ofNat a >>> UInt64.ofNat k = UInt64.ofNat (a / 2 ^ k) := UInt64.toNat_inj.mp (by rw [UInt64.toNat_shiftRight, u_tn ha, u_tn (by omega), u_tn (Nat.lt_of_le_of_lt (Nat.div_le_self _ _) ha), Nat.mod_eq_of_lt hk, Nat.shiftRight_eq_div_pow])
  have h2 := congrArg UInt64.toInt64 h
  exact h2
theorem g_shl {a k p : Nat} {y : Int64} (hy : y.toBitVec.smod 64 = BitVec.ofNat 64 k) (hk : k < 64) (hp : 2 ^ k = p) (ha : a < 2 ^ 64) : lN a <<< y = lN (a * p) := by
  subst hp
  apply Int64.toBitVec_inj.mp
  rw [Int64.toBitVec_shiftLeft, hy]
  apply BitVec.eq_of_toNat_eq
  have hb : (lN a).toBitVec.toNat = a := Nat.mod_eq_of_lt ha
  have hk' : (BitVec.ofNat 64 k).toNat = k := Nat.mod_eq_of_lt (by omega)
  have h : ((lN a).toBitVec <<< BitVec.ofNat 64 k).toNat = (a * 2 ^ k) % 2 ^ 64 := by simp only [BitVec.shiftLeft_eq', BitVec.toNat_shiftLeft, hb, hk', Nat.shiftLeft_eq]
  exact h
/-! ===== lN to 2^62 under >> and >>> ===== -/
theorem pf_lI {a : Nat} (h : a < 2 ^ 63) : (lN a).toInt = (a : Int) := lg_ofNat_toInt h
theorem pf_shr {a d : Nat} {D : Int64} (hD : (D.toBitVec.smod 64).toNat = d) (h : a < 2 ^ 62) : lN a >>> D = lN (a / 2 ^ d) := by
  have hd : a / 2 ^ d ≤ a := Nat.div_le_self _ _
  apply Int64.toInt_inj.mp
  have e : (lN a >>> D).toInt = (lN a).toInt >>> d := by
    rw [← hD]
    exact BitVec.toInt_sshiftRight ..
  rw [e, Int.shiftRight_eq_div_pow, pf_lI (by omega), pf_lI (by omega)]
  rfl
theorem pf_ushr {a d : Nat} {D : UInt64} (hD : D.toNat % 64 = d) (h : a < 2 ^ 62) : ((lN a).toUInt64 >>> D).toInt64 = lN (a / 2 ^ d) := by
  have hd : a / 2 ^ d ≤ a := Nat.div_le_self _ _
  have e : (lN a).toUInt64 >>> D = UInt64.ofNat (a / 2 ^ d) := UInt64.toNat_inj.mp (by
    rw [UInt64.toNat_shiftRight, hD, Nat.shiftRight_eq_div_pow, UInt64.toNat_ofNat']
    show (UInt64.ofNat a).toNat / 2 ^ d = _
    rw [UInt64.toNat_ofNat', Nat.mod_eq_of_lt (by omega), Nat.mod_eq_of_lt (by omega)])
  rw [e]
  rfl
theorem pf_andw (x : Int64) : ∃ m, m < 2 ^ 32 ∧ x &&& 4294967295 = lN m := ⟨x.toBitVec.toNat % 2 ^ 32, Nat.mod_lt _ (by decide), Int64.toBitVec_inj.mp (BitVec.eq_of_toNat_eq (by
  show (x.toBitVec &&& 4294967295#64).toNat = (BitVec.ofNat 64 (x.toBitVec.toNat % 2 ^ 32)).toNat
  rw [BitVec.toNat_and, show (4294967295#64).toNat = 2 ^ 32 - 1 from by decide, Nat.and_two_pow_sub_one_eq_mod, BitVec.toNat_ofNat]
  omega))⟩
/-! ===== Int64 as an unsigned number: uN x ===== -/
def uN (x : Int64) : Nat := x.toUInt64.toNat
theorem uN_lt (x : Int64) : uN x < 18446744073709551616 := x.toUInt64.toNat_lt
theorem uN_inj {x y : Int64} (h : uN x = uN y) : x = y := congrArg UInt64.toInt64 (UInt64.toNat_inj.mp h)
theorem uN_add (x y : Int64) : uN (x + y) = (uN x + uN y) % 18446744073709551616 := by
  show (x.toUInt64 + y.toUInt64).toNat = _
  exact UInt64.toNat_add _ _
theorem uN_mul (x y : Int64) : uN (x * y) = (uN x * uN y) % 18446744073709551616 := by
  show (x.toUInt64 * y.toUInt64).toNat = _
  exact UInt64.toNat_mul _ _
theorem uN_shl (x : Int64) : uN (x <<< ((1 : Int32).toInt64 &&& 63)) = (2 * uN x) % 18446744073709551616 := by
  have h : (((1 : Int32).toInt64 &&& 63).toBitVec.smod 64).toNat = 1 := by decide
  show (x.toBitVec <<< (((1 : Int32).toInt64 &&& 63).toBitVec.smod 64).toNat).toNat = _
  rw [h, BitVec.toNat_shiftLeft, Nat.shiftLeft_eq, Nat.mul_comm]
  rfl
theorem uN_shr (x : Int64) (s : UInt64) : uN (x.toUInt64 >>> s).toInt64 = uN x / 2 ^ (s.toNat % 64) := by
  show (x.toUInt64 >>> s).toNat = _
  rw [UInt64.toNat_shiftRight, Nat.shiftRight_eq_div_pow]
  rfl
theorem uN_s32 (x : Int64) : uN (x.toUInt64 >>> ((32 : Int32).toInt64.toUInt64 &&& Int64.toUInt64 63)).toInt64 = uN x / 4294967296 := by
  have h : ((32 : Int32).toInt64.toUInt64 &&& Int64.toUInt64 63).toNat % 64 = 32 := by decide
  rw [uN_shr, h]
theorem uN_s63 (x : Int64) : uN (x.toUInt64 >>> ((63 : Int32).toInt64.toUInt64 &&& Int64.toUInt64 63)).toInt64 = uN x / 9223372036854775808 := by
  have h : ((63 : Int32).toInt64.toUInt64 &&& Int64.toUInt64 63).toNat % 64 = 63 := by decide
  rw [uN_shr, h]
theorem uN_lo (x : Int64) : uN (x &&& 4294967295) = uN x % 4294967296 := by
  show (x.toUInt64 &&& Int64.toUInt64 4294967295).toNat = _
  rw [UInt64.toNat_and]
  exact Nat.and_two_pow_sub_one_eq_mod _ 32
theorem uN_bit (x : Int64) : (x &&& 1) = 0 ↔ uN x % 2 = 0 := by
  have h : uN (x &&& 1) = uN x % 2 := by
    show (x.toUInt64 &&& Int64.toUInt64 1).toNat = _
    rw [UInt64.toNat_and]
    exact Nat.and_two_pow_sub_one_eq_mod _ 1
  rw [← h]
  exact ⟨fun z => by rw [z]; rfl, fun z => uN_inj (z.trans rfl)⟩
theorem uN_or {x y : Int64} (hy : uN y < 2) : uN ((x <<< ((1 : Int32).toInt64 &&& 63)) ||| y) = (2 * uN x) % 18446744073709551616 + uN y := by
  have h1 : uN ((x <<< ((1 : Int32).toInt64 &&& 63)) ||| y) = uN (x <<< ((1 : Int32).toInt64 &&& 63)) ||| uN y := UInt64.toNat_or _ _
  have h2 : (2 * uN x) % 18446744073709551616 = 2 ^ 1 * (uN x % 9223372036854775808) := by omega
  rw [h1, uN_shl, h2]
  exact (Nat.two_pow_add_eq_or_of_lt (i := 1) hy _).symm
theorem nat_xor {a : Nat} (h : a < 18446744073709551616) : a ^^^ 2 ^ 63 = (a + 9223372036854775808) % 18446744073709551616 := by
  have h1 : (a ^^^ 2 ^ 63) % 2 ^ 63 = a % 2 ^ 63 := by rw [Nat.xor_mod_two_pow, Nat.mod_self, Nat.xor_zero]
  have h2 : (a ^^^ 2 ^ 63) / 2 ^ 63 = (a / 2 ^ 63) ^^^ 1 := by rw [Nat.xor_div_two_pow, Nat.div_self (Nat.two_pow_pos 63)]
  have h3 : a / 2 ^ 63 = 0 ∨ a / 2 ^ 63 = 1 := by omega
  generalize a ^^^ 2 ^ 63 = t at h1 h2
  rcases h3 with h3 | h3
  · rw [h3] at h2
    have h2 : t / 2 ^ 63 = 1 := h2
    omega
  · rw [h3] at h2
    have h2 : t / 2 ^ 63 = 0 := h2
    omega
theorem uN_xor (x : Int64) : uN (x ^^^ (-9223372036854775808)) = (uN x + 9223372036854775808) % 18446744073709551616 := by
  rw [← nat_xor (uN_lt x)]
  exact UInt64.toNat_xor _ _
theorem uN_int (x : Int64) : x.toInt = if 2 * uN x < 18446744073709551616 then (uN x : Int) else (uN x : Int) - 18446744073709551616 := BitVec.toInt_eq_toNat_cond _
theorem uN_le (x y : Int64) : (x ^^^ (-9223372036854775808)) ≤ (y ^^^ (-9223372036854775808)) ↔ uN x ≤ uN y := by
  have hx := uN_lt x
  have hy := uN_lt y
  rw [Int64.le_iff_toInt_le, uN_int, uN_int, uN_xor, uN_xor]
  omega
theorem uN_sk (x : Int64) {k : Nat} (hk : k < 64) : uN (x.toUInt64 >>> ((nI k).toInt64.toUInt64 &&& Int64.toUInt64 63)).toInt64 = uN x / 2 ^ k := by
  have h : ((nI k).toInt64.toUInt64 &&& Int64.toUInt64 63).toNat % 64 = k := by
    rw [nI_l (by omega), UInt64.toNat_and]
    have e : (lN k).toUInt64.toNat = k % 2 ^ 64 := rfl
    have e2 : (Int64.toUInt64 63).toNat = 2 ^ 6 - 1 := by decide
    rw [e, e2, Nat.and_two_pow_sub_one_eq_mod]
    omega
  rw [uN_shr, h]
/-! ===== unsigned comparison by xor with the least ===== -/
theorem lN_bv (n : Nat) : (lN n).toBitVec = BitVec.ofNat 64 n := rfl
theorem lN_nat {n : Nat} (h : n < 2 ^ 64) : (lN n).toBitVec.toNat = n := by rw [lN_bv, BitVec.toNat_ofNat]; exact Nat.mod_eq_of_lt h
theorem lN_xor (a b : Nat) : lN a ^^^ lN b = lN (a ^^^ b) := by
  apply Int64.toBitVec_inj.mp; rw [Int64.toBitVec_xor, lN_bv, lN_bv, lN_bv]; apply BitVec.eq_of_getLsbD_eq; intro i hi; simp [BitVec.getLsbD_ofNat, Nat.testBit_xor, hi]
theorem lN_ti {m : Nat} (h : m < 2 ^ 64) : (lN m).toInt = if m < 2 ^ 63 then (m : Int) else (m : Int) - 2 ^ 64 := by
  have c := BitVec.toInt_eq_toNat_cond (lN m).toBitVec
  rw [lN_nat h] at c
  show (lN m).toBitVec.toInt = _
  rw [c]
  split <;> split <;> omega
theorem xor63 {x : Nat} (h : x < 2 ^ 63) : x ^^^ 2 ^ 63 = 2 ^ 63 + x := by
  apply Nat.eq_of_testBit_eq
  intro i
  rw [Nat.testBit_xor, Nat.testBit_two_pow]
  rcases Nat.lt_trichotomy i 63 with z | z | z
  · rw [Nat.testBit_two_pow_add_gt z, decide_eq_false (by omega)]; simp
  · subst z; rw [Nat.testBit_two_pow_add_eq]; simp
  · have hp : 2 ^ 64 ≤ 2 ^ i := Nat.pow_le_pow_right (by decide) z
    rw [Nat.testBit_lt_two_pow (show x < 2 ^ i by omega), Nat.testBit_lt_two_pow (show 2 ^ 63 + x < 2 ^ i by omega), decide_eq_false (by omega)]; rfl
theorem xorS {a : Nat} (h : a < 2 ^ 64) : (lN a ^^^ (-9223372036854775808)).toInt = (a : Int) - 2 ^ 63 := by
  rw [show (-9223372036854775808 : Int64) = lN (2 ^ 63) from by decide +kernel, lN_xor]
  rcases Nat.lt_or_ge a (2 ^ 63) with z | z
  · rw [xor63 z, lN_ti (by omega), if_neg (by omega)]; omega
  · obtain ⟨x, rfl⟩ : ∃ x, a = 2 ^ 63 + x := ⟨a - 2 ^ 63, by omega⟩
    rw [← xor63 (by omega), Nat.xor_assoc, Nat.xor_self, Nat.xor_zero, lN_ti (by omega), if_pos (by omega), xor63 (by omega)]; omega
theorem ultL {a b : Nat} (ha : a < 2 ^ 64) (hb : b < 2 ^ 64) : ((lN b ^^^ (-9223372036854775808)) ≤ (lN a ^^^ (-9223372036854775808))) ↔ b ≤ a := by
  rw [Int64.le_iff_toInt_le, xorS ha, xorS hb]; omega
/-! ===== Int64 masks of n low bits ===== -/
theorem cr_bits (W U M : BitVec 64) : ((W &&& U) &&& (U &&& (M ^^^ BitVec.allOnes 64))) = 0#64 ↔ (W &&& U) &&& M = W &&& U := by
  constructor
  · intro h
    apply BitVec.eq_of_getLsbD_eq
    intro i hi
    have e := congrArg (fun x => BitVec.getLsbD x i) h
    simp only [BitVec.getLsbD_and, BitVec.getLsbD_xor, BitVec.getLsbD_allOnes, BitVec.getLsbD_zero, hi, decide_true] at e ⊢
    revert e
    cases W.getLsbD i <;> cases U.getLsbD i <;> cases M.getLsbD i <;> decide
  · intro h
    apply BitVec.eq_of_getLsbD_eq
    intro i hi
    have e := congrArg (fun x => BitVec.getLsbD x i) h
    simp only [BitVec.getLsbD_and, BitVec.getLsbD_xor, BitVec.getLsbD_allOnes, BitVec.getLsbD_zero, hi, decide_true] at e ⊢
    revert e
    cases W.getLsbD i <;> cases U.getLsbD i <;> cases M.getLsbD i <;> decide
theorem cr_mask (w U m : Int64) (n : Nat) (hm : m.toBitVec.toNat = 2 ^ n - 1) : ((w &&& U) &&& (U &&& (m ^^^ (-1)))) = 0 ↔ (w &&& U).toBitVec.toNat < 2 ^ n := by
  have e0 : (-1 : Int64).toBitVec = BitVec.allOnes 64 := by decide
  have z0 : (0 : Int64).toBitVec = 0#64 := by decide
  rw [← Int64.toBitVec_inj, z0, Int64.toBitVec_and, Int64.toBitVec_and, Int64.toBitVec_and, Int64.toBitVec_xor, e0, cr_bits]
  generalize w.toBitVec &&& U.toBitVec = T
  rw [← BitVec.toNat_inj, BitVec.toNat_and, hm, Nat.and_two_pow_sub_one_eq_mod]
  constructor
  · intro h
    have t := Nat.mod_lt T.toNat (Nat.two_pow_pos n)
    rw [h] at t
    exact t
  · exact Nat.mod_eq_of_lt
theorem cr_shr (t : Int64) (x : UInt64) (n : Nat) (hx : x.toNat % 64 = n) : (t.toUInt64 >>> x).toInt64 = 0 ↔ t.toBitVec.toNat < 2 ^ n := by
  rw [← Int64.toBitVec_inj, ← BitVec.toNat_inj]
  show (t.toUInt64 >>> x).toNat = 0 ↔ t.toUInt64.toNat < 2 ^ n
  rw [UInt64.toNat_shiftRight, hx, Nat.shiftRight_eq_div_pow]
  constructor
  · intro h
    have d : t.toUInt64.toNat / 2 ^ n < 1 := by
      rw [h]
      decide
    have e := (Nat.div_lt_iff_lt_mul (Nat.two_pow_pos n)).mp d
    rw [Nat.one_mul] at e
    exact e
  · exact Nat.div_eq_of_lt
theorem cr_amt (s : Int64) : ∃ n, n < 64 ∧ s &&& 63 = lN n ∧ (s.toUInt64 &&& Int64.toUInt64 63).toNat % 64 = n := by
  have e : (s.toUInt64 &&& Int64.toUInt64 63).toNat = s.toUInt64.toNat % 2 ^ 6 := by
    rw [UInt64.toNat_and, show (Int64.toUInt64 63).toNat = 2 ^ 6 - 1 from by decide, Nat.and_two_pow_sub_one_eq_mod]
  refine ⟨s.toUInt64.toNat % 2 ^ 6, by omega, ?_, by omega⟩
  rw [← Int64.toBitVec_inj, ← BitVec.toNat_inj]
  show (s.toUInt64 &&& Int64.toUInt64 63).toNat = (BitVec.ofNat 64 (s.toUInt64.toNat % 2 ^ 6)).toNat
  rw [e, BitVec.toNat_ofNat]
  omega
end
section
/-! numbers: nI and lN under and, or, xor, masks and shifts, in the forms that are printed -/
theorem zn_or (a b : Nat) : nI a ||| nI b = nI (a ||| b) := by
  apply Int32.toBitVec_inj.1
  show BitVec.ofNat 32 a ||| BitVec.ofNat 32 b = BitVec.ofNat 32 (a ||| b)
  apply BitVec.eq_of_getLsbD_eq
  intro i hi
  simp [hi]
theorem zl_and (a b : Nat) : lN a &&& lN b = lN (a &&& b) := by
  apply Int64.toBitVec_inj.1
  show BitVec.ofNat 64 a &&& BitVec.ofNat 64 b = BitVec.ofNat 64 (a &&& b)
  apply BitVec.eq_of_getLsbD_eq
  intro i hi
  simp [hi]
theorem zl_or (a b : Nat) : lN a ||| lN b = lN (a ||| b) := by
  apply Int64.toBitVec_inj.1
  show BitVec.ofNat 64 a ||| BitVec.ofNat 64 b = BitVec.ofNat 64 (a ||| b)
  apply BitVec.eq_of_getLsbD_eq
  intro i hi
  simp [hi]
theorem zn_mk (a k : Nat) {m : Int32} (hm : m = nI (2 ^ k - 1)) : nI a &&& m = nI (a % 2 ^ k) := by
  subst hm
  rw [nx_and, Nat.and_two_pow_sub_one_eq_mod]
theorem zl_mk (a k : Nat) {m : Int64} (hm : m = lN (2 ^ k - 1)) : lN a &&& m = lN (a % 2 ^ k) := by
  subst hm
  rw [zl_and, Nat.and_two_pow_sub_one_eq_mod]
theorem zn_m18 (a : Nat) : nI a &&& 262143 = nI (a % 262144) := zn_mk a 18 rfl
theorem zn_m17 (a : Nat) : nI a &&& 131071 = nI (a % 131072) := zn_mk a 17 rfl
theorem zn_m12 (a : Nat) : nI a &&& 4095 = nI (a % 4096) := zn_mk a 12 rfl
theorem zn_m8 (a : Nat) : nI a &&& 255 = nI (a % 256) := zn_mk a 8 rfl
theorem zn_m6 (a : Nat) : nI a &&& 63 = nI (a % 64) := zn_mk a 6 rfl
theorem zn_m4 (a : Nat) : nI a &&& 15 = nI (a % 16) := zn_mk a 4 rfl
theorem zn_m3 (a : Nat) : nI a &&& 7 = nI (a % 8) := zn_mk a 3 rfl
theorem zn_m2 (a : Nat) : nI a &&& 3 = nI (a % 4) := zn_mk a 2 rfl
theorem zn_m1 (a : Nat) : nI a &&& 1 = nI (a % 2) := zn_mk a 1 rfl
theorem zl_m36 (a : Nat) : lN a &&& 68719476735 = lN (a % 68719476736) := zl_mk a 36 rfl
theorem zl_m35 (a : Nat) : lN a &&& 34359738367 = lN (a % 34359738368) := zl_mk a 35 rfl
theorem zl_m30 (a : Nat) : lN a &&& 1073741823 = lN (a % 1073741824) := zl_mk a 30 rfl
theorem zl_m18 (a : Nat) : lN a &&& 262143 = lN (a % 262144) := zl_mk a 18 rfl
theorem zl_m6 (a : Nat) : lN a &&& 63 = lN (a % 64) := zl_mk a 6 rfl
theorem zl_m1 (a : Nat) : lN a &&& 1 = lN (a % 2) := zl_mk a 1 rfl
/-- shifts by a constant -/
theorem zn_shr {a : Nat} (ha : a < 2147483648) (s : Int32) (k : Nat) (hs : (s.toBitVec.smod 32).toNat = k) : nI a >>> s = nI (a / 2 ^ k) := pk_shrN ha s k hs
theorem zn_shr1 {a : Nat} (ha : a < 2147483648) : nI a >>> ((1 : Int32) &&& 31) = nI (a / 2) := zn_shr ha _ 1 (by decide)
theorem zn_shr2 {a : Nat} (ha : a < 2147483648) : nI a >>> ((2 : Int32) &&& 31) = nI (a / 4) := zn_shr ha _ 2 (by decide)
theorem zn_shr3 {a : Nat} (ha : a < 2147483648) : nI a >>> ((3 : Int32) &&& 31) = nI (a / 8) := zn_shr ha _ 3 (by decide)
theorem zn_shr4 {a : Nat} (ha : a < 2147483648) : nI a >>> ((4 : Int32) &&& 31) = nI (a / 16) := zn_shr ha _ 4 (by decide)
theorem zn_shr5 {a : Nat} (ha : a < 2147483648) : nI a >>> ((5 : Int32) &&& 31) = nI (a / 32) := zn_shr ha _ 5 (by decide)
theorem zn_shr6 {a : Nat} (ha : a < 2147483648) : nI a >>> ((6 : Int32) &&& 31) = nI (a / 64) := zn_shr ha _ 6 (by decide)
theorem zn_shr9 {a : Nat} (ha : a < 2147483648) : nI a >>> ((9 : Int32) &&& 31) = nI (a / 512) := zn_shr ha _ 9 (by decide)
theorem zn_shr12 {a : Nat} (ha : a < 2147483648) : nI a >>> ((12 : Int32) &&& 31) = nI (a / 4096) := zn_shr ha _ 12 (by decide)
theorem zn_shr16 {a : Nat} (ha : a < 2147483648) : nI a >>> ((16 : Int32) &&& 31) = nI (a / 65536) := zn_shr ha _ 16 (by decide)
theorem zn_shr17 {a : Nat} (ha : a < 2147483648) : nI a >>> ((17 : Int32) &&& 31) = nI (a / 131072) := zn_shr ha _ 17 (by decide)
theorem zn_shr18 {a : Nat} (ha : a < 2147483648) : nI a >>> ((18 : Int32) &&& 31) = nI (a / 262144) := zn_shr ha _ 18 (by decide)
theorem zn_shl1 {a : Nat} (ha : a * 2 < 4294967296) : nI a <<< ((1 : Int32) &&& 31) = nI (a * 2) := pk_shlN _ 1 (by decide) ha
theorem zn_shl5 {a : Nat} (ha : a * 32 < 4294967296) : nI a <<< ((5 : Int32) &&& 31) = nI (a * 32) := pk_shlN _ 5 (by decide) ha
theorem zn_shl9 {a : Nat} (ha : a * 512 < 4294967296) : nI a <<< ((9 : Int32) &&& 31) = nI (a * 512) := pk_shlN _ 9 (by decide) ha
theorem zn_shl12 {a : Nat} (ha : a * 4096 < 4294967296) : nI a <<< ((12 : Int32) &&& 31) = nI (a * 4096) := pk_shlN _ 12 (by decide) ha
theorem zn_shl14 {a : Nat} (ha : a * 16384 < 4294967296) : nI a <<< ((14 : Int32) &&& 31) = nI (a * 16384) := pk_shlN _ 14 (by decide) ha
theorem zn_shl17 {a : Nat} (ha : a * 131072 < 4294967296) : nI a <<< ((17 : Int32) &&& 31) = nI (a * 131072) := pk_shlN _ 17 (by decide) ha
theorem zl_shl (a k : Nat) {s : Int64} (hk : k < 64) (hs : s = ((nI k).toInt64 &&& 63)) : lN a <<< s = lN (a * 2 ^ k) := by
  subst hs
  exact wb_shl a hk
theorem zl_shl18 (a : Nat) : lN a <<< ((18 : Int32).toInt64 &&& 63) = lN (a * 262144) := wb_shl (k := 18) a (by decide)
theorem zl_shl1 (a : Nat) : lN a <<< ((1 : Int32).toInt64 &&& 63) = lN (a * 2) := wb_shl (k := 1) a (by decide)
theorem zl_shl35 (a : Nat) : lN a <<< ((35 : Int32).toInt64 &&& 63) = lN (a * 34359738368) := wb_shl (k := 35) a (by decide)
theorem zl_shl30 (a : Nat) : lN a <<< ((30 : Int32).toInt64 &&& 63) = lN (a * 1073741824) := wb_shl (k := 30) a (by decide)
theorem zl_shl27 (a : Nat) : lN a <<< ((27 : Int32).toInt64 &&& 63) = lN (a * 134217728) := wb_shl (k := 27) a (by decide)
theorem zl_shl23 (a : Nat) : lN a <<< ((23 : Int32).toInt64 &&& 63) = lN (a * 8388608) := wb_shl (k := 23) a (by decide)
theorem zl_shr {a : Nat} (k : Nat) {s : Int64} (hs : (s.toBitVec.smod 64).toNat = k) (h : a < 4611686018427387904) : lN a >>> s = lN (a / 2 ^ k) := pf_shr hs h
theorem zl_shr18 {a : Nat} (h : a < 4611686018427387904) : lN a >>> ((18 : Int32).toInt64 &&& 63) = lN (a / 262144) := zl_shr 18 (by decide) h
theorem zl_shr17 {a : Nat} (h : a < 4611686018427387904) : lN a >>> ((17 : Int32).toInt64 &&& 63) = lN (a / 131072) := zl_shr 17 (by decide) h
theorem zl_shr22 {a : Nat} (h : a < 4611686018427387904) : lN a >>> ((22 : Int32).toInt64 &&& 63) = lN (a / 4194304) := zl_shr 22 (by decide) h
theorem zl_shr23 {a : Nat} (h : a < 4611686018427387904) : lN a >>> ((23 : Int32).toInt64 &&& 63) = lN (a / 8388608) := zl_shr 23 (by decide) h
theorem zl_shr24 {a : Nat} (h : a < 4611686018427387904) : lN a >>> ((24 : Int32).toInt64 &&& 63) = lN (a / 16777216) := zl_shr 24 (by decide) h
theorem zl_shr27 {a : Nat} (h : a < 4611686018427387904) : lN a >>> ((27 : Int32).toInt64 &&& 63) = lN (a / 134217728) := zl_shr 27 (by decide) h
theorem zl_shr30 {a : Nat} (h : a < 4611686018427387904) : lN a >>> ((30 : Int32).toInt64 &&& 63) = lN (a / 1073741824) := zl_shr 30 (by decide) h
theorem zl_shr34 {a : Nat} (h : a < 4611686018427387904) : lN a >>> ((34 : Int32).toInt64 &&& 63) = lN (a / 17179869184) := zl_shr 34 (by decide) h
theorem zl_shr35 {a : Nat} (h : a < 4611686018427387904) : lN a >>> ((35 : Int32).toInt64 &&& 63) = lN (a / 34359738368) := zl_shr 35 (by decide) h
theorem zl_shr1 {a : Nat} (h : a < 4611686018427387904) : lN a >>> ((1 : Int32).toInt64 &&& 63) = lN (a / 2) := zl_shr 1 (by decide) h
/-- parts that don't overlap -/
theorem zp_orS (k a b : Nat) (h : a < 2 ^ k) : b * 2 ^ k ||| a = b * 2 ^ k + a := by rw [← Nat.shiftLeft_eq, Nat.shiftLeft_add_eq_or_of_lt h]
theorem zp_or18 {a : Nat} (b : Nat) (h : a < 262144) : b * 262144 ||| a = b * 262144 + a := zp_orS 18 a b h
/-- a word of its halves, in longs -/
theorem zl_word {h l : Nat} (hh : h < 2147483648) (hl : l < 262144) : ((nI h).toInt64 <<< ((18 : Int32).toInt64 &&& 63)) ||| (nI l).toInt64 = lN (h * 262144 + l) := by
  rw [nI_l hh, nI_l (by omega), zl_shl18, zl_or, zp_or18 h hl]
theorem zl_wordN (w : Nat) (hw : w < 562949953421312) : ((nI (w / 262144)).toInt64 <<< ((18 : Int32).toInt64 &&& 63)) ||| (nI (w % 262144)).toInt64 = lN w := by
  rw [zl_word (by omega) (by omega)]
  congr 1
  omega
/-- a long cut to 36 bits: its halves -/
def zp_wd (v : Int64) : Nat := uN v % 68719476736
theorem zp_wd_lt (v : Int64) : zp_wd v < 68719476736 := Nat.mod_lt _ (by decide)
theorem zp_wdN {n : Nat} : zp_wd (lN n) = n % 68719476736 := by
  show (n % 2 ^ 64) % 68719476736 = _
  omega
theorem zp_uN (n : Nat) : uN (lN n) = n % 18446744073709551616 := rfl
theorem zl_i32 (v : Int64) : v.toInt32 = nI (uN v) := by
  obtain ⟨n, hn, rfl⟩ := wb_of v
  rw [lN_i, zp_uN, Nat.mod_eq_of_lt hn]
theorem zl_low (v : Int64) : v.toInt32 &&& 262143 = nI (zp_wd v % 262144) := by
  rw [zl_i32, zn_m18]
  unfold zp_wd
  congr 1
  omega
theorem zl_sshr (v : Int64) {s : Int64} {k : Nat} (hs : (s.toBitVec.smod 64).toNat = k) : (v >>> s).toInt = v.toInt >>> k := by
  rw [← hs]
  exact BitVec.toInt_sshiftRight ..
theorem zl_uInt (v : Int64) : (uN v : Int) = v.toInt % 18446744073709551616 := by
  have h := uN_int v
  have h2 := uN_lt v
  rw [h]
  split <;> omega
theorem zl_high (v : Int64) : (v >>> ((18 : Int32).toInt64 &&& 63)).toInt32 &&& 262143 = nI (zp_wd v / 262144) := by
  rw [zl_i32, zn_m18]
  congr 1
  have h1 := zl_uInt (v >>> ((18 : Int32).toInt64 &&& 63))
  have h2 := zl_uInt v
  rw [zl_sshr v (k := 18) (by decide), Int.shiftRight_eq_div_pow] at h1
  unfold zp_wd
  have e : ((2 ^ 18 : Nat) : Int) = 262144 := by decide
  rw [e] at h1
  generalize uN (v >>> ((18 : Int32).toInt64 &&& 63)) = a at *
  generalize uN v = b at *
  generalize v.toInt = c at *
  omega
theorem zl_and36 (v : Int64) : v &&& 68719476735 = lN (zp_wd v) := by
  obtain ⟨n, hn, rfl⟩ := wb_of v
  rw [zl_m36, zp_wdN]
theorem zn_lt0 {n : Nat} (h : n < 2147483648) : ¬ nI n < 0 := nI_pos h
theorem zn_c8 (a : Nat) : (nI a &&& 255).toNatClampNeg = a % 256 := by
  rw [zn_m8]
  exact nI_clamp (by omega)
theorem zn_i8 (a : Nat) : vp_in (nI a &&& 255) 256 := by
  rw [zn_m8]
  exact vp_in_nI (by omega) (by decide)
theorem zp_not (n : Nat) {h : Nat} (hh : h < 2 ^ n) : h ^^^ (2 ^ n - 1) = 2 ^ n - 1 - h := by
  apply Nat.eq_of_testBit_eq
  intro i
  rw [Nat.testBit_xor, Nat.testBit_two_pow_sub_one, show 2 ^ n - 1 - h = 2 ^ n - (h + 1) by omega, Nat.testBit_two_pow_sub_succ hh]
  by_cases z : i < n
  · simp [z]
  · have h2 : h < 2 ^ i := Nat.lt_of_lt_of_le hh (Nat.pow_le_pow_right (by decide) (by omega))
    simp [z, Nat.testBit_lt_two_pow h2]
theorem zn_not18 {h : Nat} (hh : h < 262144) : nI h ^^^ 262143 = nI (262143 - h) := by
  show nI h ^^^ nI 262143 = _
  rw [nx_xor]
  exact congrArg nI (zp_not 18 hh)
theorem zl_not36 {h : Nat} (hh : h < 68719476736) : lN h ^^^ 68719476735 = lN (68719476735 - h) := by
  show lN h ^^^ lN 68719476735 = _
  rw [lN_xor]
  exact congrArg lN (zp_not 36 hh)
end
section
/-! the two states over one memory of words: X's by halves, Y's by longs -/
def zp_up (M : Nat → Nat) (i w : Nat) : Nat → Nat := fun j => if j = i then w else M j
def zp_HI (M : Nat → Nat) : Nat → Int32 := fun j => nI (M j / 262144)
def zp_LO (M : Nat → Nat) : Nat → Int32 := fun j => nI (M j % 262144)
def zp_ME (M : Nat → Nat) : Nat → Int64 := fun j => lN (M j)
def zp_MW (M : Nat → Nat) : Prop := ∀ j, M j < 68719476736
theorem zp_upS {M : Nat → Nat} {i w : Nat} : zp_up M i w i = w := if_pos rfl
theorem zp_upN {M : Nat → Nat} {i j w : Nat} (h : j ≠ i) : zp_up M i w j = M j := if_neg h
theorem zp_HIu {M : Nat → Nat} {i w : Nat} : upd (zp_HI M) i (nI (w / 262144)) = zp_HI (zp_up M i w) := by
  funext j
  by_cases h : j = i
  · subst h
    show _ = nI (zp_up M j w j / 262144)
    rw [pk_us, zp_upS]
  · show _ = nI (zp_up M i w j / 262144)
    rw [pk_un h, zp_upN h]
    rfl
theorem zp_LOu {M : Nat → Nat} {i w : Nat} : upd (zp_LO M) i (nI (w % 262144)) = zp_LO (zp_up M i w) := by
  funext j
  by_cases h : j = i
  · subst h
    show _ = nI (zp_up M j w j % 262144)
    rw [pk_us, zp_upS]
  · show _ = nI (zp_up M i w j % 262144)
    rw [pk_un h, zp_upN h]
    rfl
theorem zp_MEu {M : Nat → Nat} {i w : Nat} : vp_updL (zp_ME M) i (lN w) = zp_ME (zp_up M i w) := by
  funext j
  by_cases h : j = i
  · subst h
    show _ = lN (zp_up M j w j)
    rw [pk_uLs, zp_upS]
  · show _ = lN (zp_up M i w j)
    rw [pk_uLn h, zp_upN h]
    rfl
theorem zp_MWu {M : Nat → Nat} {i w : Nat} (h : zp_MW M) (hw : w < 68719476736) : zp_MW (zp_up M i w) := by
  intro j
  unfold zp_up
  split
  · exact hw
  · exact h j
/-- the rest of X's state: first, waiting, outs, all, inHi, inLo, outHi, outLo, times -/
abbrev zx_D : Type := Int32 × Int32 × Int32 × Int32 × (Nat → Int32) × (Nat → Int32) × (Nat → Int32) × (Nat → Int32) × (Nat → Int32)
/-- known, ops, acs, indexes, indirect -/
abbrev zx_K : Type := (Nat → Int32) × (Nat → Int32) × (Nat → Int32) × (Nat → Int32) × (Nat → Int32)
abbrev zx_G (P F C A E : Int32) (x y r : Nat) (M : Nat → Nat) (k : zx_K) (d : zx_D) : SX :=
  (P, F, C, d.1, d.2.1, d.2.2.1, d.2.2.2.1, A, E, nI (x / 262144), nI (x % 262144), nI (y / 262144), nI (y % 262144), nI (r / 262144), nI (r % 262144), zp_HI M, zp_LO M, k.1, k.2.1, k.2.2.1, k.2.2.2.1, k.2.2.2.2, d.2.2.2.2.1, d.2.2.2.2.2.1, d.2.2.2.2.2.2.1, d.2.2.2.2.2.2.2.1, d.2.2.2.2.2.2.2.2)
abbrev zx_S (p : Nat) (F C : Int32) (ac e x y r : Nat) (M : Nat → Nat) (k : zx_K) (d : zx_D) : SX := zx_G (nI p) F C (nI ac) (nI e) x y r M k d
/-- the rest of Y's state: waiting, outs, count, waits, got, times -/
abbrev zy_D : Type := Int32 × Int32 × Int32 × (Nat → Int64) × (Nat → Int64) × (Nat → Int32)
abbrev zy_G (P F C O A E Wh Dp Mo : Int32) (M : Nat → Nat) (g : zy_D) : SY :=
  (P, F, C, g.1, g.2.1, g.2.2.1, O, A, E, Wh, Dp, Mo, zp_ME M, g.2.2.2.1, g.2.2.2.2.1, g.2.2.2.2.2)
/-- Y at an instruction; q: where, deep, more -/
abbrev zy_S (p : Nat) (F C : Int32) (op ac e : Nat) (q : Int32 × Int32 × Int32) (M : Nat → Nat) (g : zy_D) : SY := zy_G (nI p) F C (nI op) (nI ac) (nI e) q.1 q.2.1 q.2.2 M g
/-- what is kept of an instruction that was taken apart is right -/
def zp_CV (M : Nat → Nat) (k : zx_K) : Prop := ∀ j, k.1 j ≠ 0 → k.2.1 j = nI (M j / 134217728) ∧ k.2.2.1 j = nI (M j / 8388608 % 16) ∧ k.2.2.2.1 j = nI (M j / 262144 % 16) ∧ k.2.2.2.2 j = nI (M j / 4194304 % 2)
theorem zp_b0 : vp_nar .boolean 0 = 0 := rfl
theorem zp_b1 : vp_nar .boolean 1 = 1 := rfl
theorem zp_CVu {M : Nat → Nat} {k : zx_K} {i w : Nat} (h : zp_CV M k) : zp_CV (zp_up M i w) (upd k.1 i (vp_nar .boolean 0), k.2) := by
  intro j hj
  by_cases e : j = i
  · subst e
    exact absurd (pk_us (f := k.1) (k := j) (x := vp_nar .boolean 0)) hj
  · rw [zp_upN e]
    refine h j ?_
    intro z
    exact hj ((pk_un e).trans z)
section
variable {P F C A E : Int32} {p ac e x y r : Nat} {M : Nat → Nat} {k : zx_K} {d : zx_D} {post : SX → Prop}
theorem zx_write (hk : zp_CV M k) {a' h' l' : Int32} (a w : Nat) (ha : a' = nI a) (hh : h' = nI (w / 262144)) (hl : l' = nI (w % 262144))
    (H : ∀ k', zp_CV (zp_up M (a % 256) w) k' → post (zx_G P F C A E x y r (zp_up M (a % 256) w) k' d)) : wpX_write post (zx_G P F C A E x y r M k d) a' h' l' := by
  subst ha hh hl
  have i8 : vp_in (nI (a % 256)) 256 := vp_in_nI (by omega) (by decide)
  have c8 : (nI (a % 256)).toNatClampNeg = a % 256 := nI_clamp (by omega)
  refine nm_r (zn_m8 a) ⟨i8, ?_⟩
  rw [c8]
  exact nm_r zp_HIu ⟨i8, nm_r zp_LOu ⟨i8, nm_e (H (upd k.1 (a % 256) (vp_nar .boolean 0), k.2) (zp_CVu hk))⟩⟩
/-- into the accumulator -/
theorem zx_writeA (hk : zp_CV M k) (hac : ac < 16) {h' l' : Int32} (w : Nat) (hh : h' = nI (w / 262144)) (hl : l' = nI (w % 262144))
    (H : ∀ k', zp_CV (zp_up M ac w) k' → post (zx_G P F C A E x y r (zp_up M ac w) k' d)) : wpX_write post (zx_G P F C A E x y r M k d) (nI ac) h' l' := by
  refine zx_write hk ac w rfl hh hl ?_
  rw [Nat.mod_eq_of_lt (show ac < 256 by omega)]
  exact H
theorem zx_iA (hac : ac < 16) : vp_in (nI ac) 256 := vp_in_nI (by omega) (by decide)
theorem zx_cA (hac : ac < 16) : (nI ac).toNatClampNeg = ac := nI_clamp (by omega)
end
end
section
/-! operands and results, by the mode m -/
def zp_sec (M : Nat → Nat) (e m : Nat) : Nat := if m = 1 then e else M (e % 256)
def zp_tak (M : Nat → Nat) (e ac m : Nat) : Nat := if m = 1 then e else if m = 2 then M ac else M (e % 256)
def zp_rs1 (M : Nat → Nat) (e m w : Nat) : Nat → Nat := if m ≤ 1 then M else zp_up M (e % 256) w
def zp_rs (M : Nat → Nat) (e ac m w : Nat) : Nat → Nat := if m = 2 then zp_rs1 M e m w else zp_up (zp_rs1 M e m w) ac w
def zp_gv (M : Nat → Nat) (e ac m w : Nat) : Nat → Nat := if m < 2 ∨ (m = 3 ∧ ac ≠ 0) then zp_up (zp_rs1 M e m w) ac w else zp_rs1 M e m w
theorem zp_sec_lt {M : Nat → Nat} {e m : Nat} (hM : zp_MW M) (he : e < 262144) : zp_sec M e m < 68719476736 := by
  unfold zp_sec
  split
  · omega
  · exact hM _
theorem zp_tak_lt {M : Nat → Nat} {e ac m : Nat} (hM : zp_MW M) (he : e < 262144) : zp_tak M e ac m < 68719476736 := by
  unfold zp_tak
  split
  · omega
  · split
    · exact hM _
    · exact hM _
theorem zp_rs1W {M : Nat → Nat} {e m w : Nat} (hM : zp_MW M) (hw : w < 68719476736) : zp_MW (zp_rs1 M e m w) := by
  unfold zp_rs1
  split
  · exact hM
  · exact zp_MWu hM hw
theorem zp_rsW {M : Nat → Nat} {e ac m w : Nat} (hM : zp_MW M) (hw : w < 68719476736) : zp_MW (zp_rs M e ac m w) := by
  unfold zp_rs
  split
  · exact zp_rs1W hM hw
  · exact zp_MWu (zp_rs1W hM hw) hw
theorem zp_gvW {M : Nat → Nat} {e ac m w : Nat} (hM : zp_MW M) (hw : w < 68719476736) : zp_MW (zp_gv M e ac m w) := by
  unfold zp_gv
  split
  · exact zp_MWu (zp_rs1W hM hw) hw
  · exact zp_rs1W hM hw
section
variable {P F C A E : Int32} {p ac e x y r m : Nat} {M : Nat → Nat} {k : zx_K} {d : zx_D} {post : SX → Prop}
theorem zx_sec0 (H : post (zx_G P F C A (nI e) x (M (e % 256)) r M k d)) : wpX_second post (zx_G P F C A (nI e) x y r M k d) 0 := by
  refine br_t rfl ⟨zn_i8 e, br_t rfl ⟨zn_i8 e, nm_e ?_⟩⟩
  rw [zn_c8]
  exact H
theorem zx_sec1 (he : e < 262144) (H : post (zx_G P F C A (nI e) x e r M k d)) : wpX_second post (zx_G P F C A (nI e) x y r M k d) 1 := by
  rw [zx_G, Nat.div_eq_of_lt he, Nat.mod_eq_of_lt he] at H
  exact br_f (by decide) (br_f (by decide) H)
theorem zx_operands (hac : ac < 16) (he : e < 262144) (hm : m < 4) (H : post (zx_G P F C (nI ac) (nI e) (M ac) (zp_sec M e m) r M k d)) :
    wpX_operands post (zx_G P F C (nI ac) (nI e) x y r M k d) (nI m) := by
  refine ⟨zx_iA hac, nm_e ⟨zx_iA hac, nm_e ?_⟩⟩
  rw [zx_cA hac]
  refine pk_eq m 1 (fun h => ?_) (fun h => ?_)
  · rw [zp_sec, if_pos h] at H
    exact zx_sec1 (x := M ac) he H
  · rw [zp_sec, if_neg h] at H
    exact zx_sec0 (x := M ac) H
theorem zx_source (hac : ac < 16) (he : e < 262144) (hm : m < 4) (H : post (zx_G P F C (nI ac) (nI e) x (zp_tak M e ac m) r M k d)) :
    wpX_source post (zx_G P F C (nI ac) (nI e) x y r M k d) (nI m) := by
  refine pk_eq m 1 (fun h => ?_) (fun h => ?_)
  · rw [zp_tak, if_pos h] at H
    exact zx_sec1 he (pk_eq m 2 (fun h2 => by omega) (fun _ => H))
  · rw [zp_tak, if_neg h] at H
    refine zx_sec0 (pk_eq m 2 (fun h2 => ⟨zx_iA hac, nm_e ⟨zx_iA hac, nm_e ?_⟩⟩) (fun h2 => ?_))
    · rw [if_pos h2] at H
      rw [zx_cA hac]
      exact H
    · rw [if_neg h2] at H
      exact H
theorem zx_store (hk : zp_CV M k) (hac : ac < 16) (hm : m < 4) (H : ∀ k', zp_CV (zp_rs M e ac m r) k' → post (zx_G P F C (nI ac) (nI e) x y r (zp_rs M e ac m r) k' d)) :
    wpX_store post (zx_G P F C (nI ac) (nI e) x y r M k d) (nI m) := by
  have K : ∀ k', zp_CV (zp_rs1 M e m r) k' → (nI m = 2 → post (zx_G P F C (nI ac) (nI e) x y r (zp_rs1 M e m r) k' d)) ∧ (¬ nI m = 2 → wpX_write post (zx_G P F C (nI ac) (nI e) x y r (zp_rs1 M e m r) k' d) (nI ac) (nI (r / 262144)) (nI (r % 262144))) := by
    intro k' hk'
    refine pk_eq m 2 (fun h => ?_) (fun h => ?_)
    · unfold zp_rs at H
      rw [if_pos h] at H
      exact H k' hk'
    · unfold zp_rs at H
      rw [if_neg h] at H
      exact zx_writeA hk' hac r rfl rfl H
  unfold zp_rs1 at K
  refine pk_le m 1 (fun h => ?_) (fun h => ?_)
  · rw [if_pos h] at K
    exact K k hk
  · rw [if_neg (by omega)] at K
    exact zx_write hk e r rfl rfl rfl (fun k' hk' => K k' hk')
theorem zx_deliver (hk : zp_CV M k) (hac : ac < 16) (hm : m < 4) (H : ∀ k', zp_CV (zp_gv M e ac m r) k' → post (zx_G P F C (nI ac) (nI e) x y r (zp_gv M e ac m r) k' d)) :
    wpX_deliver post (zx_G P F C (nI ac) (nI e) x y r M k d) (nI m) := by
  have K : ∀ k', zp_CV (zp_rs1 M e m r) k' → (nI m < 2 → wpX_write post (zx_G P F C (nI ac) (nI e) x y r (zp_rs1 M e m r) k' d) (nI ac) (nI (r / 262144)) (nI (r % 262144))) ∧ (¬ nI m < 2 → ((nI m = 3 → ((nI ac = 0 → post (zx_G P F C (nI ac) (nI e) x y r (zp_rs1 M e m r) k' d)) ∧ (¬ nI ac = 0 → wpX_write post (zx_G P F C (nI ac) (nI e) x y r (zp_rs1 M e m r) k' d) (nI ac) (nI (r / 262144)) (nI (r % 262144))))) ∧ (¬ nI m = 3 → post (zx_G P F C (nI ac) (nI e) x y r (zp_rs1 M e m r) k' d)))) := by
    intro k' hk'
    unfold zp_gv at H
    refine pk_lt m 2 (fun h => ?_) (fun h => pk_eq m 3 (fun h3 => pk_eq ac 0 (fun h0 => ?_) (fun h0 => ?_)) (fun h3 => ?_))
    · rw [if_pos (Or.inl h)] at H
      exact zx_writeA hk' hac r rfl rfl H
    · rw [if_neg (by omega)] at H
      exact H k' hk'
    · rw [if_pos (Or.inr ⟨h3, h0⟩)] at H
      exact zx_writeA hk' hac r rfl rfl H
    · rw [if_neg (by omega)] at H
      exact H k' hk'
  unfold zp_rs1 at K
  refine pk_le m 1 (fun h => ?_) (fun h => ?_)
  · rw [if_pos h] at K
    exact K k hk
  · rw [if_neg (by omega)] at K
    exact zx_write hk e r rfl rfl rfl (fun k' hk' => K k' hk')
end
section
variable {P F C O A E Wh Dp Mo : Int32} {ac e m w : Nat} {M : Nat → Nat} {g : zy_D}
theorem zy_taken {post : Int64 → Prop} (hac : ac < 16) (he : e < 262144) (hm : m < 4) (H : post (lN (zp_tak M e ac m))) : wpY_taken post (zy_G P F C O (nI ac) (nI e) Wh Dp Mo M g) (nI m) := by
  unfold zp_tak at H
  refine pk_eq m 1 (fun h => ?_) (fun h => pk_eq m 2 (fun h2 => ⟨zx_iA hac, ?_⟩) (fun h2 => ⟨zn_i8 e, ?_⟩))
  · rw [if_pos h] at H
    rw [nI_l (by omega)]
    exact H
  · rw [if_neg h, if_pos h2] at H
    rw [zx_cA hac]
    exact H
  · rw [if_neg h, if_neg h2] at H
    rw [zn_c8]
    exact H
theorem zy_second {post : Int64 → Prop} (he : e < 262144) (hm : m < 4) (H : post (lN (zp_sec M e m))) : wpY_second post (zy_G P F C O A (nI e) Wh Dp Mo M g) (nI m) := by
  unfold zp_sec at H
  refine pk_eq m 1 (fun h => ?_) (fun h => ⟨zn_i8 e, ?_⟩)
  · rw [if_pos h] at H
    rw [nI_l (by omega)]
    exact H
  · rw [if_neg h] at H
    rw [zn_c8]
    exact H
theorem zy_accumulator {post : Int64 → Prop} (hac : ac < 16) (H : post (lN (M ac))) : wpY_accumulator post (zy_G P F C O (nI ac) E Wh Dp Mo M g) := by
  refine ⟨zx_iA hac, ?_⟩
  rw [zx_cA hac]
  exact H
theorem zy_there {post : Int64 → Prop} (H : post (lN (M (e % 256)))) : wpY_there post (zy_G P F C O A (nI e) Wh Dp Mo M g) := by
  refine ⟨zn_i8 e, ?_⟩
  rw [zn_c8]
  exact H
/-- a store into Y's memory -/
theorem zy_updA (hac : ac < 16) : vp_updL (zp_ME M) (nI ac).toNatClampNeg (lN w) = zp_ME (zp_up M ac w) := by
  rw [zx_cA hac, zp_MEu]
theorem zy_updE : vp_updL (zp_ME M) (nI e &&& 255).toNatClampNeg (lN w) = zp_ME (zp_up M (e % 256) w) := by
  rw [zn_c8, zp_MEu]
theorem zy_result {post : SY → Prop} (hac : ac < 16) (hm : m < 4) (H : post (zy_G P F C O (nI ac) (nI e) Wh Dp Mo (zp_rs M e ac m w) g)) : wpY_result post (zy_G P F C O (nI ac) (nI e) Wh Dp Mo M g) (lN w) (nI m) := by
  have K : (nI m = 2 → post (zy_G P F C O (nI ac) (nI e) Wh Dp Mo (zp_rs1 M e m w) g)) ∧ (¬ nI m = 2 → (vp_in (nI ac) 256 ∧ ∀ a : Nat → Int64, a = vp_updL (zp_ME (zp_rs1 M e m w)) (nI ac).toNatClampNeg (lN w) → post (P, F, C, g.1, g.2.1, g.2.2.1, O, nI ac, nI e, Wh, Dp, Mo, a, g.2.2.2.1, g.2.2.2.2.1, g.2.2.2.2.2))) := by
    unfold zp_rs at H
    refine pk_eq m 2 (fun h => ?_) (fun h => ⟨zx_iA hac, nm_r (zy_updA hac) ?_⟩)
    · rw [if_pos h] at H
      exact H
    · rw [if_neg h] at H
      exact H
  unfold zp_rs1 at K
  refine pk_le m 1 (fun h => ?_) (fun h => ⟨zn_i8 e, nm_r zy_updE ?_⟩)
  · rw [if_pos h] at K
    exact K
  · rw [if_neg (by omega)] at K
    exact K
theorem zy_give {post : SY → Prop} (hac : ac < 16) (hm : m < 4) (H : post (zy_G P F C O (nI ac) (nI e) Wh Dp Mo (zp_gv M e ac m w) g)) : wpY_give post (zy_G P F C O (nI ac) (nI e) Wh Dp Mo M g) (lN w) (nI m) := by
  have K : (nI m < 2 → (vp_in (nI ac) 256 ∧ ∀ a : Nat → Int64, a = vp_updL (zp_ME (zp_rs1 M e m w)) (nI ac).toNatClampNeg (lN w) → post (P, F, C, g.1, g.2.1, g.2.2.1, O, nI ac, nI e, Wh, Dp, Mo, a, g.2.2.2.1, g.2.2.2.2.1, g.2.2.2.2.2))) ∧ (¬ nI m < 2 → ((nI m = 3 → ((nI ac = 0 → post (zy_G P F C O (nI ac) (nI e) Wh Dp Mo (zp_rs1 M e m w) g)) ∧ (¬ nI ac = 0 → (vp_in (nI ac) 256 ∧ ∀ a : Nat → Int64, a = vp_updL (zp_ME (zp_rs1 M e m w)) (nI ac).toNatClampNeg (lN w) → post (P, F, C, g.1, g.2.1, g.2.2.1, O, nI ac, nI e, Wh, Dp, Mo, a, g.2.2.2.1, g.2.2.2.2.1, g.2.2.2.2.2))))) ∧ (¬ nI m = 3 → post (zy_G P F C O (nI ac) (nI e) Wh Dp Mo (zp_rs1 M e m w) g)))) := by
    unfold zp_gv at H
    refine pk_lt m 2 (fun h => ⟨zx_iA hac, nm_r (zy_updA hac) ?_⟩) (fun h => pk_eq m 3 (fun h3 => pk_eq ac 0 (fun h0 => ?_) (fun h0 => ⟨zx_iA hac, nm_r (zy_updA hac) ?_⟩)) (fun h3 => ?_))
    · rw [if_pos (Or.inl h)] at H
      exact H
    · rw [if_neg (by omega)] at H
      exact H
    · rw [if_pos (Or.inr ⟨h3, h0⟩)] at H
      exact H
    · rw [if_neg (by omega)] at H
      exact H
  unfold zp_rs1 at K
  refine pk_le m 1 (fun h => ?_) (fun h => ⟨zn_i8 e, nm_r zy_updE ?_⟩)
  · rw [if_pos h] at K
    exact K
  · rw [if_neg (by omega)] at K
    exact K
end
end
section
/-! sums with their flags; moves -/
def zp_fl (F : Int32) (x y c : Nat) : Int32 :=
  if 68719476736 ≤ x + y + c then (if 34359738368 ≤ x % 34359738368 + y % 34359738368 + c then (F ||| 4) ||| 2 else (F ||| 4) ||| 8)
  else (if 34359738368 ≤ x % 34359738368 + y % 34359738368 + c then (F ||| 2) ||| 8 else F)
def zp_sm (x y c : Nat) : Nat := (x + y + c) % 68719476736
theorem zp_sm_lt (x y c : Nat) : zp_sm x y c < 68719476736 := Nat.mod_lt _ (by decide)
/-- flags are four bits -/
def zp_FL (F : Int32) : Prop := ∃ n : Nat, n < 16 ∧ F = nI n
theorem zp_FLor {F : Int32} (h : zp_FL F) (b : Nat) (hb : b < 16) {c : Int32} (hc : c = nI b) : zp_FL (F ||| c) := by
  obtain ⟨n, hn, rfl⟩ := h
  subst hc
  exact ⟨n ||| b, Nat.or_lt_two_pow (n := 4) hn hb, zn_or n b⟩
theorem zp_FL8 {F : Int32} (h : zp_FL F) : zp_FL (F ||| 8) := zp_FLor h 8 (by decide) rfl
theorem zp_FL9 {F : Int32} (h : zp_FL F) : zp_FL (F ||| 9) := zp_FLor h 9 (by decide) rfl
theorem zp_FLfl {F : Int32} (h : zp_FL F) (x y c : Nat) : zp_FL (zp_fl F x y c) := by
  have h4 := zp_FLor h 4 (by decide) rfl
  have h2 := zp_FLor h 2 (by decide) rfl
  unfold zp_fl
  split
  · split
    · exact zp_FLor h4 2 (by decide) rfl
    · exact zp_FL8 h4
  · split
    · exact zp_FL8 h2
    · exact h
theorem zp_add1 {x y c : Nat} : (x % 262144 + y % 262144 + c) % 262144 = zp_sm x y c % 262144 := by
  unfold zp_sm; omega
theorem zp_add2 {x y c : Nat} : (x / 262144 + y / 262144 + (x % 262144 + y % 262144 + c) / 262144) % 262144 = zp_sm x y c / 262144 := by
  unfold zp_sm; omega
theorem zp_add3 {x y c : Nat} : (x / 262144 + y / 262144 + (x % 262144 + y % 262144 + c) / 262144) / 262144 = (x + y + c) / 68719476736 := by omega
theorem zp_add4 {x y c : Nat} : (x / 262144 % 131072 + y / 262144 % 131072 + (x % 262144 + y % 262144 + c) / 262144) / 131072 = (x % 34359738368 + y % 34359738368 + c) / 34359738368 := by omega
section
variable {P F C A E : Int32} {p ac e x y r m : Nat} {M : Nat → Nat} {k : zx_K} {d : zx_D} {post : SX → Prop}
theorem zx_add {h' l' c' : Int32} (w c : Nat) (hx : x < 68719476736) (hw : w < 68719476736) (hc : c ≤ 1) (hh : h' = nI (w / 262144)) (hl : l' = nI (w % 262144)) (hc' : c' = nI c)
    (H : post (zx_G P (zp_fl F x w c) C A E x y (zp_sm x w c) M k d)) : wpX_add post (zx_G P F C A E x y r M k d) h' l' c' := by
  subst hh hl hc'
  refine nm_r (e' := nI (x % 262144 + w % 262144 + c)) (by rw [nI_add, nI_add]) ?_
  refine nm_r (zn_shr18 (by omega)) ?_
  refine nm_r (e' := nI (x / 262144 + w / 262144 + (x % 262144 + w % 262144 + c) / 262144)) (by rw [nI_add, nI_add]) ?_
  refine nm_r (e' := nI ((x + w + c) / 68719476736)) (by rw [zn_shr18 (by omega), zp_add3]) ?_
  refine nm_r (e' := nI ((x % 34359738368 + w % 34359738368 + c) / 34359738368)) (by rw [zn_m17, zn_m17, nI_add, nI_add, zn_shr17 (by omega), zp_add4]) ?_
  refine nm_r (e' := nI (zp_sm x w c % 262144)) (by rw [zn_m18, zp_add1]) ?_
  refine nm_r (e' := nI (zp_sm x w c / 262144)) (by rw [zn_m18, zp_add2]) ?_
  unfold zp_fl at H
  have b0 : (x + w + c) / 68719476736 ≤ 1 := by omega
  have b1 : (x % 34359738368 + w % 34359738368 + c) / 34359738368 ≤ 1 := by omega
  by_cases h0 : 68719476736 ≤ x + w + c
  · have a0 : (x + w + c) / 68719476736 = 1 := by omega
    rw [if_pos h0] at H
    rw [a0]
    refine br_t rfl (nm_e ?_)
    by_cases h1 : 34359738368 ≤ x % 34359738368 + w % 34359738368 + c
    · have a1 : (x % 34359738368 + w % 34359738368 + c) / 34359738368 = 1 := by omega
      rw [if_pos h1] at H
      rw [a1]
      exact br_t rfl (nm_e (br_t rfl H))
    · have a1 : (x % 34359738368 + w % 34359738368 + c) / 34359738368 = 0 := by omega
      rw [if_neg h1] at H
      rw [a1]
      exact br_f (by decide) (br_f (by decide) (nm_e H))
  · have a0 : (x + w + c) / 68719476736 = 0 := by omega
    rw [if_neg h0] at H
    rw [a0]
    refine br_f (by decide) ?_
    by_cases h1 : 34359738368 ≤ x % 34359738368 + w % 34359738368 + c
    · have a1 : (x % 34359738368 + w % 34359738368 + c) / 34359738368 = 1 := by omega
      rw [if_pos h1] at H
      rw [a1]
      exact br_t rfl (nm_e (br_f (by decide) (nm_e H)))
    · have a1 : (x % 34359738368 + w % 34359738368 + c) / 34359738368 = 0 := by omega
      rw [if_neg h1] at H
      rw [a1]
      exact br_f (by decide) (br_t rfl H)
end
section
variable {P F C O A E Wh Dp Mo : Int32} {ac e m w : Nat} {M : Nat → Nat} {g : zy_D}
theorem zy_sum {post : Int64 → SY → Prop} (x y c : Nat) (hx : x < 68719476736) (hy : y < 68719476736) (hc : c ≤ 1) {c' : Int32} (hc' : c' = nI c)
    (H : post (lN (zp_sm x y c)) (zy_G P (zp_fl F x y c) C O A E Wh Dp Mo M g)) : wpY_sum post (zy_G P F C O A E Wh Dp Mo M g) (lN x) (lN y) c' := by
  subst hc'
  have e2 : lN x &&& 34359738367 = lN (x % 34359738368) := zl_m35 x
  have e3 : lN y &&& 34359738367 = lN (y % 34359738368) := zl_m35 y
  have e4 : (nI c).toInt64 = lN c := nI_l (by omega)
  refine nm_r (e' := lN (x + y + c)) (by rw [e4, lN_add, lN_add]) ?_
  have K : lN (x + y + c) &&& 68719476735 = lN (zp_sm x y c) := zl_m36 _
  have L : (lN x &&& 34359738367) + (lN y &&& 34359738367) + (nI c).toInt64 = lN (x % 34359738368 + y % 34359738368 + c) := by rw [e2, e3, e4, lN_add, lN_add]
  unfold zp_fl at H
  by_cases h0 : 68719476736 ≤ x + y + c
  · rw [if_pos h0] at H
    refine br_f (by rw [show (68719476735 : Int64) = lN 68719476735 from rfl, pk_lLE (by omega) (by decide)]; omega) ?_
    by_cases h1 : 34359738368 ≤ x % 34359738368 + y % 34359738368 + c
    · rw [if_pos h1] at H
      refine br_f (by rw [L, show (34359738368 : Int64) = lN 34359738368 from rfl, pk_lLT (by omega) (by decide)]; omega) ?_
      refine br_f (by decide) (nm_e (br_f (by decide) (nm_e (br_t rfl ?_))))
      rw [K]
      exact H
    · rw [if_neg h1] at H
      refine br_t (by rw [L, show (34359738368 : Int64) = lN 34359738368 from rfl, pk_lLT (by omega) (by decide)]; omega) ?_
      refine br_f (by decide) (nm_e (br_t rfl (br_f (by decide) (nm_e ?_))))
      rw [K]
      exact H
  · rw [if_neg h0] at H
    refine br_t (by rw [show (68719476735 : Int64) = lN 68719476735 from rfl, pk_lLE (by omega) (by decide)]; omega) ?_
    by_cases h1 : 34359738368 ≤ x % 34359738368 + y % 34359738368 + c
    · rw [if_pos h1] at H
      refine br_f (by rw [L, show (34359738368 : Int64) = lN 34359738368 from rfl, pk_lLT (by omega) (by decide)]; omega) ?_
      refine br_t rfl (br_f (by decide) (nm_e (br_f (by decide) (nm_e ?_))))
      rw [K]
      exact H
    · rw [if_neg h1] at H
      refine br_t (by rw [L, show (34359738368 : Int64) = lN 34359738368 from rfl, pk_lLT (by omega) (by decide)]; omega) ?_
      refine br_t rfl (br_t rfl (br_t rfl ?_))
      rw [K]
      exact H
end
/-! moves -/
def zp_swp (y : Nat) : Nat := y % 262144 * 262144 + y / 262144
def zp_ng (f y : Nat) : Prop := f = 2 ∨ (f = 3 ∧ 34359738368 ≤ y)
def zp_mv (f y : Nat) : Nat := if f = 1 then zp_swp y else if f = 2 ∨ (f = 3 ∧ 34359738368 ≤ y) then zp_sm 0 (68719476735 - y) 1 else y
def zp_mvF (F : Int32) (f y : Nat) : Int32 := if f = 2 ∨ (f = 3 ∧ 34359738368 ≤ y) then zp_fl F 0 (68719476735 - y) 1 else F
theorem zp_swp_lt {y : Nat} (hy : y < 68719476736) : zp_swp y < 68719476736 := by unfold zp_swp; omega
theorem zp_swpH {y : Nat} (hy : y < 68719476736) : zp_swp y / 262144 = y % 262144 := by unfold zp_swp; omega
theorem zp_swpL {y : Nat} (hy : y < 68719476736) : zp_swp y % 262144 = y / 262144 := by unfold zp_swp; omega
theorem zp_mv_lt {f y : Nat} (hy : y < 68719476736) : zp_mv f y < 68719476736 := by
  unfold zp_mv
  split
  · exact zp_swp_lt hy
  · split
    · exact zp_sm_lt _ _ _
    · exact hy
theorem zp_mvFL {F : Int32} {f y : Nat} (h : zp_FL F) : zp_FL (zp_mvF F f y) := by
  unfold zp_mvF
  split
  · exact zp_FLfl h _ _ _
  · exact h
section
variable {P F C A E : Int32} {p ac e x y r m f : Nat} {M : Nat → Nat} {k : zx_K} {d : zx_D} {post : SX → Prop}
theorem zx_negate (hy : y < 68719476736) (w : Nat) (hw : w < 68719476736) (H : post (zx_G P (zp_fl F 0 (68719476735 - w) 1) C A E 0 y (zp_sm 0 (68719476735 - w) 1) M k d)) :
    wpX_negate post (zx_G P F C A E x y r M k d) (nI (w / 262144)) (nI (w % 262144)) := by
  refine zx_add (x := 0) (r := r) (68719476735 - w) 1 (by decide) (by omega) (by decide) ?_ ?_ rfl H
  · rw [zn_not18 (by omega)]
    exact congrArg nI (by omega)
  · rw [zn_not18 (by omega)]
    exact congrArg nI (by omega)
theorem zx_move (hx : x < 68719476736) (hy : y < 68719476736) (hf : f < 4) (H : ∀ x', x' < 68719476736 → post (zx_G P (zp_mvF F f y) C A E x' y (zp_mv f y) M k d)) :
    wpX_move post (zx_G P F C A E x y r M k d) (nI f) := by
  unfold zp_mvF zp_mv at H
  refine pk_eq f 1 (fun h1 => ?_) (fun h1 => ?_)
  · subst h1
    rw [if_neg (by omega), if_pos rfl] at H
    have K := H x hx
    rw [zx_G, zp_swpH hy, zp_swpL hy] at K
    exact br_t rfl (br_f (by decide) (br_f (by decide) K))
  · rw [if_neg h1] at H
    refine br_f (by rw [show (1 : Int32) = nI 1 from rfl, nI_eq (by omega) (by omega)]; exact h1) ?_
    refine pk_eq f 2 (fun h2 => ?_) (fun h2 => pk_eq f 3 (fun h3 => pk_lt (y / 262144) 131072 (fun hl => ?_) (fun hl => ?_)) (fun h3 => ?_))
    · rw [if_pos (Or.inl h2), if_pos (Or.inl h2)] at H
      exact zx_negate (r := y) hy y hy (H 0 (by decide))
    · rw [if_neg (by omega), if_neg (by omega)] at H
      exact H x hx
    · rw [if_pos (Or.inr ⟨h3, by omega⟩), if_pos (Or.inr ⟨h3, by omega⟩)] at H
      exact zx_negate (r := y) hy y hy (H 0 (by decide))
    · rw [if_neg (by omega), if_neg (by omega)] at H
      exact H x hx
end
section
variable {P F C Wh Dp Mo : Int32} {op ac e m w : Nat} {M : Nat → Nat} {g : zy_D} {post : SY → Prop}
theorem zl_swp {y : Nat} (hy : y < 68719476736) : ((lN y &&& 262143) <<< ((18 : Int32).toInt64 &&& 63)) ||| (lN y >>> ((18 : Int32).toInt64 &&& 63)) = lN (zp_swp y) := by
  rw [zl_m18, zl_shl18, zl_shr18 (by omega), zl_or, zp_or18 _ (by omega)]
  rfl
theorem zy_move (hac : ac < 16) (he : e < 262144) (hop : op < 512) (hM : zp_MW M)
    (H : post (zy_G P (zp_mvF F (op / 4 % 4) (zp_tak M e ac (op % 4))) C (nI op) (nI ac) (nI e) Wh Dp Mo (zp_gv M e ac (op % 4) (zp_mv (op / 4 % 4) (zp_tak M e ac (op % 4)))) g)) :
    wpY_move post (zy_G P F C (nI op) (nI ac) (nI e) Wh Dp Mo M g) := by
  have hy := zp_tak_lt (ac := ac) (m := op % 4) hM he
  refine nm_r (zn_m2 op) (nm_r (e' := nI (op / 4 % 4)) (by rw [zn_shr2 (by omega), zn_m2]) (zy_taken hac he (by omega) ?_))
  generalize zp_tak M e ac (op % 4) = y at H hy
  have hf : op / 4 % 4 < 4 := by omega
  generalize op / 4 % 4 = f at H hf
  unfold zp_mvF zp_mv at H
  refine pk_eq f 1 (fun h1 => ?_) (fun h1 => ?_)
  · subst h1
    rw [if_neg (by omega), if_pos rfl] at H
    show wY_move_32 post _ _ _ P F C g.1 g.2.1 g.2.2.1 (nI op) (nI ac) (nI e) Wh Dp Mo (zp_ME M) g.2.2.2.1 g.2.2.2.2.1 g.2.2.2.2.2
    rw [zl_swp hy]
    exact br_f (by decide) (br_f (by decide) (zy_give hac (by omega) H))
  · rw [if_neg h1] at H
    refine pk_eq f 2 (fun h2 => ?_) (fun h2 => pk_eq f 3 (fun h3 => ?_) (fun h3 => ?_))
    · rw [if_pos (Or.inl h2), if_pos (Or.inl h2)] at H
      show wY_move_50 post _ _ P F C g.1 g.2.1 g.2.2.1 (nI op) (nI ac) (nI e) Wh Dp Mo (zp_ME M) g.2.2.2.1 g.2.2.2.2.1 g.2.2.2.2.2
      unfold wY_move_50
      rw [zl_not36 hy]
      exact zy_sum 0 (68719476735 - y) 1 (by decide) (by omega) (by decide) rfl (zy_give hac (by omega) H)
    · by_cases hl : y < 34359738368
      · rw [if_neg (by omega), if_neg (by omega)] at H
        refine br_t (by rw [show (34359738368 : Int64) = lN 34359738368 from rfl, pk_lLT (by omega) (by decide)]; omega) ?_
        exact zy_give hac (by omega) H
      · rw [if_pos (Or.inr ⟨h3, by omega⟩), if_pos (Or.inr ⟨h3, by omega⟩)] at H
        refine br_f (by rw [show (34359738368 : Int64) = lN 34359738368 from rfl, pk_lLT (by omega) (by decide)]; omega) ?_
        show wY_move_50 post _ _ P F C g.1 g.2.1 g.2.2.1 (nI op) (nI ac) (nI e) Wh Dp Mo (zp_ME M) g.2.2.2.1 g.2.2.2.2.1 g.2.2.2.2.2
        unfold wY_move_50
        rw [zl_not36 hy]
        exact zy_sum 0 (68719476735 - y) 1 (by decide) (by omega) (by decide) rfl (zy_give hac (by omega) H)
    · rw [if_neg (by omega), if_neg (by omega)] at H
      exact zy_give hac (by omega) H
end
end
section
/-! signed words; products and quotients -/
def zp_sI (x : Nat) : Int := if x < 34359738368 then (x : Int) else (x : Int) - 68719476736
def zp_sg (x : Nat) : Int64 := if x < 34359738368 then lN x else lN x - 68719476736
theorem uN_sub (x y : Int64) : uN (x - y) = (18446744073709551616 - uN y + uN x) % 18446744073709551616 := by
  show (x.toUInt64 - y.toUInt64).toNat = _
  rw [UInt64.toNat_sub]
  rfl
theorem zl_subw (a : Nat) {b : Nat} (hb : b ≤ 18446744073709551616) : lN a - lN b = lN (a + (18446744073709551616 - b)) := by
  apply uN_inj
  rw [uN_sub, zp_uN, zp_uN, zp_uN]
  omega
theorem zl_toIntS {n : Nat} (h : n < 18446744073709551616) : (lN n).toInt = if n < 9223372036854775808 then (n : Int) else (n : Int) - 18446744073709551616 := lN_ti h
theorem zp_sg_toInt {x : Nat} (hx : x < 68719476736) : (zp_sg x).toInt = zp_sI x := by
  unfold zp_sg zp_sI
  by_cases h : x < 34359738368
  · rw [if_pos h, if_pos h, pk_lT (by omega)]
  · rw [if_neg h, if_neg h]
    show (lN x - lN 68719476736).toInt = _
    rw [zl_subw x (by decide), zl_toIntS (by omega), if_neg (by omega)]
    omega
theorem zp_wdI (v : Int64) : (zp_wd v : Int) = v.toInt % 68719476736 := by
  have h := zl_uInt v
  unfold zp_wd
  omega
theorem zi_bmod36 (P : Int) : (P.bmod (2 ^ 64)) % 68719476736 = P % 68719476736 := by
  rw [Int.bmod_def]
  split <;> omega
theorem zi_mulB {a b : Int} {A B : Nat} (ha : a.natAbs ≤ A) (hb : b.natAbs ≤ B) : (a * b).natAbs ≤ A * B := by
  rw [Int.natAbs_mul]
  exact Nat.mul_le_mul ha hb
theorem zn_xtop {h : Nat} (hh : h < 262144) : nI h ^^^ 131072 = nI (if h < 131072 then h + 131072 else h - 131072) := by
  show nI h ^^^ nI (2 ^ 17) = _
  rw [nx_xor]
  congr 1
  have h1 : (h ^^^ 2 ^ 17) % 2 ^ 17 = h % 2 ^ 17 := by rw [Nat.xor_mod_two_pow, Nat.mod_self, Nat.xor_zero]
  have h2 : (h ^^^ 2 ^ 17) / 2 ^ 17 = (h / 2 ^ 17) ^^^ 1 := by rw [Nat.xor_div_two_pow, Nat.div_self (Nat.two_pow_pos 17)]
  have h3 : h / 2 ^ 17 = 0 ∨ h / 2 ^ 17 = 1 := by omega
  generalize h ^^^ 2 ^ 17 = t at h1 h2
  rcases h3 with h3 | h3
  · rw [h3] at h2
    have h2 : t / 2 ^ 17 = 1 := h2
    rw [if_pos (by omega)]
    omega
  · rw [h3] at h2
    have h2 : t / 2 ^ 17 = 0 := h2
    rw [if_neg (by omega)]
    omega
/-- X's value of a word -/
theorem zl_value {x : Nat} (hx : x < 68719476736) : ((((nI (x / 262144) ^^^ 131072).toInt64 - 131072) <<< ((18 : Int32).toInt64 &&& 63)) ||| (nI (x % 262144)).toInt64) = zp_sg x := by
  rw [zn_xtop (by omega), nI_l (n := x % 262144) (by omega)]
  unfold zp_sg
  by_cases h : x / 262144 < 131072
  · rw [if_pos h, if_pos (by omega), nI_l (by omega), show (131072 : Int64) = lN 131072 from rfl, lN_sub (by omega), zl_shl18, zl_or, zp_or18 _ (by omega)]
    exact congrArg lN (by omega)
  · rw [if_neg h, if_neg (by omega), nI_l (by omega), show (131072 : Int64) = lN 131072 from rfl, zl_subw _ (by decide), zl_shl18, zl_or, zp_or18 _ (by omega)]
    show _ = lN x - lN 68719476736
    rw [zl_subw x (by decide)]
    apply uN_inj
    rw [zp_uN, zp_uN]
    omega
theorem zl_signed {h : Nat} (hh : h < 262144) : ((nI h ^^^ 131072) - 131072).toInt64.toInt = if h < 131072 then (h : Int) else (h : Int) - 262144 := by
  rw [zn_xtop hh, Int32.toInt_toInt64]
  by_cases z : h < 131072
  · rw [if_pos z, if_pos z]
    show (nI (h + 131072) - nI 131072).toInt = _
    rw [pk_sub_toInt (by omega) (by omega)]
    omega
  · rw [if_neg z, if_neg z]
    show (nI (h - 131072) - nI 131072).toInt = _
    rw [pk_sub_toInt (by omega) (by omega)]
    omega
theorem zl_addI {a b : Int64} (h1 : -9223372036854775808 ≤ a.toInt + b.toInt) (h2 : a.toInt + b.toInt < 9223372036854775808) : (a + b).toInt = a.toInt + b.toInt := by
  rw [Int64.toInt_add]
  exact Int.bmod_eq_of_le (by omega) (by omega)
theorem zl_mulI {a b : Int64} (h1 : -9223372036854775808 ≤ a.toInt * b.toInt) (h2 : a.toInt * b.toInt < 9223372036854775808) : (a * b).toInt = a.toInt * b.toInt := by
  rw [Int64.toInt_mul]
  generalize a.toInt * b.toInt = z at *
  exact Int.bmod_eq_of_le (by omega) (by omega)
theorem zi_mulB2 {a b : Int} (A B N : Nat) (hN : A * B = N) (ha1 : -(A : Int) ≤ a) (ha2 : a ≤ A) (hb1 : -(B : Int) ≤ b) (hb2 : b ≤ B) : -(N : Int) ≤ a * b ∧ a * b ≤ N := by
  have h := zi_mulB (a := a) (b := b) (A := A) (B := B) (by omega) (by omega)
  rw [hN] at h
  generalize a * b = z at *
  omega
theorem zl_shl18m (v : Int64) : v <<< ((18 : Int32).toInt64 &&& 63) = v * 262144 := by
  obtain ⟨n, hn, rfl⟩ := wb_of v
  rw [zl_shl18]
  show _ = lN n * lN 262144
  rw [lN_mul]
def zp_mu (x y : Nat) : Nat := ((zp_sI x * zp_sI y) % 68719476736).toNat
def zp_muF (F : Int32) (x y : Nat) : Int32 := if -34359738368 ≤ zp_sI x * zp_sI y ∧ zp_sI x * zp_sI y < 34359738368 then F else F ||| 8
theorem zp_mu_lt (x y : Nat) : zp_mu x y < 68719476736 := by
  unfold zp_mu
  generalize zp_sI x * zp_sI y = z
  omega
theorem zp_muFL {F : Int32} {x y : Nat} (h : zp_FL F) : zp_FL (zp_muF F x y) := by
  unfold zp_muF
  split
  · exact h
  · exact zp_FL8 h
/-- the product by halves -/
theorem zi_prod (a b xl yl : Int) : (a * 262144 + xl) * (b * 262144 + yl) = a * b * 68719476736 + ((a * yl + b * xl) * 262144 + xl * yl) := by
  grind
theorem zp_sIh {x : Nat} (hx : x < 68719476736) : zp_sI x = (if x / 262144 < 131072 then ((x / 262144 : Nat) : Int) else ((x / 262144 : Nat) : Int) - 262144) * 262144 + ((x % 262144 : Nat) : Int) := by
  unfold zp_sI
  split <;> split <;> omega
/-- the longs of a product by halves -/
theorem zl_mulX {A B X Y : Int64} (a1 : -131072 ≤ A.toInt) (a2 : A.toInt ≤ 131072) (b1 : -131072 ≤ B.toInt) (b2 : B.toInt ≤ 131072) (x1 : 0 ≤ X.toInt) (x2 : X.toInt ≤ 262144) (y1 : 0 ≤ Y.toInt) (y2 : Y.toInt ≤ 262144) :
    ((A * Y + B * X) * 262144 + X * Y).toInt = (A.toInt * Y.toInt + B.toInt * X.toInt) * 262144 + X.toInt * Y.toInt ∧
    (A * B + (((A * Y + B * X) * 262144 + X * Y) >>> ((36 : Int32).toInt64 &&& 63))).toInt = A.toInt * B.toInt + ((A.toInt * Y.toInt + B.toInt * X.toInt) * 262144 + X.toInt * Y.toInt) / 68719476736 := by
  have p1 := zi_mulB2 (a := A.toInt) (b := Y.toInt) 131072 262144 34359738368 rfl a1 a2 (by omega) y2
  have p2 := zi_mulB2 (a := B.toInt) (b := X.toInt) 131072 262144 34359738368 rfl b1 b2 (by omega) x2
  have p3 := zi_mulB2 (a := X.toInt) (b := Y.toInt) 262144 262144 68719476736 rfl (by omega) x2 (by omega) y2
  have p4 := zi_mulB2 (a := A.toInt) (b := B.toInt) 131072 131072 17179869184 rfl a1 a2 b1 b2
  clear a1 a2 b1 b2 x1 x2 y1 y2
  have m1 := zl_mulI (a := A) (b := Y) (by omega) (by omega)
  have m2 := zl_mulI (a := B) (b := X) (by omega) (by omega)
  have m3 := zl_mulI (a := X) (b := Y) (by omega) (by omega)
  have m4 := zl_mulI (a := A) (b := B) (by omega) (by omega)
  generalize A.toInt * Y.toInt = q1 at *
  generalize B.toInt * X.toInt = q2 at *
  generalize X.toInt * Y.toInt = q3 at *
  generalize A.toInt * B.toInt = q4 at *
  have s1 := zl_addI (a := A * Y) (b := B * X) (by omega) (by omega)
  have c18 : (262144 : Int64).toInt = 262144 := by decide
  have m5 : ((A * Y + B * X) * 262144).toInt = (q1 + q2) * 262144 := by
    rw [zl_mulI (by rw [c18]; omega) (by rw [c18]; omega), c18, s1, m1, m2]
  have s2 := zl_addI (a := (A * Y + B * X) * 262144) (b := X * Y) (by omega) (by omega)
  have m6 := zl_sshr ((A * Y + B * X) * 262144 + X * Y) (s := ((36 : Int32).toInt64 &&& 63)) (k := 36) (by decide)
  rw [Int.shiftRight_eq_div_pow] at m6
  have e36 : ((2 ^ 36 : Nat) : Int) = 68719476736 := by decide
  rw [e36] at m6
  rw [m5, m3] at s2
  rw [s2] at m6
  have s3 := zl_addI (a := A * B) (b := ((A * Y + B * X) * 262144 + X * Y) >>> ((36 : Int32).toInt64 &&& 63)) (by omega) (by omega)
  refine ⟨s2, ?_⟩
  rw [s3, m4, m6]
section
variable {P F C A E : Int32} {p ac e x y r m f : Nat} {M : Nat → Nat} {k : zx_K} {d : zx_D} {post : SX → Prop}
theorem zx_result {v : Int64} (H : post (zx_G P F C A E x y (zp_wd v) M k d)) : wpX_result post (zx_G P F C A E x y r M k d) v :=
  nm_r (zl_high v) (nm_r (zl_low v) H)
/-- the end of a product: Pv = Q * 2^36 + S -/
theorem zx_mulend {Sv Hv : Int64} {Q S Pv : Int} (hS : Sv.toInt = S) (hH : Hv.toInt = Q + S / 68719476736) (hP : Pv = Q * 68719476736 + S)
    (H : post (zx_G P (if -34359738368 ≤ Pv ∧ Pv < 34359738368 then F else F ||| 8) C A E x y (Pv % 68719476736).toNat M k d)) :
    wpX_result (fun u => (u.2.2.2.2.2.2.2.2.2.2.2.2.2.1 < 131072 → wX_multiply_89 post 0 Hv u.1 u.2.1 u.2.2.1 u.2.2.2.1 u.2.2.2.2.1 u.2.2.2.2.2.1 u.2.2.2.2.2.2.1 u.2.2.2.2.2.2.2.1 u.2.2.2.2.2.2.2.2.1 u.2.2.2.2.2.2.2.2.2.1 u.2.2.2.2.2.2.2.2.2.2.1 u.2.2.2.2.2.2.2.2.2.2.2.1 u.2.2.2.2.2.2.2.2.2.2.2.2.1 u.2.2.2.2.2.2.2.2.2.2.2.2.2.1 u.2.2.2.2.2.2.2.2.2.2.2.2.2.2.1 u.2.2.2.2.2.2.2.2.2.2.2.2.2.2.2.1 u.2.2.2.2.2.2.2.2.2.2.2.2.2.2.2.2.1 u.2.2.2.2.2.2.2.2.2.2.2.2.2.2.2.2.2.1 u.2.2.2.2.2.2.2.2.2.2.2.2.2.2.2.2.2.2.1 u.2.2.2.2.2.2.2.2.2.2.2.2.2.2.2.2.2.2.2.1 u.2.2.2.2.2.2.2.2.2.2.2.2.2.2.2.2.2.2.2.2.1 u.2.2.2.2.2.2.2.2.2.2.2.2.2.2.2.2.2.2.2.2.2.1 u.2.2.2.2.2.2.2.2.2.2.2.2.2.2.2.2.2.2.2.2.2.2.1 u.2.2.2.2.2.2.2.2.2.2.2.2.2.2.2.2.2.2.2.2.2.2.2.1 u.2.2.2.2.2.2.2.2.2.2.2.2.2.2.2.2.2.2.2.2.2.2.2.2.1 u.2.2.2.2.2.2.2.2.2.2.2.2.2.2.2.2.2.2.2.2.2.2.2.2.2.1 u.2.2.2.2.2.2.2.2.2.2.2.2.2.2.2.2.2.2.2.2.2.2.2.2.2.2) ∧ (¬ u.2.2.2.2.2.2.2.2.2.2.2.2.2.1 < 131072 → wX_multiply_89 post (-1) Hv u.1 u.2.1 u.2.2.1 u.2.2.2.1 u.2.2.2.2.1 u.2.2.2.2.2.1 u.2.2.2.2.2.2.1 u.2.2.2.2.2.2.2.1 u.2.2.2.2.2.2.2.2.1 u.2.2.2.2.2.2.2.2.2.1 u.2.2.2.2.2.2.2.2.2.2.1 u.2.2.2.2.2.2.2.2.2.2.2.1 u.2.2.2.2.2.2.2.2.2.2.2.2.1 u.2.2.2.2.2.2.2.2.2.2.2.2.2.1 u.2.2.2.2.2.2.2.2.2.2.2.2.2.2.1 u.2.2.2.2.2.2.2.2.2.2.2.2.2.2.2.1 u.2.2.2.2.2.2.2.2.2.2.2.2.2.2.2.2.1 u.2.2.2.2.2.2.2.2.2.2.2.2.2.2.2.2.2.1 u.2.2.2.2.2.2.2.2.2.2.2.2.2.2.2.2.2.2.1 u.2.2.2.2.2.2.2.2.2.2.2.2.2.2.2.2.2.2.2.1 u.2.2.2.2.2.2.2.2.2.2.2.2.2.2.2.2.2.2.2.2.1 u.2.2.2.2.2.2.2.2.2.2.2.2.2.2.2.2.2.2.2.2.2.1 u.2.2.2.2.2.2.2.2.2.2.2.2.2.2.2.2.2.2.2.2.2.2.1 u.2.2.2.2.2.2.2.2.2.2.2.2.2.2.2.2.2.2.2.2.2.2.2.1 u.2.2.2.2.2.2.2.2.2.2.2.2.2.2.2.2.2.2.2.2.2.2.2.2.1 u.2.2.2.2.2.2.2.2.2.2.2.2.2.2.2.2.2.2.2.2.2.2.2.2.2.1 u.2.2.2.2.2.2.2.2.2.2.2.2.2.2.2.2.2.2.2.2.2.2.2.2.2.2)) (zx_G P F C A E x y r M k d) Sv := by
  have w := zp_wdI Sv
  have wl := zp_wd_lt Sv
  rw [hS] at w
  have hr : zp_wd Sv = (Pv % 68719476736).toNat := by omega
  rw [← hr] at H
  refine zx_result ?_
  have z0 : (0 : Int64).toInt = 0 := by decide
  have z1 : (-1 : Int64).toInt = -1 := by decide
  refine pk_lt (zp_wd Sv / 262144) 131072 (fun h => ?_) (fun h => ?_)
  · by_cases hc : Hv.toInt = 0
    · rw [if_pos (by omega)] at H
      exact br_t (Int64.toInt_inj.mp (hc.trans z0.symm)) H
    · rw [if_neg (by omega)] at H
      exact br_f (fun z => hc ((congrArg Int64.toInt z).trans z0)) (nm_e H)
  · by_cases hc : Hv.toInt = -1
    · rw [if_pos (by omega)] at H
      exact br_t (Int64.toInt_inj.mp (hc.trans z1.symm)) H
    · rw [if_neg (by omega)] at H
      exact br_f (fun z => hc ((congrArg Int64.toInt z).trans z1)) (nm_e H)
theorem zx_multiply (hx : x < 68719476736) (hy : y < 68719476736) (H : post (zx_G P (zp_muF F x y) C A E x y (zp_mu x y) M k d)) :
    wpX_multiply post (zx_G P F C A E x y r M k d) := by
  have ea := zl_signed (h := x / 262144) (by omega)
  have eb := zl_signed (h := y / 262144) (by omega)
  have ex : (nI (x % 262144)).toInt64.toInt = ((x % 262144 : Nat) : Int) := by rw [nI_l (by omega), lN_toInt (by omega)]
  have ey : (nI (y % 262144)).toInt64.toInt = ((y % 262144 : Nat) : Int) := by rw [nI_l (by omega), lN_toInt (by omega)]
  have sx := zp_sIh hx
  have sy := zp_sIh hy
  refine nm_e (nm_e (nm_e (nm_e ?_)))
  rw [zl_shl18m]
  rw [← ea, ← ex] at sx
  rw [← eb, ← ey] at sy
  have na : -131072 ≤ ((nI (x / 262144) ^^^ 131072) - 131072).toInt64.toInt ∧ ((nI (x / 262144) ^^^ 131072) - 131072).toInt64.toInt ≤ 131072 := by rw [ea]; split <;> omega
  have nb : -131072 ≤ ((nI (y / 262144) ^^^ 131072) - 131072).toInt64.toInt ∧ ((nI (y / 262144) ^^^ 131072) - 131072).toInt64.toInt ≤ 131072 := by rw [eb]; split <;> omega
  have nx : 0 ≤ (nI (x % 262144)).toInt64.toInt ∧ (nI (x % 262144)).toInt64.toInt ≤ 262144 := by rw [ex]; omega
  have ny : 0 ≤ (nI (y % 262144)).toInt64.toInt ∧ (nI (y % 262144)).toInt64.toInt ≤ 262144 := by rw [ey]; omega
  have L := zl_mulX na.1 na.2 nb.1 nb.2 nx.1 nx.2 ny.1 ny.2
  have q := zi_prod (((nI (x / 262144) ^^^ 131072) - 131072).toInt64.toInt) (((nI (y / 262144) ^^^ 131072) - 131072).toInt64.toInt) ((nI (x % 262144)).toInt64.toInt) ((nI (y % 262144)).toInt64.toInt)
  rw [← sx, ← sy] at q
  exact zx_mulend L.1 L.2 q H
end
end
section
/-! products: Y -/
section
variable {P F C O A E Wh Dp Mo : Int32} {ac e m w x y : Nat} {M : Nat → Nat} {g : zy_D}
theorem zy_signed {post : Int64 → Prop} (hx : x < 68719476736) (H : post (zp_sg x)) : wpY_signed post (lN x) := by
  unfold zp_sg at H
  by_cases h : x < 34359738368
  · rw [if_pos h] at H
    exact br_t (by rw [show (34359738368 : Int64) = lN 34359738368 from rfl, pk_lLT (by omega) (by decide)]; omega) H
  · rw [if_neg h] at H
    exact br_f (by rw [show (34359738368 : Int64) = lN 34359738368 from rfl, pk_lLT (by omega) (by decide)]; omega) H
theorem zp_sI_abs {x : Nat} (hx : x < 68719476736) : (zp_sI x).natAbs ≤ 34359738368 := by
  unfold zp_sI
  split <;> omega
/-- a long of known size -/
theorem zl_abs {v : Int64} {n : Nat} (hn : n < 9223372036854775808) (h : v.toInt = (n : Int)) : v = lN n := Int64.toInt_inj.mp (by rw [h, pk_lT hn])
theorem zl_neg {v : Int64} {n : Nat} (hn : n < 9223372036854775808) (h : v.toInt = -(n : Int)) : -v = lN n := by
  refine zl_abs hn ?_
  rw [Int64.toInt_neg, h]
  exact (Int.bmod_eq_of_le (by omega) (by omega)).trans (by omega)
theorem zl_le0 {v : Int64} : (0 ≤ v) ↔ 0 ≤ v.toInt := by
  rw [Int64.le_iff_toInt_le, show (0 : Int64).toInt = 0 from by decide]
theorem zy_prod82 {post : Int64 → SY → Prop} {s t : Int64} {n1 n2 mo : Nat} (h1 : n1 ≤ 34359738368) (h2 : n2 ≤ 34359738368) (hm : mo ≤ 34359738368) {mo' : Int64} (hmo : mo' = lN mo)
    (Ha : n1 * n2 ≤ mo → post (lN (zp_wd (s * t))) (zy_G P F C O A E Wh Dp Mo M g)) (Hb : ¬ n1 * n2 ≤ mo → post (lN (zp_wd (s * t))) (zy_G P (F ||| 8) C O A E Wh Dp Mo M g)) :
    wY_product_82 post s t (lN n1) (lN n2) mo' P F C g.1 g.2.1 g.2.2.1 O A E Wh Dp Mo (zp_ME M) g.2.2.2.1 g.2.2.2.2.1 g.2.2.2.2.2 := by
  subst hmo
  unfold wY_product_82
  rw [zl_and36]
  by_cases z : n1 = 0
  · subst z
    exact br_t (by decide) (Ha (by omega))
  · refine br_f (by rw [show (0 : Int64) = lN 0 from rfl, pk_lLE (by omega) (by decide)]; omega) ⟨by rw [show (0 : Int64) = lN 0 from rfl, pk_lEQ (by omega) (by decide)]; exact z, ?_⟩
    rw [pk_lDiv (by omega) (by omega) (by omega)]
    have hd : mo / n1 ≤ mo := Nat.div_le_self _ _
    by_cases c : n1 * n2 ≤ mo
    · refine br_t ?_ (Ha c)
      rw [pk_lLE (by omega) (by omega), Nat.le_div_iff_mul_le (by omega), Nat.mul_comm]
      exact c
    · refine br_f ?_ (nm_e (Hb c))
      rw [pk_lLE (by omega) (by omega), Nat.le_div_iff_mul_le (by omega), Nat.mul_comm]
      exact c
theorem zp_muw {x y : Nat} (hx : x < 68719476736) (hy : y < 68719476736) : zp_wd (zp_sg x * zp_sg y) = zp_mu x y := by
  have h := zp_wdI (zp_sg x * zp_sg y)
  rw [Int64.toInt_mul, zi_bmod36, zp_sg_toInt hx, zp_sg_toInt hy] at h
  unfold zp_mu
  generalize zp_sI x * zp_sI y = z at *
  omega
theorem zy_product {post : Int64 → SY → Prop} (hx : x < 68719476736) (hy : y < 68719476736) (H : post (lN (zp_mu x y)) (zy_G P (zp_muF F x y) C O A E Wh Dp Mo M g)) :
    wpY_product post (zy_G P F C O A E Wh Dp Mo M g) (lN x) (lN y) := by
  unfold wpY_product
  refine zy_signed hx ?_
  refine zy_signed hy ?_
  have ex := zp_sg_toInt hx
  have ey := zp_sg_toInt hy
  have bx := zp_sI_abs hx
  have by' := zp_sI_abs hy
  rw [← zp_muw hx hy] at H
  unfold zp_muF at H
  have hab := Int.natAbs_mul (zp_sI x) (zp_sI y)
  generalize hs : zp_sg x = s at *
  generalize ht : zp_sg y = t at *
  by_cases sx : 0 ≤ zp_sI x
  · have e1 : s = lN (zp_sI x).natAbs := zl_abs (by omega) (by omega)
    refine br_t (zl_le0.mpr (by omega)) ?_
    by_cases sy : 0 ≤ zp_sI y
    · have e2 : t = lN (zp_sI y).natAbs := zl_abs (by omega) (by omega)
      have hp := Int.mul_nonneg sx sy
      refine br_t (zl_le0.mpr (by omega)) (br_t (zl_le0.mpr (by omega)) (br_t (zl_le0.mpr (by omega)) (br_t rfl ?_)))
      show wY_product_82 post s t s t _ P F C g.1 g.2.1 g.2.2.1 O A E Wh Dp Mo (zp_ME M) g.2.2.2.1 g.2.2.2.2.1 g.2.2.2.2.2
      generalize zp_sI x * zp_sI y = z at *
      have K := zy_prod82 (post := post) (P := P) (F := F) (C := C) (O := O) (A := A) (E := E) (Wh := Wh) (Dp := Dp) (Mo := Mo) (M := M) (g := g) (s := s) (t := t) (mo := 34359738367) (mo' := 34359738367) bx by' (by decide) rfl
        (fun c => by rw [if_pos (by omega)] at H; exact H) (fun c => by rw [if_neg (by omega)] at H; exact H)
      rw [← e1, ← e2] at K
      exact K
    · have e2 : -t = lN (zp_sI y).natAbs := zl_neg (by omega) (by omega)
      have hp := Int.mul_nonpos_of_nonneg_of_nonpos sx (by omega : zp_sI y ≤ 0)
      refine br_f (fun z => sy (by have := zl_le0.mp z; omega)) (br_t (zl_le0.mpr (by omega)) (br_f (fun z => sy (by have := zl_le0.mp z; omega)) (br_f (by decide) ?_)))
      show wY_product_82 post s t s (-t) _ P F C g.1 g.2.1 g.2.2.1 O A E Wh Dp Mo (zp_ME M) g.2.2.2.1 g.2.2.2.2.1 g.2.2.2.2.2
      generalize zp_sI x * zp_sI y = z at *
      have K := zy_prod82 (post := post) (P := P) (F := F) (C := C) (O := O) (A := A) (E := E) (Wh := Wh) (Dp := Dp) (Mo := Mo) (M := M) (g := g) (s := s) (t := t) (mo := 34359738368) (mo' := 34359738368) bx by' (by decide) rfl
        (fun c => by rw [if_pos (by omega)] at H; exact H) (fun c => by rw [if_neg (by omega)] at H; exact H)
      rw [← e1, ← e2] at K
      exact K
  · have e1 : -s = lN (zp_sI x).natAbs := zl_neg (by omega) (by omega)
    refine br_f (fun z => sx (by have := zl_le0.mp z; omega)) ?_
    by_cases sy : 0 ≤ zp_sI y
    · have e2 : t = lN (zp_sI y).natAbs := zl_abs (by omega) (by omega)
      have hp := Int.mul_nonpos_of_nonpos_of_nonneg (by omega : zp_sI x ≤ 0) sy
      refine br_t (zl_le0.mpr (by omega)) (br_f (fun z => sx (by have := zl_le0.mp z; omega)) (br_t (zl_le0.mpr (by omega)) (br_f (by decide) ?_)))
      show wY_product_82 post s t (-s) t _ P F C g.1 g.2.1 g.2.2.1 O A E Wh Dp Mo (zp_ME M) g.2.2.2.1 g.2.2.2.2.1 g.2.2.2.2.2
      generalize zp_sI x * zp_sI y = z at *
      have K := zy_prod82 (post := post) (P := P) (F := F) (C := C) (O := O) (A := A) (E := E) (Wh := Wh) (Dp := Dp) (Mo := Mo) (M := M) (g := g) (s := s) (t := t) (mo := 34359738368) (mo' := 34359738368) bx by' (by decide) rfl
        (fun c => by rw [if_pos (by omega)] at H; exact H) (fun c => by rw [if_neg (by omega)] at H; exact H)
      rw [← e1, ← e2] at K
      exact K
    · have e2 : -t = lN (zp_sI y).natAbs := zl_neg (by omega) (by omega)
      have hp := Int.mul_nonneg_of_nonpos_of_nonpos (by omega : zp_sI x ≤ 0) (by omega : zp_sI y ≤ 0)
      refine br_f (fun z => sy (by have := zl_le0.mp z; omega)) (br_f (fun z => sx (by have := zl_le0.mp z; omega)) (br_f (fun z => sy (by have := zl_le0.mp z; omega)) (br_t rfl ?_)))
      show wY_product_82 post s t (-s) (-t) _ P F C g.1 g.2.1 g.2.2.1 O A E Wh Dp Mo (zp_ME M) g.2.2.2.1 g.2.2.2.2.1 g.2.2.2.2.2
      generalize zp_sI x * zp_sI y = z at *
      have K := zy_prod82 (post := post) (P := P) (F := F) (C := C) (O := O) (A := A) (E := E) (Wh := Wh) (Dp := Dp) (Mo := Mo) (M := M) (g := g) (s := s) (t := t) (mo := 34359738367) (mo' := 34359738367) bx by' (by decide) rfl
        (fun c => by rw [if_pos (by omega)] at H; exact H) (fun c => by rw [if_neg (by omega)] at H; exact H)
      rw [← e1, ← e2] at K
      exact K
end
end
section
/-! quotients -/
def zp_dz (x y : Nat) : Prop := zp_sg y = 0 ∨ (zp_sg y = -1 ∧ x = 34359738368)
def zp_dv (M : Nat → Nat) (e ac m x y : Nat) : Nat → Nat :=
  if m = 2 then zp_rs M e ac m (zp_wd (zp_sg x / zp_sg y)) else zp_up (zp_rs M e ac m (zp_wd (zp_sg x / zp_sg y))) ((ac + 1) % 16) (zp_wd (zp_sg x - zp_sg x / zp_sg y * zp_sg y))
theorem zp_dvW {M : Nat → Nat} {e ac m x y : Nat} (hM : zp_MW M) : zp_MW (zp_dv M e ac m x y) := by
  unfold zp_dv
  split
  · exact zp_rsW hM (zp_wd_lt _)
  · exact zp_MWu (zp_rsW hM (zp_wd_lt _)) (zp_wd_lt _)
theorem zn_nx (ac : Nat) : (nI ac + 1) &&& 15 = nI ((ac + 1) % 16) := by rw [nI_1, zn_m4]
section
variable {P F C A E : Int32} {p ac e x y r m f : Nat} {M : Nat → Nat} {k : zx_K} {d : zx_D} {post : SX → Prop}
theorem zx_value {post : Int64 → Prop} (hx : x < 68719476736) (H : post (zp_sg x)) : wpX_value post (nI (x / 262144)) (nI (x % 262144)) := by
  unfold wpX_value
  rw [zl_value hx]
  exact H
theorem zx_div69 (hk : zp_CV M k) (hac : ac < 16) (hm : m < 4) (hz : ¬ zp_sg y = 0)
    (H : ∀ r' k', r' < 68719476736 → zp_CV (zp_dv M e ac m x y) k' → post (zx_G P F C (nI ac) (nI e) x y r' (zp_dv M e ac m x y) k' d)) :
    wX_divide_69 post (nI m) (zp_sg x) (zp_sg y) P F C d.1 d.2.1 d.2.2.1 d.2.2.2.1 (nI ac) (nI e) (nI (x / 262144)) (nI (x % 262144)) (nI (y / 262144)) (nI (y % 262144)) (nI (r / 262144)) (nI (r % 262144)) (zp_HI M) (zp_LO M) k.1 k.2.1 k.2.2.1 k.2.2.2.1 k.2.2.2.2 d.2.2.2.2.1 d.2.2.2.2.2.1 d.2.2.2.2.2.2.1 d.2.2.2.2.2.2.2.1 d.2.2.2.2.2.2.2.2 := by
  refine ⟨hz, nm_e (zx_result (zx_store hk hac hm (fun k1 hk1 => ⟨hz, zx_result ?_⟩)))⟩
  unfold zp_dv at H
  refine pk_eq m 2 (fun h => ?_) (fun h => ?_)
  · rw [if_pos h] at H
    exact H _ k1 (zp_wd_lt _) hk1
  · rw [if_neg h] at H
    refine zx_write hk1 ((ac + 1) % 16) _ (zn_nx ac) rfl rfl ?_
    rw [Nat.mod_eq_of_lt (show (ac + 1) % 16 < 256 by omega)]
    exact fun k' hk' => H _ k' (zp_wd_lt _) hk'
theorem zx_divide (hk : zp_CV M k) (hac : ac < 16) (hm : m < 4) (hx : x < 68719476736) (hy : y < 68719476736) (hr : r < 68719476736)
    (Hz : zp_dz x y → post (zx_G P (F ||| 9) C (nI ac) (nI e) x y r M k d))
    (H : ¬ zp_dz x y → ∀ r' k', r' < 68719476736 → zp_CV (zp_dv M e ac m x y) k' → post (zx_G P F C (nI ac) (nI e) x y r' (zp_dv M e ac m x y) k' d)) :
    wpX_divide post (zx_G P F C (nI ac) (nI e) x y r M k d) (nI m) := by
  unfold wpX_divide
  refine zx_value hx ?_
  refine zx_value hy ?_
  unfold zp_dz at Hz H
  by_cases h0 : zp_sg y = 0
  · exact br_t h0 (nm_e (Hz (Or.inl h0)))
  · refine br_f h0 ?_
    by_cases h1 : zp_sg y = -1
    · refine br_t h1 (pk_eq (x / 262144) 131072 (fun h2 => pk_eq (x % 262144) 0 (fun h3 => ?_) (fun h3 => ?_)) (fun h2 => ?_))
      · exact nm_e (Hz (Or.inr ⟨h1, by omega⟩))
      · exact zx_div69 hk hac hm h0 (H (fun z => z.elim h0 (fun z => by omega)))
      · exact zx_div69 hk hac hm h0 (H (fun z => z.elim h0 (fun z => by omega)))
    · exact br_f h1 (zx_div69 hk hac hm h0 (H (fun z => z.elim h0 (fun z => h1 z.1))))
end
section
variable {P F C Wh Dp Mo : Int32} {op ac e m w x y : Nat} {M : Nat → Nat} {g : zy_D} {post : SY → Prop}
theorem zp_sgTop {x : Nat} (hx : x < 68719476736) : zp_sg x = -34359738368 ↔ x = 34359738368 := by
  rw [← Int64.toInt_inj, zp_sg_toInt hx, show (-34359738368 : Int64).toInt = -34359738368 from by decide]
  unfold zp_sI
  split <;> omega
theorem zy_div70 {O : Int32} (hac : ac < 16) (hm : m < 4) (hz : ¬ zp_sg y = 0) (H : post (zy_G P F C O (nI ac) (nI e) Wh Dp Mo (zp_dv M e ac m x y) g)) :
    wY_divide_70 post (nI m) (zp_sg x) (zp_sg y) P F C g.1 g.2.1 g.2.2.1 O (nI ac) (nI e) Wh Dp Mo (zp_ME M) g.2.2.2.1 g.2.2.2.2.1 g.2.2.2.2.2 := by
  unfold wY_divide_70
  rw [zl_and36, zl_and36]
  refine ⟨hz, zy_result hac hm ?_⟩
  unfold zp_dv at H
  refine pk_eq m 2 (fun h => ?_) (fun h => ⟨hz, ?_⟩)
  · rw [if_pos h] at H
    exact H
  · rw [if_neg h] at H
    have K : vp_updL (zp_ME (zp_rs M e ac m (zp_wd (zp_sg x / zp_sg y)))) ((nI ac + 1) &&& 15).toNatClampNeg (lN (zp_wd (zp_sg x - zp_sg x / zp_sg y * zp_sg y))) = zp_ME (zp_up (zp_rs M e ac m (zp_wd (zp_sg x / zp_sg y))) ((ac + 1) % 16) (zp_wd (zp_sg x - zp_sg x / zp_sg y * zp_sg y))) := by
      rw [zn_nx, nI_clamp (by omega), zp_MEu]
    exact ⟨by rw [zn_nx]; exact vp_in_nI (by omega) (by decide), nm_r K H⟩
theorem zy_divide (hac : ac < 16) (he : e < 262144) (hop : op < 512) (hM : zp_MW M)
    (Hz : zp_dz (M ac) (zp_sec M e (op % 4)) → post (zy_G P (F ||| 9) C (nI op) (nI ac) (nI e) Wh Dp Mo M g))
    (H : ¬ zp_dz (M ac) (zp_sec M e (op % 4)) → post (zy_G P F C (nI op) (nI ac) (nI e) Wh Dp Mo (zp_dv M e ac (op % 4) (M ac) (zp_sec M e (op % 4))) g)) :
    wpY_divide post (zy_G P F C (nI op) (nI ac) (nI e) Wh Dp Mo M g) := by
  have hy := zp_sec_lt (m := op % 4) hM he
  have hx := hM ac
  refine nm_r (zn_m2 op) ⟨zx_iA hac, ?_⟩
  rw [zx_cA hac]
  refine zy_signed hx (zy_second he (by omega) (zy_signed hy ?_))
  unfold zp_dz at Hz H
  by_cases h0 : zp_sg (zp_sec M e (op % 4)) = 0
  · exact br_t h0 (nm_e (Hz (Or.inl h0)))
  · refine br_f h0 ?_
    by_cases h2 : M ac = 34359738368
    · refine br_t ((zp_sgTop hx).mpr h2) ?_
      by_cases h1 : zp_sg (zp_sec M e (op % 4)) = -1
      · exact br_t h1 (nm_e (Hz (Or.inr ⟨h1, h2⟩)))
      · exact br_f h1 (zy_div70 hac (by omega) h0 (H (fun z => z.elim h0 (fun z => h1 z.1))))
    · exact br_f (fun z => h2 ((zp_sgTop hx).mp z)) (zy_div70 hac (by omega) h0 (H (fun z => z.elim h0 (fun z => h2 z.2))))
end
end
section
/-! one instruction: both sides go to one outcome -/
theorem zp_and2p (n k : Nat) : n &&& 2 ^ k = n / 2 ^ k % 2 * 2 ^ k := by
  have hb : n.testBit k = decide (n / 2 ^ k % 2 = 1) := Nat.testBit_eq_decide_div_mod_eq
  have h : n / 2 ^ k % 2 = 0 ∨ n / 2 ^ k % 2 = 1 := by omega
  apply Nat.eq_of_testBit_eq
  intro i
  rw [Nat.testBit_and, Nat.testBit_two_pow]
  rcases h with h | h
  · rw [h, Nat.zero_mul, Nat.zero_testBit]
    by_cases e : k = i
    · subst e
      rw [hb, h]
      simp
    · simp [e]
  · rw [h, Nat.one_mul, Nat.testBit_two_pow]
    by_cases e : k = i
    · subst e
      rw [hb, h]
      simp
    · simp [e]
theorem zn_bit (n k : Nat) (hk : k < 31) : nI n &&& nI (2 ^ k) = 0 ↔ n / 2 ^ k % 2 = 0 := by
  rw [nx_and, zp_and2p]
  have hp : 2 ^ k < 2 ^ 31 := Nat.pow_lt_pow_right (by decide) hk
  have hq : 0 < 2 ^ k := Nat.two_pow_pos k
  have h : n / 2 ^ k % 2 = 0 ∨ n / 2 ^ k % 2 = 1 := by omega
  rcases h with h | h
  · rw [h, Nat.zero_mul]
    exact ⟨fun _ => rfl, fun _ => rfl⟩
  · rw [h, Nat.one_mul]
    exact ⟨fun z => absurd z (nI_ne0 hq hp), fun z => by omega⟩
theorem zn_b2 (n : Nat) : nI n &&& 2 = 0 ↔ n / 2 % 2 = 0 := zn_bit n 1 (by decide)
theorem zn_b4 (n : Nat) : nI n &&& 4 = 0 ↔ n / 4 % 2 = 0 := zn_bit n 2 (by decide)
theorem zn_b8 (n : Nat) : nI n &&& 8 = 0 ↔ n / 8 % 2 = 0 := zn_bit n 3 (by decide)
theorem zn_b32 (n : Nat) : nI n &&& 32 = 0 ↔ n / 32 % 2 = 0 := zn_bit n 5 (by decide)
theorem zn_b1 (n : Nat) : nI n &&& 1 = 0 ↔ n % 2 = 0 := by
  rw [zn_m1, ← nI_0, nI_eq (by omega) (by decide)]
theorem zn_b11 (n : Nat) : nI n &&& 1 = 1 ↔ n % 2 = 1 := by
  rw [zn_m1, show (1 : Int32) = nI 1 from rfl, nI_eq (by omega) (by decide)]
def zo_X (WX : (Int32 → SX → Prop) → Prop) (rv : Int32) (p : Nat) (F C : Int32) (ac e : Nat) (M : Nat → Nat) (d : zx_D) : Prop :=
  ∀ post : Int32 → SX → Prop, (∀ x y r k, x < 68719476736 → y < 68719476736 → r < 68719476736 → zp_CV M k → post rv (zx_S p F C ac e x y r M k d)) → WX post
def zo_Y (WY : (SY → Prop) → Prop) (p : Nat) (F C : Int32) (op ac e : Nat) (q : Int32 × Int32 × Int32) (M : Nat → Nat) (g : zy_D) : Prop :=
  ∀ post : SY → Prop, post (zy_S p F C op ac e q M g) → WY post
/-- the same for all that X keeps by itself -/
def zo_A (M0 : Nat → Nat) (WX : Nat → Nat → Nat → zx_K → (Int32 → SX → Prop) → Prop) (rv : Int32) (p : Nat) (F C : Int32) (ac e : Nat) (M : Nat → Nat) (d : zx_D) : Prop :=
  ∀ x y r k, x < 68719476736 → y < 68719476736 → r < 68719476736 → zp_CV M0 k → zo_X (WX x y r k) rv p F C ac e M d
def zo_good (M0 : Nat → Nat) (WX : Nat → Nat → Nat → zx_K → (Int32 → SX → Prop) → Prop) (WY : (SY → Prop) → Prop) (C : Int32) (op ac e : Nat) (q : Int32 × Int32 × Int32) (d : zx_D) (g : zy_D) : Prop :=
  ∃ (p : Nat) (F : Int32) (M : Nat → Nat), p < 262144 ∧ zp_FL F ∧ zp_MW M ∧ zo_A M0 WX (-1) p F C ac e M d ∧ zo_Y WY p F C op ac e q M g
def zo_ctx (p : Nat) (F : Int32) (op ac e : Nat) (M : Nat → Nat) : Prop :=
  p < 262144 ∧ zp_FL F ∧ op < 512 ∧ ac < 16 ∧ e < 262144 ∧ zp_MW M
section
variable {P F C A E : Int32} {p op ac e x y r m f : Nat} {M : Nat → Nat} {k : zx_K} {d : zx_D} {g : zy_D} {q : Int32 × Int32 × Int32}
theorem zd_computes {post : Int32 → SX → Prop} (hop : op < 512)
    (h0 : op / 4 % 16 < 4 → wX_computes_88 post (nI op) (nI (op % 4)) P F C d.1 d.2.1 d.2.2.1 d.2.2.2.1 A E (nI (x / 262144)) (nI (x % 262144)) (nI (y / 262144)) (nI (y % 262144)) (nI (r / 262144)) (nI (r % 262144)) (zp_HI M) (zp_LO M) k.1 k.2.1 k.2.2.1 k.2.2.2.1 k.2.2.2.2 d.2.2.2.2.1 d.2.2.2.2.2.1 d.2.2.2.2.2.2.1 d.2.2.2.2.2.2.2.1 d.2.2.2.2.2.2.2.2)
    (h4 : op / 4 % 16 = 4 → wpX_operands (fun u => wpX_multiply (fun u => wpX_store (fun u => post (-1) u) u (nI (op % 4))) u) (zx_G P F C A E x y r M k d) (nI (op % 4)))
    (h5 : op / 4 % 16 = 5 ∨ op / 4 % 16 = 7 → wX_computes_218 post P F C d.1 d.2.1 d.2.2.1 d.2.2.2.1 A E (nI (x / 262144)) (nI (x % 262144)) (nI (y / 262144)) (nI (y % 262144)) (nI (r / 262144)) (nI (r % 262144)) (zp_HI M) (zp_LO M) k.1 k.2.1 k.2.2.1 k.2.2.2.1 k.2.2.2.2 d.2.2.2.2.1 d.2.2.2.2.2.1 d.2.2.2.2.2.2.1 d.2.2.2.2.2.2.2.1 d.2.2.2.2.2.2.2.2)
    (h6 : op / 4 % 16 = 6 → wpX_operands (fun u => wpX_divide (fun u => post (-1) u) u (nI (op % 4))) (zx_G P F C A E x y r M k d) (nI (op % 4)))
    (h8 : op / 4 % 16 = 8 ∨ op / 4 % 16 = 9 → wX_computes_190 post (nI op) P F C d.1 d.2.1 d.2.2.1 d.2.2.2.1 A E (nI (x / 262144)) (nI (x % 262144)) (nI (y / 262144)) (nI (y % 262144)) (nI (r / 262144)) (nI (r % 262144)) (zp_HI M) (zp_LO M) k.1 k.2.1 k.2.2.1 k.2.2.2.1 k.2.2.2.2 d.2.2.2.2.1 d.2.2.2.2.2.1 d.2.2.2.2.2.2.1 d.2.2.2.2.2.2.2.1 d.2.2.2.2.2.2.2.2)
    (h10 : op / 4 % 16 = 10 ∨ op / 4 % 16 = 11 → wX_computes_199 post (nI op) P F C d.1 d.2.1 d.2.2.1 d.2.2.2.1 A E (nI (x / 262144)) (nI (x % 262144)) (nI (y / 262144)) (nI (y % 262144)) (nI (r / 262144)) (nI (r % 262144)) (zp_HI M) (zp_LO M) k.1 k.2.1 k.2.2.1 k.2.2.2.1 k.2.2.2.2 d.2.2.2.2.1 d.2.2.2.2.2.1 d.2.2.2.2.2.2.1 d.2.2.2.2.2.2.2.1 d.2.2.2.2.2.2.2.2)
    (h12 : op / 4 % 16 = 12 ∨ op / 4 % 16 = 13 → wX_computes_208 post (nI op) P F C d.1 d.2.1 d.2.2.1 d.2.2.2.1 A E (nI (x / 262144)) (nI (x % 262144)) (nI (y / 262144)) (nI (y % 262144)) (nI (r / 262144)) (nI (r % 262144)) (zp_HI M) (zp_LO M) k.1 k.2.1 k.2.2.1 k.2.2.2.1 k.2.2.2.2 d.2.2.2.2.1 d.2.2.2.2.2.1 d.2.2.2.2.2.2.1 d.2.2.2.2.2.2.2.1 d.2.2.2.2.2.2.2.2)
    (h14 : op / 4 % 16 = 14 ∨ op / 4 % 16 = 15 → wX_computes_137 post (nI op) (nI (op % 4)) P F C d.1 d.2.1 d.2.2.1 d.2.2.2.1 A E (nI (x / 262144)) (nI (x % 262144)) (nI (y / 262144)) (nI (y % 262144)) (nI (r / 262144)) (nI (r % 262144)) (zp_HI M) (zp_LO M) k.1 k.2.1 k.2.2.1 k.2.2.2.1 k.2.2.2.2 d.2.2.2.2.1 d.2.2.2.2.2.1 d.2.2.2.2.2.2.1 d.2.2.2.2.2.2.2.1 d.2.2.2.2.2.2.2.2) :
    wpX_computes post (zx_G P F C A E x y r M k d) (nI op) := by
  refine nm_r (zn_m2 op) (nm_r (e' := nI (op / 4 % 16)) (by rw [zn_shr2 (by omega), zn_m4]) ?_)
  have hk : op / 4 % 16 < 16 := by omega
  generalize op / 4 % 16 = kk at *
  refine pk_lt kk 0 (fun h => by omega) (fun _ => pk_lt 15 kk (fun h => by omega) (fun _ => ?_))
  refine pk_eq kk 0 (fun h => h0 (by omega)) (fun _ => ?_)
  refine pk_eq kk 1 (fun h => h0 (by omega)) (fun _ => ?_)
  refine pk_eq kk 2 (fun h => h0 (by omega)) (fun _ => ?_)
  refine pk_eq kk 3 (fun h => h0 (by omega)) (fun _ => ?_)
  refine pk_eq kk 4 (fun h => h4 (by omega)) (fun _ => ?_)
  refine pk_eq kk 5 (fun h => h5 (by omega)) (fun _ => ?_)
  refine pk_eq kk 6 (fun h => h6 (by omega)) (fun _ => ?_)
  refine pk_eq kk 7 (fun h => h5 (by omega)) (fun _ => ?_)
  refine pk_eq kk 8 (fun h => h8 (by omega)) (fun _ => ?_)
  refine pk_eq kk 9 (fun h => h8 (by omega)) (fun _ => ?_)
  refine pk_eq kk 10 (fun h => h10 (by omega)) (fun _ => ?_)
  refine pk_eq kk 11 (fun h => h10 (by omega)) (fun _ => ?_)
  refine pk_eq kk 12 (fun h => h12 (by omega)) (fun _ => ?_)
  refine pk_eq kk 13 (fun h => h12 (by omega)) (fun _ => ?_)
  refine pk_eq kk 14 (fun h => h14 (by omega)) (fun _ => ?_)
  exact pk_eq kk 15 (fun h => h14 (by omega)) (fun _ => trivial)
theorem zo_move (c : zo_ctx p F op ac e M) :
    zo_good M (fun x y r k post => wX_computes_88 post (nI op) (nI (op % 4)) (nI p) F C d.1 d.2.1 d.2.2.1 d.2.2.2.1 (nI ac) (nI e) (nI (x / 262144)) (nI (x % 262144)) (nI (y / 262144)) (nI (y % 262144)) (nI (r / 262144)) (nI (r % 262144)) (zp_HI M) (zp_LO M) k.1 k.2.1 k.2.2.1 k.2.2.2.1 k.2.2.2.2 d.2.2.2.2.1 d.2.2.2.2.2.1 d.2.2.2.2.2.2.1 d.2.2.2.2.2.2.2.1 d.2.2.2.2.2.2.2.2) (fun post => wpY_move post (zy_S p F C op ac e q M g)) C op ac e q d g := by
  obtain ⟨hp, hF, hop, hac, he, hM⟩ := c
  have ht := zp_tak_lt (ac := ac) (m := op % 4) hM he
  refine ⟨p, zp_mvF F (op / 4 % 4) (zp_tak M e ac (op % 4)), zp_gv M e ac (op % 4) (zp_mv (op / 4 % 4) (zp_tak M e ac (op % 4))), hp, zp_mvFL hF, zp_gvW hM (zp_mv_lt ht), ?_, ?_⟩
  · intro x y r k hx hy hr hk post H
    unfold wX_computes_88
    rw [zn_shr2 (by omega), zn_m2]
    exact zx_source hac he (by omega) (zx_move hx ht (by omega) (fun x' hx' => zx_deliver hk hac (by omega) (fun k' hk' => H x' _ _ k' hx' ht (zp_mv_lt ht) hk')))
  · intro post H
    exact zy_move hac he hop hM H
theorem zo_mul (c : zo_ctx p F op ac e M) (ho : op < 148) :
    zo_good M (fun x y r k post => wpX_operands (fun u => wpX_multiply (fun u => wpX_store (fun u => post (-1) u) u (nI (op % 4))) u) (zx_S p F C ac e x y r M k d) (nI (op % 4))) (fun post => wpY_reckon post (zy_S p F C op ac e q M g)) C op ac e q d g := by
  obtain ⟨hp, hF, hop, hac, he, hM⟩ := c
  have ht := zp_sec_lt (m := op % 4) hM he
  refine ⟨p, zp_muF F (M ac) (zp_sec M e (op % 4)), zp_rs M e ac (op % 4) (zp_mu (M ac) (zp_sec M e (op % 4))), hp, zp_muFL hF, zp_rsW hM (zp_mu_lt _ _), ?_, ?_⟩
  · intro x y r k hx hy hr hk post H
    exact zx_operands hac he (by omega) (zx_multiply (hM ac) ht (zx_store hk hac (by omega) (fun k' hk' => H _ _ _ k' (hM ac) ht (zp_mu_lt _ _) hk')))
  · intro post H
    refine nm_r (zn_m2 op) (zy_accumulator hac (zy_second he (by omega) ?_))
    refine pk_le 148 op (fun h => by omega) (fun _ => ?_)
    exact zy_product (hM ac) ht (zy_result hac (by omega) H)
theorem zo_addsub (c : zo_ctx p F op ac e M) (ho : 184 ≤ op) (ho2 : op < 192) :
    zo_good M (fun x y r k post => wX_computes_137 post (nI op) (nI (op % 4)) (nI p) F C d.1 d.2.1 d.2.2.1 d.2.2.2.1 (nI ac) (nI e) (nI (x / 262144)) (nI (x % 262144)) (nI (y / 262144)) (nI (y % 262144)) (nI (r / 262144)) (nI (r % 262144)) (zp_HI M) (zp_LO M) k.1 k.2.1 k.2.2.1 k.2.2.2.1 k.2.2.2.2 d.2.2.2.2.1 d.2.2.2.2.2.1 d.2.2.2.2.2.2.1 d.2.2.2.2.2.2.2.1 d.2.2.2.2.2.2.2.2) (fun post => wpY_reckon post (zy_S p F C op ac e q M g)) C op ac e q d g := by
  obtain ⟨hp, hF, hop, hac, he, hM⟩ := c
  have ht := zp_sec_lt (m := op % 4) hM he
  by_cases h4 : op < 188
  · refine ⟨p, zp_fl F (M ac) (zp_sec M e (op % 4)) 0, zp_rs M e ac (op % 4) (zp_sm (M ac) (zp_sec M e (op % 4)) 0), hp, zp_FLfl hF _ _ _, zp_rsW hM (zp_sm_lt _ _ _), ?_, ?_⟩
    · intro x y r k hx hy hr hk post H
      have b : nI op &&& 4 = 0 := (zn_b4 op).mpr (by omega)
      exact zx_operands hac he (by omega) (br_t b (zx_add _ 0 (hM ac) ht (by decide) rfl rfl rfl (zx_store hk hac (by omega) (fun k' hk' => H _ _ _ k' (hM ac) ht (zp_sm_lt _ _ _) hk'))))
    · intro post H
      refine nm_r (zn_m2 op) (zy_accumulator hac (zy_second he (by omega) ?_))
      refine pk_le 148 op (fun _ => pk_le 188 op (fun h => by omega) (fun _ => ?_)) (fun h => by omega)
      exact zy_sum _ _ 0 (hM ac) ht (by decide) rfl (zy_result hac (by omega) H)
  · refine ⟨p, zp_fl F (M ac) (68719476735 - zp_sec M e (op % 4)) 1, zp_rs M e ac (op % 4) (zp_sm (M ac) (68719476735 - zp_sec M e (op % 4)) 1), hp, zp_FLfl hF _ _ _, zp_rsW hM (zp_sm_lt _ _ _), ?_, ?_⟩
    · intro x y r k hx hy hr hk post H
      have b : ¬ nI op &&& 4 = 0 := fun z => by have := (zn_b4 op).mp z; omega
      refine zx_operands hac he (by omega) (br_f b (zx_add (68719476735 - zp_sec M e (op % 4)) 1 (hM ac) (by omega) (by decide) ?_ ?_ rfl (zx_store hk hac (by omega) (fun k' hk' => H _ _ _ k' (hM ac) ht (zp_sm_lt _ _ _) hk'))))
      · rw [zn_not18 (by omega)]
        exact congrArg nI (by omega)
      · rw [zn_not18 (by omega)]
        exact congrArg nI (by omega)
    · intro post H
      refine nm_r (zn_m2 op) (zy_accumulator hac (zy_second he (by omega) ?_))
      refine pk_le 148 op (fun _ => pk_le 188 op (fun _ => ?_) (fun h => by omega)) (fun h => by omega)
      rw [zl_not36 ht]
      exact zy_sum _ _ 1 (hM ac) (by omega) (by decide) rfl (zy_result hac (by omega) H)
theorem zo_div (c : zo_ctx p F op ac e M) :
    zo_good M (fun x y r k post => wpX_operands (fun u => wpX_divide (fun u => post (-1) u) u (nI (op % 4))) (zx_S p F C ac e x y r M k d) (nI (op % 4))) (fun post => wpY_divide post (zy_S p F C op ac e q M g)) C op ac e q d g := by
  obtain ⟨hp, hF, hop, hac, he, hM⟩ := c
  have ht := zp_sec_lt (m := op % 4) hM he
  by_cases hz : zp_dz (M ac) (zp_sec M e (op % 4))
  · refine ⟨p, F ||| 9, M, hp, zp_FL9 hF, hM, ?_, ?_⟩
    · intro x y r k hx hy hr hk post H
      exact zx_operands hac he (by omega) (zx_divide hk hac (by omega) (hM ac) ht hr (fun _ => H _ _ _ k (hM ac) ht hr hk) (fun z => absurd hz z))
    · intro post H
      exact zy_divide hac he hop hM (fun _ => H) (fun z => absurd hz z)
  · refine ⟨p, F, zp_dv M e ac (op % 4) (M ac) (zp_sec M e (op % 4)), hp, hF, zp_dvW hM, ?_, ?_⟩
    · intro x y r k hx hy hr hk post H
      exact zx_operands hac he (by omega) (zx_divide hk hac (by omega) (hM ac) ht hr (fun z => absurd z hz) (fun _ r' k' hr' hk' => H _ _ _ k' (hM ac) ht hr' hk'))
    · intro post H
      exact zy_divide hac he hop hM (fun z => absurd z hz) (fun _ => H)
end
end
section
/-! the sixteen functions of two bits -/
def zp_t1 (f a b : Nat) : Nat := if f % 2 = 0 then 0 else a &&& b
def zp_t2 (N f a b t : Nat) : Nat := if f / 2 % 2 = 0 then t else t ||| ((a ^^^ N) &&& b)
def zp_t3 (N f a b t : Nat) : Nat := if f / 4 % 2 = 0 then t else t ||| (a &&& (b ^^^ N))
def zp_t4 (N f a b t : Nat) : Nat := if f / 8 % 2 = 0 then t else t ||| ((a ^^^ N) &&& (b ^^^ N))
def zp_bt (N m f a b : Nat) : Nat := zp_t4 N f a b (zp_t3 N f a b (zp_t2 N f a b (zp_t1 f a b))) &&& m
def zp_bq (f : Nat) (a b : Bool) : Bool := (((decide (f % 2 = 1) && (a && b)) || (decide (f / 2 % 2 = 1) && (!a && b))) || (decide (f / 4 % 2 = 1) && (a && !b))) || (decide (f / 8 % 2 = 1) && (!a && !b))
theorem zp_bt_tb {N m f a b i : Nat} (hN : m.testBit i = true → N.testBit i = true) : (zp_bt N m f a b).testBit i = (zp_bq f (a.testBit i) (b.testBit i) && m.testBit i) := by
  unfold zp_bt
  rw [Nat.testBit_and]
  cases hm : m.testBit i with
  | false => simp
  | true =>
    have h1 := hN hm
    rw [Bool.and_true, Bool.and_true]
    unfold zp_t4 zp_t3 zp_t2 zp_t1 zp_bq
    have c1 : f % 2 = 0 ∨ f % 2 = 1 := by omega
    have c2 : f / 2 % 2 = 0 ∨ f / 2 % 2 = 1 := by omega
    have c3 : f / 4 % 2 = 0 ∨ f / 4 % 2 = 1 := by omega
    have c4 : f / 8 % 2 = 0 ∨ f / 8 % 2 = 1 := by omega
    generalize f % 2 = f1 at *
    generalize f / 2 % 2 = f2 at *
    generalize f / 4 % 2 = f3 at *
    generalize f / 8 % 2 = f4 at *
    rcases c1 with rfl | rfl <;> rcases c2 with rfl | rfl <;> rcases c3 with rfl | rfl <;> rcases c4 with rfl | rfl <;>
      simp [Nat.testBit_or, Nat.testBit_and, Nat.testBit_xor, h1]
theorem zp_hiB (z i : Nat) : (z / 262144).testBit i = z.testBit (18 + i) := by
  rw [show z / 262144 = z >>> 18 from (Nat.shiftRight_eq_div_pow z 18).symm, Nat.testBit_shiftRight]
theorem zp_loB (z i : Nat) : (z % 262144).testBit i = (decide (i < 18) && z.testBit i) := Nat.testBit_mod_two_pow z 18 i
theorem zp_ones (n i : Nat) : (2 ^ n - 1).testBit i = decide (i < n) := Nat.testBit_two_pow_sub_one n i
theorem zp_o18 (i : Nat) : (262143 : Nat).testBit i = decide (i < 18) := zp_ones 18 i
theorem zp_o32 (i : Nat) : (4294967295 : Nat).testBit i = decide (i < 32) := zp_ones 32 i
theorem zp_o36 (i : Nat) : (68719476735 : Nat).testBit i = decide (i < 36) := zp_ones 36 i
theorem zp_o64 (i : Nat) : (18446744073709551615 : Nat).testBit i = decide (i < 64) := zp_ones 64 i
/-- on words of 36 bits -/
def zp_lg (f x y : Nat) : Nat := zp_bt 18446744073709551615 68719476735 f x y
theorem zp_lg_tb (f x y i : Nat) : (zp_lg f x y).testBit i = (zp_bq f (x.testBit i) (y.testBit i) && decide (i < 36)) := by
  unfold zp_lg
  rw [zp_bt_tb (by rw [zp_o36, zp_o64]; simp; omega), zp_o36]
theorem zp_lg_lt (f x y : Nat) : zp_lg f x y < 68719476736 := by
  unfold zp_lg zp_bt
  exact Nat.lt_of_le_of_lt Nat.and_le_right (by decide)
theorem zp_lgH (f x y : Nat) : zp_bt 4294967295 262143 f (x / 262144) (y / 262144) = zp_lg f x y / 262144 := by
  apply Nat.eq_of_testBit_eq
  intro i
  rw [zp_hiB, zp_lg_tb, zp_bt_tb (by rw [zp_o18, zp_o32]; simp; omega), zp_o18, zp_hiB, zp_hiB]
  congr 1
  exact decide_eq_decide.mpr (by omega)
theorem zp_lgL (f x y : Nat) : zp_bt 4294967295 262143 f (x % 262144) (y % 262144) = zp_lg f x y % 262144 := by
  apply Nat.eq_of_testBit_eq
  intro i
  rw [zp_loB, zp_lg_tb, zp_bt_tb (by rw [zp_o18, zp_o32]; simp; omega), zp_o18, zp_loB, zp_loB]
  by_cases h : i < 18
  · simp [h, show i < 36 by omega]
  · simp [h]
theorem zn_m1e : (-1 : Int32) = nI 4294967295 := by decide
theorem zl_m1e : (-1 : Int64) = lN 18446744073709551615 := by decide
theorem zx_bits {post : Int32 → Prop} {f a b : Nat} (H : post (nI (zp_bt 4294967295 262143 f a b))) : wpX_bits post (nI f) (nI a) (nI b) := by
  have K4 : ∀ t, post (nI (zp_t4 4294967295 f a b t &&& 262143)) → wX_bits_43 post (nI f) (nI a) (nI b) (nI t) := by
    intro t Ht
    unfold zp_t4 at Ht
    by_cases h : f / 8 % 2 = 0
    · rw [if_pos h] at Ht
      refine br_t ((zn_b8 f).mpr h) ?_
      rw [show (262143 : Int32) = nI 262143 from rfl, nx_and]
      exact Ht
    · rw [if_neg h] at Ht
      refine br_f (fun z => h ((zn_b8 f).mp z)) (nm_r (e' := nI (t ||| ((a ^^^ 4294967295) &&& (b ^^^ 4294967295)))) (by rw [zn_m1e, nx_xor, nx_xor, nx_and, zn_or]) ?_)
      rw [show (262143 : Int32) = nI 262143 from rfl, nx_and]
      exact Ht
  have K3 : ∀ t, post (nI (zp_t4 4294967295 f a b (zp_t3 4294967295 f a b t) &&& 262143)) → wX_bits_29 post (nI f) (nI a) (nI b) (nI t) := by
    intro t Ht
    unfold zp_t3 at Ht
    by_cases h : f / 4 % 2 = 0
    · rw [if_pos h] at Ht
      exact br_t ((zn_b4 f).mpr h) (K4 t Ht)
    · rw [if_neg h] at Ht
      exact br_f (fun z => h ((zn_b4 f).mp z)) (nm_r (e' := nI (t ||| (a &&& (b ^^^ 4294967295)))) (by rw [zn_m1e, nx_xor, nx_and, zn_or]) (K4 _ Ht))
  have K2 : ∀ t, post (nI (zp_t4 4294967295 f a b (zp_t3 4294967295 f a b (zp_t2 4294967295 f a b t)) &&& 262143)) → wX_bits_14 post (nI f) (nI a) (nI b) (nI t) := by
    intro t Ht
    unfold zp_t2 at Ht
    by_cases h : f / 2 % 2 = 0
    · rw [if_pos h] at Ht
      exact br_t ((zn_b2 f).mpr h) (K3 t Ht)
    · rw [if_neg h] at Ht
      exact br_f (fun z => h ((zn_b2 f).mp z)) (nm_r (e' := nI (t ||| ((a ^^^ 4294967295) &&& b))) (by rw [zn_m1e, nx_xor, nx_and, zn_or]) (K3 _ Ht))
  unfold zp_bt zp_t1 at H
  by_cases h : f % 2 = 0
  · rw [if_pos h] at H
    exact br_f (fun z => by have := (zn_b11 f).mp z; omega) (K2 0 H)
  · rw [if_neg h] at H
    refine br_t ((zn_b11 f).mpr (by omega)) ?_
    rw [nx_and]
    exact K2 _ H
section
variable {P F C A E : Int32} {p op ac e x y r m f : Nat} {M : Nat → Nat} {k : zx_K} {d : zx_D} {g : zy_D} {q : Int32 × Int32 × Int32}
theorem zx_logic {post : SX → Prop} (H : post (zx_G P F C A E x y (zp_lg f x y) M k d)) : wpX_logic post (zx_G P F C A E x y r M k d) (nI f) := by
  refine zx_bits (zx_bits ?_)
  rw [zp_lgH, zp_lgL]
  exact H
theorem zy_logic {post : SY → Prop} {Wh Dp Mo : Int32} (hac : ac < 16) (he : e < 262144) (hop : op < 512)
    (H : post (zy_G P F C (nI op) (nI ac) (nI e) Wh Dp Mo (zp_rs M e ac (op % 4) (zp_lg (op / 4 % 16) (M ac) (zp_sec M e (op % 4)))) g)) :
    wpY_logic post (zy_G P F C (nI op) (nI ac) (nI e) Wh Dp Mo M g) := by
  refine nm_r (zn_m2 op) (nm_r (e' := nI (op / 4 % 16)) (by rw [zn_shr2 (by omega), zn_m4]) (zy_accumulator hac (zy_second he (by omega) ?_)))
  generalize op / 4 % 16 = f at H
  generalize M ac = x at H
  generalize zp_sec M e (op % 4) = y at H
  have K5 : ∀ t, t &&& 68719476735 = zp_lg f x y → wY_logic_109 post (nI (op % 4)) (lN t) P F C g.1 g.2.1 g.2.2.1 (nI op) (nI ac) (nI e) Wh Dp Mo (zp_ME M) g.2.2.2.1 g.2.2.2.2.1 g.2.2.2.2.2 := by
    intro t ht
    unfold wY_logic_109
    rw [show (68719476735 : Int64) = lN 68719476735 from rfl, zl_and, ht]
    exact zy_result hac (by omega) H
  have K4 : ∀ t, zp_t4 18446744073709551615 f x y t &&& 68719476735 = zp_lg f x y → wY_logic_85 post (nI (op % 4)) (nI f) (lN x) (lN y) (lN t) P F C g.1 g.2.1 g.2.2.1 (nI op) (nI ac) (nI e) Wh Dp Mo (zp_ME M) g.2.2.2.1 g.2.2.2.2.1 g.2.2.2.2.2 := by
    intro t Ht
    unfold zp_t4 at Ht
    by_cases h : f / 8 % 2 = 0
    · rw [if_pos h] at Ht
      exact br_t ((zn_b8 f).mpr h) (K5 t Ht)
    · rw [if_neg h] at Ht
      exact br_f (fun z => h ((zn_b8 f).mp z)) (nm_r (e' := lN (t ||| ((x ^^^ 18446744073709551615) &&& (y ^^^ 18446744073709551615)))) (by rw [zl_m1e, lN_xor, lN_xor, zl_and, zl_or]) (K5 _ Ht))
  have K3 : ∀ t, zp_t4 18446744073709551615 f x y (zp_t3 18446744073709551615 f x y t) &&& 68719476735 = zp_lg f x y → wY_logic_66 post (nI (op % 4)) (nI f) (lN x) (lN y) (lN t) P F C g.1 g.2.1 g.2.2.1 (nI op) (nI ac) (nI e) Wh Dp Mo (zp_ME M) g.2.2.2.1 g.2.2.2.2.1 g.2.2.2.2.2 := by
    intro t Ht
    unfold zp_t3 at Ht
    by_cases h : f / 4 % 2 = 0
    · rw [if_pos h] at Ht
      exact br_t ((zn_b4 f).mpr h) (K4 t Ht)
    · rw [if_neg h] at Ht
      exact br_f (fun z => h ((zn_b4 f).mp z)) (nm_r (e' := lN (t ||| (x &&& (y ^^^ 18446744073709551615)))) (by rw [zl_m1e, lN_xor, zl_and, zl_or]) (K4 _ Ht))
  have K2 : ∀ t, zp_t4 18446744073709551615 f x y (zp_t3 18446744073709551615 f x y (zp_t2 18446744073709551615 f x y t)) &&& 68719476735 = zp_lg f x y → wY_logic_47 post (nI (op % 4)) (nI f) (lN x) (lN y) (lN t) P F C g.1 g.2.1 g.2.2.1 (nI op) (nI ac) (nI e) Wh Dp Mo (zp_ME M) g.2.2.2.1 g.2.2.2.2.1 g.2.2.2.2.2 := by
    intro t Ht
    unfold zp_t2 at Ht
    by_cases h : f / 2 % 2 = 0
    · rw [if_pos h] at Ht
      exact br_t ((zn_b2 f).mpr h) (K3 t Ht)
    · rw [if_neg h] at Ht
      exact br_f (fun z => h ((zn_b2 f).mp z)) (nm_r (e' := lN (t ||| ((x ^^^ 18446744073709551615) &&& y))) (by rw [zl_m1e, lN_xor, zl_and, zl_or]) (K3 _ Ht))
  have e0 : zp_t4 18446744073709551615 f x y (zp_t3 18446744073709551615 f x y (zp_t2 18446744073709551615 f x y (zp_t1 f x y))) &&& 68719476735 = zp_lg f x y := rfl
  unfold zp_t1 at e0
  by_cases h : f % 2 = 0
  · rw [if_pos h] at e0
    exact br_t ((zn_b1 f).mpr h) (K2 0 e0)
  · rw [if_neg h] at e0
    exact br_f (fun z => h ((zn_b1 f).mp z)) (nm_r (e' := lN (x &&& y)) (by rw [show (0 : Int64) = lN 0 from rfl, zl_and, zl_or, Nat.zero_or]) (K2 _ e0))
theorem zo_logic {C : Int32} (c : zo_ctx p F op ac e M) :
    zo_good M (fun x y r k post => wpX_operands (fun u => wpX_logic (fun u => wpX_store (fun u => post (-1) u) u (nI op &&& 3)) u ((nI op >>> ((2 : Int32) &&& 31)) &&& 15)) (zx_S p F C ac e x y r M k d) (nI op &&& 3)) (fun post => wpY_logic post (zy_S p F C op ac e q M g)) C op ac e q d g := by
  obtain ⟨hp, hF, hop, hac, he, hM⟩ := c
  have ht := zp_sec_lt (m := op % 4) hM he
  refine ⟨p, F, zp_rs M e ac (op % 4) (zp_lg (op / 4 % 16) (M ac) (zp_sec M e (op % 4))), hp, hF, zp_rsW hM (zp_lg_lt _ _ _), ?_, ?_⟩
  · intro x y r k hx hy hr hk post H
    rw [zn_m2, zn_shr2 (by omega), zn_m4]
    exact zx_operands hac he (by omega) (zx_logic (zx_store hk hac (by omega) (fun k' hk' => H _ _ _ k' (hM ac) ht (zp_lg_lt _ _ _) hk')))
  · intro post H
    exact zy_logic hac he hop H
end
end
section
/-! halves -/
def zp_rest (f goes stays : Nat) : Nat := if f = 0 then stays else if f = 1 then 0 else if f = 2 ∨ 131072 ≤ goes then 262143 else 0
def zp_hw (ri goes rest : Nat) : Nat := if ri = 0 then goes * 262144 + rest else rest * 262144 + goes
def zp_goes (ri sw y : Nat) : Nat := if ri = sw then y / 262144 else y % 262144
def zp_stay (ri old : Nat) : Nat := if ri = 0 then old % 262144 else old / 262144
def zp_hf (ri sw f y old : Nat) : Nat := zp_hw ri (zp_goes ri sw y) (zp_rest f (zp_goes ri sw y) (zp_stay ri old))
def zp_old (M : Nat → Nat) (e ac m : Nat) : Nat := if m < 2 then M ac else M (e % 256)
theorem zp_goes_lt {ri sw y : Nat} (hy : y < 68719476736) : zp_goes ri sw y < 262144 := by
  unfold zp_goes
  split <;> omega
theorem zp_stay_lt {ri old : Nat} (hy : old < 68719476736) : zp_stay ri old < 262144 := by
  unfold zp_stay
  split <;> omega
theorem zp_rest_lt {f goes stays : Nat} (hs : stays < 262144) : zp_rest f goes stays < 262144 := by
  unfold zp_rest
  split
  · exact hs
  · split
    · decide
    · split <;> decide
theorem zp_hw_lt {ri goes rest : Nat} (h1 : goes < 262144) (h2 : rest < 262144) : zp_hw ri goes rest < 68719476736 := by
  unfold zp_hw
  split <;> omega
theorem zp_hf_lt {ri sw f y old : Nat} (hy : y < 68719476736) (ho : old < 68719476736) : zp_hf ri sw f y old < 68719476736 :=
  zp_hw_lt (zp_goes_lt hy) (zp_rest_lt (zp_stay_lt ho))
theorem zp_old_lt {M : Nat → Nat} {e ac m : Nat} (hM : zp_MW M) : zp_old M e ac m < 68719476736 := by
  unfold zp_old
  split <;> exact hM _
section
variable {P F C A E : Int32} {p op ac e x y r m f ri sw : Nat} {M : Nat → Nat} {k : zx_K} {d : zx_D} {g : zy_D} {q : Int32 × Int32 × Int32} {post : SX → Prop}
theorem zx_spread {goes stays : Nat} (hr : ri ≤ 1) (hf : f < 4) (hg : goes < 262144) (hs : stays < 262144)
    (H : post (zx_G P F C A E x y (zp_hw ri goes (zp_rest f goes stays)) M k d)) : wpX_spread post (zx_G P F C A E x y r M k d) (nI f) (nI ri) (nI goes) (nI stays) := by
  have K : ∀ rest, rest < 262144 → rest = zp_rest f goes stays → wX_spread_35 post (nI ri) (nI goes) (nI rest) P F C d.1 d.2.1 d.2.2.1 d.2.2.2.1 A E (nI (x / 262144)) (nI (x % 262144)) (nI (y / 262144)) (nI (y % 262144)) (nI (r / 262144)) (nI (r % 262144)) (zp_HI M) (zp_LO M) k.1 k.2.1 k.2.2.1 k.2.2.2.1 k.2.2.2.2 d.2.2.2.2.1 d.2.2.2.2.2.1 d.2.2.2.2.2.2.1 d.2.2.2.2.2.2.2.1 d.2.2.2.2.2.2.2.2 := by
    intro rest hrl hre
    rw [← hre] at H
    refine pk_eq ri 0 (fun h => ?_) (fun h => ?_)
    · refine br_t (by rw [h]; rfl) ?_
      unfold zp_hw at H
      rw [if_pos h] at H
      have e1 : (goes * 262144 + rest) / 262144 = goes := by omega
      have e2 : (goes * 262144 + rest) % 262144 = rest := by omega
      rw [zx_G, e1, e2] at H
      exact H
    · refine br_f (by rw [show (0 : Int32) = nI 0 from rfl, nI_eq (by omega) (by omega)]; exact h) ?_
      unfold zp_hw at H
      rw [if_neg h] at H
      have e1 : (rest * 262144 + goes) / 262144 = rest := by omega
      have e2 : (rest * 262144 + goes) % 262144 = goes := by omega
      rw [zx_G, e1, e2] at H
      exact H
  refine pk_eq f 0 (fun h => K stays hs ?_) (fun h0 => pk_eq f 1 (fun h => K 0 (by decide) ?_) (fun h1 => pk_eq f 2 (fun h => K 262143 (by decide) ?_) (fun h2 => pk_lt goes 131072 (fun h => K 0 (by decide) ?_) (fun h => K 262143 (by decide) ?_))))
  · unfold zp_rest; rw [if_pos h]
  · unfold zp_rest; rw [if_neg h0, if_pos h]
  · unfold zp_rest; rw [if_neg h0, if_neg h1, if_pos (Or.inl h)]
  · unfold zp_rest; rw [if_neg h0, if_neg h1, if_neg (by omega)]
  · unfold zp_rest; rw [if_neg h0, if_neg h1, if_pos (Or.inr h)]
theorem zx_half106 {goes stays : Nat} (hk : zp_CV M k) (hac : ac < 16) (hm : m < 4) (hr : ri ≤ 1) (hf : f < 4) (hg : goes < 262144) (hs : stays < 262144)
    (H : ∀ k', zp_CV (zp_gv M e ac m (zp_hw ri goes (zp_rest f goes stays))) k' → post (zx_G P F C (nI ac) (nI e) x y (zp_hw ri goes (zp_rest f goes stays)) (zp_gv M e ac m (zp_hw ri goes (zp_rest f goes stays))) k' d)) :
    wX_half_106 post (nI m) (nI stays) (nI goes) (nI ri) (nI f) P F C d.1 d.2.1 d.2.2.1 d.2.2.2.1 (nI ac) (nI e) (nI (x / 262144)) (nI (x % 262144)) (nI (y / 262144)) (nI (y % 262144)) (nI (r / 262144)) (nI (r % 262144)) (zp_HI M) (zp_LO M) k.1 k.2.1 k.2.2.1 k.2.2.2.1 k.2.2.2.2 d.2.2.2.2.1 d.2.2.2.2.2.1 d.2.2.2.2.2.2.1 d.2.2.2.2.2.2.2.1 d.2.2.2.2.2.2.2.2 := by
  refine zx_spread hr hf hg hs ?_
  generalize zp_hw ri goes (zp_rest f goes stays) = r' at H
  have K : ∀ k', zp_CV (zp_rs1 M e m r') k' → wX_half_138 post (nI m) (nI (r' / 262144)) (nI (r' % 262144)) P F C d.1 d.2.1 d.2.2.1 d.2.2.2.1 (nI ac) (nI e) (nI (x / 262144)) (nI (x % 262144)) (nI (y / 262144)) (nI (y % 262144)) (nI (r' / 262144)) (nI (r' % 262144)) (zp_HI (zp_rs1 M e m r')) (zp_LO (zp_rs1 M e m r')) k'.1 k'.2.1 k'.2.2.1 k'.2.2.2.1 k'.2.2.2.2 d.2.2.2.2.1 d.2.2.2.2.2.1 d.2.2.2.2.2.2.1 d.2.2.2.2.2.2.2.1 d.2.2.2.2.2.2.2.2 := by
    intro k' hk'
    unfold zp_gv at H
    refine pk_lt m 2 (fun h => ?_) (fun h => pk_eq m 3 (fun h3 => pk_eq ac 0 (fun h0 => ?_) (fun h0 => ?_)) (fun h3 => ?_))
    · rw [if_pos (Or.inl h)] at H
      exact zx_writeA hk' hac r' rfl rfl H
    · rw [if_neg (by omega)] at H
      exact H k' hk'
    · rw [if_pos (Or.inr ⟨h3, h0⟩)] at H
      exact zx_writeA hk' hac r' rfl rfl H
    · rw [if_neg (by omega)] at H
      exact H k' hk'
  unfold zp_rs1 at K
  refine pk_le m 1 (fun h => ?_) (fun h => ?_)
  · rw [if_pos h] at K
    exact K k hk
  · rw [if_neg (by omega)] at K
    exact zx_write hk e r' rfl rfl rfl (fun k' hk' => K k' hk')
theorem zx_half74 {goes : Nat} (hk : zp_CV M k) (hac : ac < 16) (hop : op < 512) (hm : m < 4) (hr : ri ≤ 1) (hg : goes < 262144) (hM : zp_MW M) {i : Nat} (hi : i < 256)
    (H : ∀ k', zp_CV (zp_gv M e ac m (zp_hw ri goes (zp_rest (op / 8 % 4) goes (zp_stay ri (M i))))) k' → post (zx_G P F C (nI ac) (nI e) x y (zp_hw ri goes (zp_rest (op / 8 % 4) goes (zp_stay ri (M i)))) (zp_gv M e ac m (zp_hw ri goes (zp_rest (op / 8 % 4) goes (zp_stay ri (M i))))) k' d)) :
    wX_half_74 post (nI op) (nI m) (nI ri) (nI goes) (nI i) P F C d.1 d.2.1 d.2.2.1 d.2.2.2.1 (nI ac) (nI e) (nI (x / 262144)) (nI (x % 262144)) (nI (y / 262144)) (nI (y % 262144)) (nI (r / 262144)) (nI (r % 262144)) (zp_HI M) (zp_LO M) k.1 k.2.1 k.2.2.1 k.2.2.2.1 k.2.2.2.2 d.2.2.2.2.1 d.2.2.2.2.2.1 d.2.2.2.2.2.2.1 d.2.2.2.2.2.2.2.1 d.2.2.2.2.2.2.2.2 := by
  have hi' : vp_in (nI i) 256 := vp_in_nI hi (by decide)
  have hw := hM i
  unfold wX_half_74
  rw [zn_shr3 (by omega), zn_m2, nI_clamp (by omega)]
  unfold zp_stay at H
  refine pk_eq ri 0 (fun h => ⟨hi', ?_⟩) (fun h => ⟨hi', ?_⟩)
  · rw [if_pos h] at H
    exact zx_half106 hk hac hm hr (by omega) hg (by omega) H
  · rw [if_neg h] at H
    exact zx_half106 hk hac hm hr (by omega) hg (by omega) H
theorem zx_half52 {goes : Nat} (hk : zp_CV M k) (hac : ac < 16) (hop : op < 512) (hm : m < 4) (hr : ri ≤ 1) (hg : goes < 262144) (hM : zp_MW M)
    (H : ∀ k', zp_CV (zp_gv M e ac m (zp_hw ri goes (zp_rest (op / 8 % 4) goes (zp_stay ri (zp_old M e ac m))))) k' → post (zx_G P F C (nI ac) (nI e) x y (zp_hw ri goes (zp_rest (op / 8 % 4) goes (zp_stay ri (zp_old M e ac m)))) (zp_gv M e ac m (zp_hw ri goes (zp_rest (op / 8 % 4) goes (zp_stay ri (zp_old M e ac m))))) k' d)) :
    wX_half_52 post (nI op) (nI m) (nI ri) (nI goes) P F C d.1 d.2.1 d.2.2.1 d.2.2.2.1 (nI ac) (nI e) (nI (x / 262144)) (nI (x % 262144)) (nI (y / 262144)) (nI (y % 262144)) (nI (r / 262144)) (nI (r % 262144)) (zp_HI M) (zp_LO M) k.1 k.2.1 k.2.2.1 k.2.2.2.1 k.2.2.2.2 d.2.2.2.2.1 d.2.2.2.2.2.1 d.2.2.2.2.2.2.1 d.2.2.2.2.2.2.2.1 d.2.2.2.2.2.2.2.2 := by
  unfold zp_old at H
  unfold wX_half_52
  rw [zn_m8]
  refine pk_le 2 m (fun h => ?_) (fun h => ?_)
  · rw [if_neg (by omega)] at H
    exact zx_half74 (i := e % 256) hk hac hop hm hr hg hM (by omega) H
  · rw [if_pos (by omega)] at H
    exact zx_half74 (i := ac) hk hac hop hm hr hg hM (by omega) H
theorem zx_half28a {yy : Nat} (hk : zp_CV M k) (hac : ac < 16) (hop : op < 512) (hm : m < 4) (hr : ri ≤ 1) (hs : sw ≤ 1) (hM : zp_MW M) (ht : yy < 68719476736)
    (H : ∀ k', zp_CV (zp_gv M e ac m (zp_hf ri sw (op / 8 % 4) yy (zp_old M e ac m))) k' → post (zx_G P F C (nI ac) (nI e) x yy (zp_hf ri sw (op / 8 % 4) yy (zp_old M e ac m)) (zp_gv M e ac m (zp_hf ri sw (op / 8 % 4) yy (zp_old M e ac m))) k' d)) :
    (nI ri = nI sw → wX_half_52 post (nI op) (nI m) (nI ri) (nI (yy / 262144)) P F C d.1 d.2.1 d.2.2.1 d.2.2.2.1 (nI ac) (nI e) (nI (x / 262144)) (nI (x % 262144)) (nI (yy / 262144)) (nI (yy % 262144)) (nI (r / 262144)) (nI (r % 262144)) (zp_HI M) (zp_LO M) k.1 k.2.1 k.2.2.1 k.2.2.2.1 k.2.2.2.2 d.2.2.2.2.1 d.2.2.2.2.2.1 d.2.2.2.2.2.2.1 d.2.2.2.2.2.2.2.1 d.2.2.2.2.2.2.2.2) ∧ (¬ nI ri = nI sw → wX_half_52 post (nI op) (nI m) (nI ri) (nI (yy % 262144)) P F C d.1 d.2.1 d.2.2.1 d.2.2.2.1 (nI ac) (nI e) (nI (x / 262144)) (nI (x % 262144)) (nI (yy / 262144)) (nI (yy % 262144)) (nI (r / 262144)) (nI (r % 262144)) (zp_HI M) (zp_LO M) k.1 k.2.1 k.2.2.1 k.2.2.2.1 k.2.2.2.2 d.2.2.2.2.1 d.2.2.2.2.2.1 d.2.2.2.2.2.2.1 d.2.2.2.2.2.2.2.1 d.2.2.2.2.2.2.2.2) := by
  unfold zp_hf zp_goes at H
  refine pk_eq ri sw (fun h => ?_) (fun h => ?_)
  · rw [if_pos h] at H
    exact zx_half52 (y := yy) hk hac hop hm hr (by omega) hM H
  · rw [if_neg h] at H
    exact zx_half52 (y := yy) hk hac hop hm hr (by omega) hM H
theorem zx_half28 (hk : zp_CV M k) (hac : ac < 16) (he : e < 262144) (hop : op < 512) (hm : m < 4) (hr : ri ≤ 1) (hs : sw ≤ 1) (hM : zp_MW M)
    (H : ∀ k', zp_CV (zp_gv M e ac m (zp_hf ri sw (op / 8 % 4) (zp_tak M e ac m) (zp_old M e ac m))) k' → post (zx_G P F C (nI ac) (nI e) x (zp_tak M e ac m) (zp_hf ri sw (op / 8 % 4) (zp_tak M e ac m) (zp_old M e ac m)) (zp_gv M e ac m (zp_hf ri sw (op / 8 % 4) (zp_tak M e ac m) (zp_old M e ac m))) k' d)) :
    wX_half_28 post (nI op) (nI m) (nI ri) (nI sw) P F C d.1 d.2.1 d.2.2.1 d.2.2.2.1 (nI ac) (nI e) (nI (x / 262144)) (nI (x % 262144)) (nI (y / 262144)) (nI (y % 262144)) (nI (r / 262144)) (nI (r % 262144)) (zp_HI M) (zp_LO M) k.1 k.2.1 k.2.2.1 k.2.2.2.1 k.2.2.2.2 d.2.2.2.2.1 d.2.2.2.2.2.1 d.2.2.2.2.2.2.1 d.2.2.2.2.2.2.2.1 d.2.2.2.2.2.2.2.2 := by
  unfold wX_half_28
  exact zx_source hac he hm (zx_half28a hk hac hop hm hr hs hM (zp_tak_lt hM he) H)
theorem zx_half16 (hk : zp_CV M k) (hac : ac < 16) (he : e < 262144) (hop : op < 512) (hm : m < 4) (hr : ri ≤ 1) (hM : zp_MW M)
    (H : ∀ k', zp_CV (zp_gv M e ac m (zp_hf ri (op / 4 % 2) (op / 8 % 4) (zp_tak M e ac m) (zp_old M e ac m))) k' → post (zx_G P F C (nI ac) (nI e) x (zp_tak M e ac m) (zp_hf ri (op / 4 % 2) (op / 8 % 4) (zp_tak M e ac m) (zp_old M e ac m)) (zp_gv M e ac m (zp_hf ri (op / 4 % 2) (op / 8 % 4) (zp_tak M e ac m) (zp_old M e ac m))) k' d)) :
    wX_half_16 post (nI op) (nI m) (nI ri) P F C d.1 d.2.1 d.2.2.1 d.2.2.2.1 (nI ac) (nI e) (nI (x / 262144)) (nI (x % 262144)) (nI (y / 262144)) (nI (y % 262144)) (nI (r / 262144)) (nI (r % 262144)) (zp_HI M) (zp_LO M) k.1 k.2.1 k.2.2.1 k.2.2.2.1 k.2.2.2.2 d.2.2.2.2.1 d.2.2.2.2.2.1 d.2.2.2.2.2.2.1 d.2.2.2.2.2.2.2.1 d.2.2.2.2.2.2.2.2 := by
  by_cases h : op / 4 % 2 = 0
  · rw [h] at H
    exact br_t ((zn_b4 op).mpr h) (zx_half28 (sw := 0) hk hac he hop hm hr (by decide) hM H)
  · rw [show op / 4 % 2 = 1 by omega] at H
    exact br_f (fun z => h ((zn_b4 op).mp z)) (zx_half28 (sw := 1) hk hac he hop hm hr (by decide) hM H)
theorem zx_half (hk : zp_CV M k) (hac : ac < 16) (he : e < 262144) (hop : op < 512) (hM : zp_MW M)
    (H : ∀ k', zp_CV (zp_gv M e ac (op % 4) (zp_hf (op / 32 % 2) (op / 4 % 2) (op / 8 % 4) (zp_tak M e ac (op % 4)) (zp_old M e ac (op % 4)))) k' →
      post (zx_G P F C (nI ac) (nI e) x (zp_tak M e ac (op % 4)) (zp_hf (op / 32 % 2) (op / 4 % 2) (op / 8 % 4) (zp_tak M e ac (op % 4)) (zp_old M e ac (op % 4))) (zp_gv M e ac (op % 4) (zp_hf (op / 32 % 2) (op / 4 % 2) (op / 8 % 4) (zp_tak M e ac (op % 4)) (zp_old M e ac (op % 4)))) k' d)) :
    wpX_half post (zx_G P F C (nI ac) (nI e) x y r M k d) (nI op) := by
  have hm : op % 4 < 4 := by omega
  refine nm_r (zn_m2 op) ?_
  generalize op % 4 = m at *
  by_cases h : op / 32 % 2 = 0
  · rw [h] at H
    exact br_t ((zn_b32 op).mpr h) (zx_half16 (ri := 0) hk hac he hop hm (by decide) hM H)
  · rw [show op / 32 % 2 = 1 by omega] at H
    exact br_f (fun z => h ((zn_b32 op).mp z)) (zx_half16 (ri := 1) hk hac he hop hm (by decide) hM H)
end
section
variable {P F C Wh Dp Mo : Int32} {p op ac e x y r m f ri sw : Nat} {M : Nat → Nat} {k : zx_K} {d : zx_D} {g : zy_D} {q : Int32 × Int32 × Int32} {post : SY → Prop}
theorem zy_half126 {goes stays : Nat} (hac : ac < 16) (hm : m < 4) (hr : ri ≤ 1) (hf : f < 4) (hg : goes < 262144) (hs : stays < 262144)
    (H : post (zy_G P F C (nI op) (nI ac) (nI e) Wh Dp Mo (zp_gv M e ac m (zp_hw ri goes (zp_rest f goes stays))) g)) :
    wY_half_126 post (nI m) (nI ri) (nI f) (lN goes) (lN stays) P F C g.1 g.2.1 g.2.2.1 (nI op) (nI ac) (nI e) Wh Dp Mo (zp_ME M) g.2.2.2.1 g.2.2.2.2.1 g.2.2.2.2.2 := by
  have K : ∀ rest, rest < 262144 → rest = zp_rest f goes stays → wY_half_166 post (nI m) (nI ri) (lN goes) (lN rest) P F C g.1 g.2.1 g.2.2.1 (nI op) (nI ac) (nI e) Wh Dp Mo (zp_ME M) g.2.2.2.1 g.2.2.2.2.1 g.2.2.2.2.2 := by
    intro rest hrl hre
    rw [← hre] at H
    unfold zp_hw at H
    unfold wY_half_166
    rw [zl_shl18, zl_shl18, zl_or, zl_or, zp_or18 _ hrl, zp_or18 _ hg]
    refine pk_eq ri 0 (fun h => ?_) (fun h => ?_)
    · rw [if_pos h] at H
      exact zy_give hac hm H
    · rw [if_neg h] at H
      exact zy_give hac hm H
  have hb : (lN goes >>> ((17 : Int32).toInt64 &&& 63)) &&& 1 = 1 ↔ 131072 ≤ goes := by
    rw [zl_shr17 (by omega), zl_m1, show (1 : Int64) = lN 1 from rfl, pk_lEQ (by omega) (by decide)]
    omega
  refine pk_le f 0 (fun h => K stays hs ?_) (fun h0 => pk_eq f 2 (fun h => K 262143 (by decide) ?_) (fun h2 => pk_eq f 3 (fun h3 => ?_) (fun h3 => K 0 (by decide) ?_)))
  · unfold zp_rest; rw [if_pos (by omega)]
  · unfold zp_rest; rw [if_neg (by omega), if_neg (by omega), if_pos (Or.inl h)]
  · by_cases hh : 131072 ≤ goes
    · exact br_t (hb.mpr hh) (K 262143 (by decide) (by unfold zp_rest; rw [if_neg (by omega), if_neg (by omega), if_pos (Or.inr hh)]))
    · exact br_f (fun z => hh (hb.mp z)) (K 0 (by decide) (by unfold zp_rest; rw [if_neg (by omega), if_neg (by omega), if_neg (by omega)]))
  · unfold zp_rest; rw [if_neg (by omega), if_pos (by omega)]
theorem zy_half85 {old : Nat} (hac : ac < 16) (hm : m < 4) (hr : ri ≤ 1) (hs : sw ≤ 1) (hf : f < 4) (hy : y < 68719476736) (ho : old < 68719476736)
    (H : post (zy_G P F C (nI op) (nI ac) (nI e) Wh Dp Mo (zp_gv M e ac m (zp_hf ri sw f y old)) g)) :
    wY_half_85 post (nI m) (nI ri) (nI sw) (nI f) (lN y) (lN old) P F C g.1 g.2.1 g.2.2.1 (nI op) (nI ac) (nI e) Wh Dp Mo (zp_ME M) g.2.2.2.1 g.2.2.2.2.1 g.2.2.2.2.2 := by
  unfold zp_hf at H
  have K : ∀ goes, goes < 262144 → goes = zp_goes ri sw y → wY_half_106 post (nI m) (nI ri) (nI f) (lN old) (lN goes) P F C g.1 g.2.1 g.2.2.1 (nI op) (nI ac) (nI e) Wh Dp Mo (zp_ME M) g.2.2.2.1 g.2.2.2.2.1 g.2.2.2.2.2 := by
    intro goes hg hge
    rw [← hge] at H
    unfold zp_stay at H
    unfold wY_half_106
    rw [zl_m18, zl_shr18 (by omega)]
    refine pk_eq ri 0 (fun h => ?_) (fun h => ?_)
    · rw [if_pos h] at H
      exact zy_half126 hac hm hr hf hg (by omega) H
    · rw [if_neg h] at H
      exact zy_half126 hac hm hr hf hg (by omega) H
  unfold wY_half_85
  rw [zl_m18, zl_shr18 (by omega)]
  refine pk_eq ri sw (fun h => K _ (by omega) ?_) (fun h => K _ (by omega) ?_)
  · unfold zp_goes; rw [if_pos h]
  · unfold zp_goes; rw [if_neg h]
theorem zy_half (hac : ac < 16) (he : e < 262144) (hop : op < 512) (hM : zp_MW M)
    (H : post (zy_G P F C (nI op) (nI ac) (nI e) Wh Dp Mo (zp_gv M e ac (op % 4) (zp_hf (op / 32 % 2) (op / 4 % 2) (op / 8 % 4) (zp_tak M e ac (op % 4)) (zp_old M e ac (op % 4)))) g)) :
    wpY_half post (zy_G P F C (nI op) (nI ac) (nI e) Wh Dp Mo M g) := by
  have ht := zp_tak_lt (ac := ac) (m := op % 4) hM he
  have hm : op % 4 < 4 := by omega
  have hr : op / 32 % 2 ≤ 1 := by omega
  have hs : op / 4 % 2 ≤ 1 := by omega
  refine nm_r (zn_m2 op) ?_
  have K37 : wY_half_37 post (nI (op % 4)) (nI (op / 32 % 2)) (nI (op / 4 % 2)) P F C g.1 g.2.1 g.2.2.1 (nI op) (nI ac) (nI e) Wh Dp Mo (zp_ME M) g.2.2.2.1 g.2.2.2.2.1 g.2.2.2.2.2 := by
    refine nm_r (e' := nI (op / 8 % 4)) (by rw [zn_shr3 (by omega), zn_m2]) (zy_taken hac he hm ?_)
    unfold zp_old at H
    refine pk_le 2 (op % 4) (fun h => ⟨zn_i8 e, ?_⟩) (fun h => ⟨zx_iA hac, ?_⟩)
    · rw [if_neg (by omega)] at H
      rw [zn_c8]
      exact zy_half85 hac hm hr hs (by omega) ht (hM _) H
    · rw [if_pos (by omega)] at H
      rw [zx_cA hac]
      exact zy_half85 hac hm hr hs (by omega) ht (hM _) H
  have K22 : wY_half_22 post (nI (op % 4)) (nI (op / 32 % 2)) P F C g.1 g.2.1 g.2.2.1 (nI op) (nI ac) (nI e) Wh Dp Mo (zp_ME M) g.2.2.2.1 g.2.2.2.2.1 g.2.2.2.2.2 := by
    by_cases h : op / 4 % 2 = 0
    · rw [h] at K37
      exact br_t ((zn_b4 op).mpr h) K37
    · rw [show op / 4 % 2 = 1 by omega] at K37
      exact br_f (fun z => h ((zn_b4 op).mp z)) K37
  by_cases h : op / 32 % 2 = 0
  · rw [h] at K22
    exact br_t ((zn_b32 op).mpr h) K22
  · rw [show op / 32 % 2 = 1 by omega] at K22
    exact br_f (fun z => h ((zn_b32 op).mp z)) K22
theorem zo_half (c : zo_ctx p F op ac e M) :
    zo_good M (fun x y r k post => wpX_half (fun u => post (-1) u) (zx_S p F C ac e x y r M k d) (nI op)) (fun post => wpY_half post (zy_S p F C op ac e q M g)) C op ac e q d g := by
  obtain ⟨hp, hF, hop, hac, he, hM⟩ := c
  have ht := zp_tak_lt (ac := ac) (m := op % 4) hM he
  have ho := zp_old_lt (e := e) (ac := ac) (m := op % 4) hM
  refine ⟨p, F, zp_gv M e ac (op % 4) (zp_hf (op / 32 % 2) (op / 4 % 2) (op / 8 % 4) (zp_tak M e ac (op % 4)) (zp_old M e ac (op % 4))), hp, hF, zp_gvW hM (zp_hf_lt ht ho), ?_, ?_⟩
  · intro x y r k hx hy hr hk post H
    exact zx_half hk hac he hop hM (fun k' hk' => H _ _ _ k' hx ht (zp_hf_lt ht ho) hk')
  · intro post H
    exact zy_half hac he hop hM H
end
end
section
/-! tests under a mask -/
theorem zp_p36 {x i : Nat} (hx : x < 68719476736) (h : 36 ≤ i) : x < 2 ^ i := Nat.lt_of_lt_of_le hx (Nat.pow_le_pow_right (n := 2) (i := 36) (by decide) h)
def zp_an (x m : Nat) : Nat := x &&& (m ^^^ 18446744073709551615)
def zp_mk (s y : Nat) : Nat := if s = 1 then zp_swp y else y
def zp_tp (n p b : Nat) : Nat := if n = 2 ∨ (n = 1 ∧ b = 0) ∨ (n = 3 ∧ b ≠ 0) then (p + 1) % 262144 else p
def zp_tM (M : Nat → Nat) (ac h x mk : Nat) : Nat → Nat := if h = 1 then zp_up M ac (zp_an x mk) else if h = 2 then zp_up M ac (x ^^^ mk) else if h = 3 then zp_up M ac (x ||| mk) else M
theorem zp_mk_lt {s y : Nat} (hy : y < 68719476736) : zp_mk s y < 68719476736 := by
  unfold zp_mk
  split
  · exact zp_swp_lt hy
  · exact hy
theorem zp_an_lt {x m : Nat} (hx : x < 68719476736) : zp_an x m < 68719476736 := Nat.lt_of_le_of_lt Nat.and_le_left hx
theorem zp_tMW {M : Nat → Nat} {ac h x mk : Nat} (hM : zp_MW M) (hx : x < 68719476736) (hm : mk < 68719476736) : zp_MW (zp_tM M ac h x mk) := by
  unfold zp_tM
  split
  · exact zp_MWu hM (zp_an_lt hx)
  · split
    · exact zp_MWu hM (Nat.xor_lt_two_pow (n := 36) hx hm)
    · split
      · exact zp_MWu hM (Nat.or_lt_two_pow (n := 36) hx hm)
      · exact hM
theorem zp_tp_lt {n p b : Nat} (hp : p < 262144) : zp_tp n p b < 262144 := by
  unfold zp_tp
  split
  · omega
  · exact hp
theorem zp_anH (x m : Nat) : (x / 262144) &&& (m / 262144 ^^^ 4294967295) = zp_an x m / 262144 ∨ ¬ x < 68719476736 := by
  by_cases hx : x < 68719476736
  · left
    unfold zp_an
    apply Nat.eq_of_testBit_eq
    intro i
    rw [zp_hiB, Nat.testBit_and, Nat.testBit_and, Nat.testBit_xor, Nat.testBit_xor, zp_hiB, zp_hiB, zp_o32, zp_o64]
    by_cases h : i < 18
    · rw [decide_eq_true (show i < 32 by omega), decide_eq_true (show 18 + i < 64 by omega)]
    · rw [Nat.testBit_lt_two_pow (x := x) (i := 18 + i) (zp_p36 hx (by omega))]
      rfl
  · exact Or.inr hx
theorem zp_anL (x m : Nat) : (x % 262144) &&& (m % 262144 ^^^ 4294967295) = zp_an x m % 262144 := by
  unfold zp_an
  apply Nat.eq_of_testBit_eq
  intro i
  rw [zp_loB, Nat.testBit_and, Nat.testBit_and, Nat.testBit_xor, Nat.testBit_xor, zp_loB, zp_loB, zp_o32, zp_o64]
  by_cases h : i < 18
  · rw [decide_eq_true h, decide_eq_true (show i < 32 by omega), decide_eq_true (show i < 64 by omega)]
    simp
  · simp [h]
theorem zp_andH (x m : Nat) : (x / 262144) &&& (m / 262144) = (x &&& m) / 262144 := (Nat.and_div_two_pow (n := 18)).symm
theorem zp_andL (x m : Nat) : (x % 262144) &&& (m % 262144) = (x &&& m) % 262144 := (Nat.and_mod_two_pow (n := 18)).symm
theorem zp_orH (x m : Nat) : (x / 262144) ||| (m / 262144) = (x ||| m) / 262144 := (Nat.or_div_two_pow (n := 18)).symm
theorem zp_orL (x m : Nat) : (x % 262144) ||| (m % 262144) = (x ||| m) % 262144 := (Nat.or_mod_two_pow (n := 18)).symm
theorem zp_xorH (x m : Nat) : (x / 262144) ^^^ (m / 262144) = (x ^^^ m) / 262144 := (Nat.xor_div_two_pow (n := 18)).symm
theorem zp_xorL (x m : Nat) : (x % 262144) ^^^ (m % 262144) = (x ^^^ m) % 262144 := (Nat.xor_mod_two_pow (n := 18)).symm
section
variable {P F C A E : Int32} {p op ac e x y r m f : Nat} {M : Nat → Nat} {k : zx_K} {d : zx_D} {g : zy_D} {q : Int32 × Int32 × Int32} {post : SX → Prop}
theorem zx_test127 {mk : Nat} (hk : zp_CV M k) (hac : ac < 16) (hop : op < 512) (hx : x < 68719476736)
    (H : ∀ k', zp_CV (zp_tM M ac (op / 16 % 4) x mk) k' → post (zx_G P F C (nI ac) E x y r (zp_tM M ac (op / 16 % 4) x mk) k' d)) :
    wX_test_127 post (nI op) (nI (mk / 262144)) (nI (mk % 262144)) P F C d.1 d.2.1 d.2.2.1 d.2.2.2.1 (nI ac) E (nI (x / 262144)) (nI (x % 262144)) (nI (y / 262144)) (nI (y % 262144)) (nI (r / 262144)) (nI (r % 262144)) (zp_HI M) (zp_LO M) k.1 k.2.1 k.2.2.1 k.2.2.2.1 k.2.2.2.2 d.2.2.2.2.1 d.2.2.2.2.2.1 d.2.2.2.2.2.2.1 d.2.2.2.2.2.2.2.1 d.2.2.2.2.2.2.2.2 := by
  refine nm_r (e' := nI (op / 16 % 4)) (by rw [zn_shr4 (by omega), zn_m2]) ?_
  have hh : op / 16 % 4 < 4 := by omega
  generalize op / 16 % 4 = h at H hh
  unfold zp_tM at H
  refine pk_lt h 1 (fun z => ?_) (fun z => pk_lt 3 h (fun z => by omega) (fun _ => pk_eq h 1 (fun z1 => ?_) (fun z1 => pk_eq h 2 (fun z2 => ?_) (fun z2 => pk_eq h 3 (fun z3 => ?_) (fun z3 => trivial)))))
  · rw [if_neg (by omega), if_neg (by omega), if_neg (by omega)] at H
    exact H k hk
  · rw [if_pos z1] at H
    refine zx_writeA hk hac (zp_an x mk) ?_ ?_ H
    · rw [zn_m1e, nx_xor, nx_and, (zp_anH x mk).resolve_right (fun z => z hx)]
    · rw [zn_m1e, nx_xor, nx_and, zp_anL]
  · rw [if_neg z1, if_pos z2] at H
    refine zx_writeA hk hac (x ^^^ mk) ?_ ?_ H
    · rw [nx_xor, zp_xorH]
    · rw [nx_xor, zp_xorL]
  · rw [if_neg z1, if_neg z2, if_pos z3] at H
    refine zx_writeA hk hac (x ||| mk) ?_ ?_ H
    · rw [zn_or, zp_orH]
    · rw [zn_or, zp_orL]
theorem zx_skip (H : post (zx_G (nI ((p + 1) % 262144)) F C A E x y r M k d)) : wpX_skip post (zx_G (nI p) F C A E x y r M k d) :=
  nm_r (by rw [nI_1, zn_m18]) H
theorem zx_test86 {mk b : Nat} (hb : b ≤ 1) (hk : zp_CV M k) (hac : ac < 16) (hop : op < 512) (hx : x < 68719476736)
    (H : ∀ k', zp_CV (zp_tM M ac (op / 16 % 4) x mk) k' → post (zx_G (nI (zp_tp (op / 2 % 4) p b)) F C (nI ac) E x y r (zp_tM M ac (op / 16 % 4) x mk) k' d)) :
    wX_test_86 post (nI op) (nI (mk / 262144)) (nI (mk % 262144)) (nI b) (nI p) F C d.1 d.2.1 d.2.2.1 d.2.2.2.1 (nI ac) E (nI (x / 262144)) (nI (x % 262144)) (nI (y / 262144)) (nI (y % 262144)) (nI (r / 262144)) (nI (r % 262144)) (zp_HI M) (zp_LO M) k.1 k.2.1 k.2.2.1 k.2.2.2.1 k.2.2.2.2 d.2.2.2.2.1 d.2.2.2.2.2.1 d.2.2.2.2.2.2.1 d.2.2.2.2.2.2.2.1 d.2.2.2.2.2.2.2.2 := by
  refine nm_r (e' := nI (op / 2 % 4)) (by rw [zn_shr1 (by omega), zn_m2]) ?_
  have hh : op / 2 % 4 < 4 := by omega
  generalize op / 2 % 4 = n at H hh
  unfold zp_tp at H
  refine pk_eq n 2 (fun z => ?_) (fun z2 => pk_eq n 1 (fun z1 => pk_eq b 0 (fun z => ?_) (fun z0 => ?_)) (fun z1 => ?_))
  · rw [if_pos (by omega)] at H
    exact zx_skip (zx_test127 hk hac hop hx H)
  · rw [if_pos (by omega)] at H
    exact zx_skip (zx_test127 hk hac hop hx H)
  · rw [if_neg (by omega)] at H
    exact pk_eq n 3 (fun z => by omega) (fun _ => zx_test127 hk hac hop hx H)
  · refine pk_eq n 3 (fun z3 => pk_eq b 0 (fun z => ?_) (fun z0 => ?_)) (fun z3 => ?_)
    · rw [if_neg (by omega)] at H
      exact zx_test127 hk hac hop hx H
    · rw [if_pos (by omega)] at H
      exact zx_skip (zx_test127 hk hac hop hx H)
    · rw [if_neg (by omega)] at H
      exact zx_test127 hk hac hop hx H
/-- 1 if a number isn't 0 -/
def zp_b01 (n : Nat) : Nat := if n = 0 then 0 else 1
theorem zp_tpb (n p a : Nat) : zp_tp n p (zp_b01 a) = zp_tp n p a := by
  unfold zp_tp zp_b01
  by_cases h : a = 0
  · rw [if_pos h, h]
  · rw [if_neg h]
    have e : (n = 2 ∨ (n = 1 ∧ 1 = 0) ∨ (n = 3 ∧ 1 ≠ 0)) ↔ (n = 2 ∨ (n = 1 ∧ a = 0) ∨ (n = 3 ∧ a ≠ 0)) := by omega
    by_cases hc : (n = 2 ∨ (n = 1 ∧ a = 0) ∨ (n = 3 ∧ a ≠ 0))
    · rw [if_pos hc, if_pos (e.mpr hc)]
    · rw [if_neg hc, if_neg (fun z => hc (e.mp z))]
theorem zx_test60 {mk : Nat} (hmk : mk < 68719476736) (hk : zp_CV M k) (hac : ac < 16) (hop : op < 512) (hx : x < 68719476736)
    (H : ∀ k', zp_CV (zp_tM M ac (op / 16 % 4) x mk) k' → post (zx_G (nI (zp_tp (op / 2 % 4) p (x &&& mk))) F C (nI ac) E x y r (zp_tM M ac (op / 16 % 4) x mk) k' d)) :
    wX_test_60 post (nI op) (nI (mk / 262144)) (nI (mk % 262144)) (nI p) F C d.1 d.2.1 d.2.2.1 d.2.2.2.1 (nI ac) E (nI (x / 262144)) (nI (x % 262144)) (nI (y / 262144)) (nI (y % 262144)) (nI (r / 262144)) (nI (r % 262144)) (zp_HI M) (zp_LO M) k.1 k.2.1 k.2.2.1 k.2.2.2.1 k.2.2.2.2 d.2.2.2.2.1 d.2.2.2.2.2.1 d.2.2.2.2.2.2.1 d.2.2.2.2.2.2.2.1 d.2.2.2.2.2.2.2.2 := by
  rw [← zp_tpb] at H
  have hb : x &&& mk < 68719476736 := Nat.lt_of_le_of_lt Nat.and_le_left hx
  have e1 : nI (x / 262144) &&& nI (mk / 262144) = nI ((x &&& mk) / 262144) := by rw [nx_and, zp_andH]
  have e2 : nI (x % 262144) &&& nI (mk % 262144) = nI ((x &&& mk) % 262144) := by rw [nx_and, zp_andL]
  unfold wX_test_60
  rw [e1, e2]
  generalize x &&& mk = b at *
  unfold zp_b01 at H
  refine pk_eq (b / 262144) 0 (fun h => pk_eq (b % 262144) 0 (fun h2 => ?_) (fun h2 => ?_)) (fun h => ?_)
  · rw [if_pos (by omega)] at H
    exact zx_test86 (b := 0) (by decide) hk hac hop hx H
  · rw [if_neg (by omega)] at H
    exact zx_test86 (b := 1) (by decide) hk hac hop hx H
  · rw [if_neg (by omega)] at H
    exact zx_test86 (b := 1) (by decide) hk hac hop hx H
theorem zx_test (hk : zp_CV M k) (hac : ac < 16) (he : e < 262144) (hop : op < 512) (hM : zp_MW M) (mk yy : Nat) (hyy : yy = zp_sec M e (1 - op / 8 % 2)) (hmk : mk = zp_mk (op % 2) yy)
    (H : ∀ k', zp_CV (zp_tM M ac (op / 16 % 4) (M ac) mk) k' → post (zx_G (nI (zp_tp (op / 2 % 4) p (M ac &&& mk))) F C (nI ac) (nI e) (M ac) yy r (zp_tM M ac (op / 16 % 4) (M ac) mk) k' d)) :
    wpX_test post (zx_G (nI p) F C (nI ac) (nI e) x y r M k d) (nI op) := by
  have hy : yy < 68719476736 := by rw [hyy]; exact zp_sec_lt hM he
  have hmkl : mk < 68719476736 := by rw [hmk]; exact zp_mk_lt hy
  have K : ∀ m, m = 1 - op / 8 % 2 → wX_test_13 post (nI op) (nI m) (nI p) F C d.1 d.2.1 d.2.2.1 d.2.2.2.1 (nI ac) (nI e) (nI (x / 262144)) (nI (x % 262144)) (nI (y / 262144)) (nI (y % 262144)) (nI (r / 262144)) (nI (r % 262144)) (zp_HI M) (zp_LO M) k.1 k.2.1 k.2.2.1 k.2.2.2.1 k.2.2.2.2 d.2.2.2.2.1 d.2.2.2.2.2.1 d.2.2.2.2.2.2.1 d.2.2.2.2.2.2.2.1 d.2.2.2.2.2.2.2.2 := by
    intro m hm
    refine zx_operands hac he (by omega) ?_
    rw [hm, ← hyy]
    unfold zp_mk at hmk
    by_cases h : op % 2 = 1
    · rw [if_pos h] at hmk
      refine br_t ((zn_b11 op).mpr h) (br_f (by decide) (br_f (by decide) ?_))
      rw [hmk] at H hmkl
      have K := zx_test60 (y := yy) hmkl hk hac hop (hM ac) H
      rw [zp_swpH hy, zp_swpL hy] at K
      exact K
    · rw [if_neg h] at hmk
      refine br_f (fun z => h ((zn_b11 op).mp z)) (br_t rfl (br_t rfl ?_))
      rw [hmk] at H hmkl
      exact zx_test60 (y := yy) hmkl hk hac hop (hM ac) H
  by_cases h : op / 8 % 2 = 0
  · exact br_t ((zn_b8 op).mpr h) (K 1 (by omega))
  · exact br_f (fun z => h ((zn_b8 op).mp z)) (K 0 (by omega))
end
section
variable {F C Wh Dp Mo : Int32} {p op ac e x y r m f : Nat} {M : Nat → Nat} {k : zx_K} {d : zx_D} {g : zy_D} {q : Int32 × Int32 × Int32} {post : SY → Prop}
theorem zy_skip1 {O A E : Int32} (H : post (zy_G (nI ((p + 1) % 262144)) F C O A E Wh Dp Mo M g)) : wpY_skip post (zy_G (nI p) F C O A E Wh Dp Mo M g) 1 :=
  br_f (by decide) (nm_r (by rw [nI_1, zn_m18]) H)
theorem zy_skip0 {P O A E : Int32} (H : post (zy_G P F C O A E Wh Dp Mo M g)) : wpY_skip post (zy_G P F C O A E Wh Dp Mo M g) 0 := br_t rfl H
theorem zy_test142 {P O E : Int32} {h mk : Nat} (hac : ac < 16) (hh : h < 4) (H : post (zy_G P F C O (nI ac) E Wh Dp Mo (zp_tM M ac h x mk) g)) :
    (nI h = 1 → (vp_in (nI ac) 256 ∧ ∀ a : Nat → Int64, a = vp_updL (zp_ME M) (nI ac).toNatClampNeg (lN x &&& (lN mk ^^^ (-1))) → wY_test_142 post (nI h) (lN mk) (lN x) P F C g.1 g.2.1 g.2.2.1 O (nI ac) E Wh Dp Mo a g.2.2.2.1 g.2.2.2.2.1 g.2.2.2.2.2)) ∧ (¬ nI h = 1 → wY_test_142 post (nI h) (lN mk) (lN x) P F C g.1 g.2.1 g.2.2.1 O (nI ac) E Wh Dp Mo (zp_ME M) g.2.2.2.1 g.2.2.2.2.1 g.2.2.2.2.2) := by
  unfold zp_tM at H
  refine pk_eq h 1 (fun z1 => ⟨zx_iA hac, nm_r (e' := zp_ME (zp_up M ac (zp_an x mk))) ?_ ?_⟩) (fun z1 => ?_)
  · rw [zl_m1e, lN_xor, zl_and]
    exact zy_updA hac
  · rw [if_pos z1] at H
    exact pk_eq h 2 (fun z => by omega) (fun _ => pk_eq h 3 (fun z => by omega) (fun _ => H))
  · rw [if_neg z1] at H
    refine pk_eq h 2 (fun z2 => ⟨zx_iA hac, nm_r (e' := zp_ME (zp_up M ac (x ^^^ mk))) ?_ ?_⟩) (fun z2 => pk_eq h 3 (fun z3 => ⟨zx_iA hac, nm_r (e' := zp_ME (zp_up M ac (x ||| mk))) ?_ ?_⟩) (fun z3 => ?_))
    · rw [lN_xor]
      exact zy_updA hac
    · rw [if_pos z2] at H
      exact pk_eq h 3 (fun z => by omega) (fun _ => H)
    · rw [zl_or]
      exact zy_updA hac
    · rw [if_neg z2, if_pos z3] at H
      exact H
    · rw [if_neg z2, if_neg z3] at H
      exact H
theorem zy_test112 {O E : Int32} {h mk : Nat} (hac : ac < 16) (hh : h < 4) (H : post (zy_G (nI ((p + 1) % 262144)) F C O (nI ac) E Wh Dp Mo (zp_tM M ac h x mk) g)) :
    wY_test_112 post (nI h) (lN mk) (lN x) (nI p) F C g.1 g.2.1 g.2.2.1 O (nI ac) E Wh Dp Mo (zp_ME M) g.2.2.2.1 g.2.2.2.2.1 g.2.2.2.2.2 := by
  unfold wY_test_112 wY_test_117
  refine zy_skip1 ?_
  exact zy_test142 hac hh H
theorem zy_test116 {O E : Int32} {h mk : Nat} (hac : ac < 16) (hh : h < 4) (H : post (zy_G (nI p) F C O (nI ac) E Wh Dp Mo (zp_tM M ac h x mk) g)) :
    wY_test_116 post (nI h) (lN mk) (lN x) (nI p) F C g.1 g.2.1 g.2.2.1 O (nI ac) E Wh Dp Mo (zp_ME M) g.2.2.2.1 g.2.2.2.2.1 g.2.2.2.2.2 := by
  unfold wY_test_116 wY_test_117
  refine zy_skip0 ?_
  exact zy_test142 hac hh H
theorem zy_test84 {O E : Int32} {h n mk b : Nat} (hb : b ≤ 1) (hac : ac < 16) (hh : h < 4) (hn : n < 4) (H : post (zy_G (nI (zp_tp n p b)) F C O (nI ac) E Wh Dp Mo (zp_tM M ac h x mk) g)) :
    wY_test_84 post (nI h) (nI n) (lN mk) (lN x) (nI b) (nI p) F C g.1 g.2.1 g.2.2.1 O (nI ac) E Wh Dp Mo (zp_ME M) g.2.2.2.1 g.2.2.2.2.1 g.2.2.2.2.2 := by
  unfold zp_tp at H
  refine pk_eq n 2 (fun z => ?_) (fun z2 => pk_eq n 1 (fun z1 => pk_eq b 0 (fun z => ?_) (fun z0 => ?_)) (fun z1 => ?_))
  · rw [if_pos (by omega)] at H
    exact zy_test112 hac hh H
  · rw [if_pos (by omega)] at H
    exact zy_test112 hac hh H
  · rw [if_neg (by omega)] at H
    exact pk_eq n 3 (fun z => by omega) (fun _ => zy_test116 hac hh H)
  · refine pk_eq n 3 (fun z3 => pk_eq b 0 (fun z => ?_) (fun z0 => ?_)) (fun z3 => ?_)
    · rw [if_neg (by omega)] at H
      exact zy_test116 hac hh H
    · rw [if_pos (by omega)] at H
      exact zy_test112 hac hh H
    · rw [if_neg (by omega)] at H
      exact zy_test116 hac hh H
theorem zy_test64 {O E : Int32} {h n mk : Nat} (hM : zp_MW M) (hac : ac < 16) (hh : h < 4) (hn : n < 4) (H : post (zy_G (nI (zp_tp n p (M ac &&& mk))) F C O (nI ac) E Wh Dp Mo (zp_tM M ac h (M ac) mk) g)) :
    wY_test_64 post (nI h) (nI n) (lN mk) (nI p) F C g.1 g.2.1 g.2.2.1 O (nI ac) E Wh Dp Mo (zp_ME M) g.2.2.2.1 g.2.2.2.2.1 g.2.2.2.2.2 := by
  refine zy_accumulator hac ?_
  have hb : M ac &&& mk < 68719476736 := Nat.lt_of_le_of_lt Nat.and_le_left (hM ac)
  rw [← zp_tpb] at H
  rw [zl_and]
  generalize M ac &&& mk = b at *
  unfold zp_b01 at H
  by_cases h0 : b = 0
  · rw [if_pos h0] at H
    exact br_t (by rw [h0]; rfl) (zy_test84 (b := 0) (by decide) hac hh hn H)
  · rw [if_neg h0] at H
    exact br_f (by rw [show (0 : Int64) = lN 0 from rfl, pk_lEQ (by omega) (by decide)]; exact h0) (zy_test84 (b := 1) (by decide) hac hh hn H)
theorem zy_test (hac : ac < 16) (he : e < 262144) (hop : op < 512) (hM : zp_MW M) (mk yy : Nat) (hyy : yy = zp_sec M e (1 - op / 8 % 2)) (hmk : mk = zp_mk (op % 2) yy)
    (H : post (zy_G (nI (zp_tp (op / 2 % 4) p (M ac &&& mk))) F C (nI op) (nI ac) (nI e) Wh Dp Mo (zp_tM M ac (op / 16 % 4) (M ac) mk) g)) :
    wpY_test post (zy_G (nI p) F C (nI op) (nI ac) (nI e) Wh Dp Mo M g) := by
  have hy : yy < 68719476736 := by rw [hyy]; exact zp_sec_lt hM he
  refine nm_r (e' := nI (op / 16 % 4)) (by rw [zn_shr4 (by omega), zn_m2]) (nm_r (e' := nI (op / 2 % 4)) (by rw [zn_shr1 (by omega), zn_m2]) ?_)
  have hh : op / 16 % 4 < 4 := by omega
  have hn : op / 2 % 4 < 4 := by omega
  generalize op / 16 % 4 = h at *
  generalize op / 2 % 4 = n at *
  have K : wY_test_49 post (nI h) (nI n) (lN yy) (nI p) F C g.1 g.2.1 g.2.2.1 (nI op) (nI ac) (nI e) Wh Dp Mo (zp_ME M) g.2.2.2.1 g.2.2.2.2.1 g.2.2.2.2.2 := by
    unfold zp_mk at hmk
    by_cases z : op % 2 = 1
    · rw [if_pos z] at hmk
      refine br_f (fun w => by have := (zn_b1 op).mp w; omega) ?_
      show wY_test_64 post (nI h) (nI n) _ (nI p) F C g.1 g.2.1 g.2.2.1 (nI op) (nI ac) (nI e) Wh Dp Mo (zp_ME M) g.2.2.2.1 g.2.2.2.2.1 g.2.2.2.2.2
      rw [zl_swp hy, ← hmk]
      exact zy_test64 hM hac hh hn H
    · rw [if_neg z] at hmk
      rw [← hmk]
      exact br_t ((zn_b1 op).mpr (by omega)) (zy_test64 hM hac hh hn H)
  unfold zp_sec at hyy
  by_cases z : op / 8 % 2 = 0
  · rw [if_pos (by omega)] at hyy
    refine br_t ((zn_b8 op).mpr z) ?_
    rw [nI_l (by omega)]
    rw [hyy] at K
    exact K
  · rw [if_neg (by omega)] at hyy
    refine br_f (fun w => z ((zn_b8 op).mp w)) ⟨zn_i8 e, ?_⟩
    rw [zn_c8]
    rw [hyy] at K
    exact K
theorem zo_test (c : zo_ctx p F op ac e M) :
    zo_good M (fun x y r k post => wpX_test (fun u => post (-1) u) (zx_S p F C ac e x y r M k d) (nI op)) (fun post => wpY_test post (zy_S p F C op ac e q M g)) C op ac e q d g := by
  obtain ⟨hp, hF, hop, hac, he, hM⟩ := c
  have ht := zp_sec_lt (m := 1 - op / 8 % 2) hM he
  refine ⟨zp_tp (op / 2 % 4) p (M ac &&& zp_mk (op % 2) (zp_sec M e (1 - op / 8 % 2))), F, zp_tM M ac (op / 16 % 4) (M ac) (zp_mk (op % 2) (zp_sec M e (1 - op / 8 % 2))), zp_tp_lt hp, hF, zp_tMW hM (hM ac) (zp_mk_lt ht), ?_, ?_⟩
  · intro x y r k hx hy hr hk post H
    exact zx_test hk hac he hop hM _ _ rfl rfl (fun k' hk' => H _ _ _ k' (hM ac) ht hr hk')
  · intro post H
    exact zy_test hac he hop hM _ _ rfl rfl H
end
end
section
/-! comparisons -/
def zp_hp (c : Nat) (a b : Int) : Prop := (c = 1 ∧ a < b) ∨ (c = 2 ∧ a = b) ∨ (c = 3 ∧ a ≤ b) ∨ c = 4 ∨ (c = 5 ∧ b ≤ a) ∨ (c = 6 ∧ a ≠ b) ∨ (c = 7 ∧ b < a)
def zp_HB (c : Nat) (a b : Int) (n : Nat) : Prop := (n = 0 ∧ ¬ zp_hp c a b) ∨ (n = 1 ∧ zp_hp c a b)
def zp_cp (kd e p b : Nat) : Nat := if b = 0 then p else if kd = 2 ∨ kd = 4 ∨ kd = 6 then e else (p + 1) % 262144
theorem zp_cp_lt {kd e p b : Nat} (he : e < 262144) (hp : p < 262144) : zp_cp kd e p b < 262144 := by
  unfold zp_cp
  split
  · exact hp
  · split
    · exact he
    · omega
theorem zp_HBe (c : Nat) (a b : Int) : ∃ n, n ≤ 1 ∧ zp_HB c a b n := by
  by_cases h : zp_hp c a b
  · exact ⟨1, by decide, Or.inr ⟨rfl, h⟩⟩
  · exact ⟨0, by decide, Or.inl ⟨rfl, h⟩⟩
theorem zx_holds {post : Int32 → Prop} {c n : Nat} {o : Int32} {a b : Int} (hc : c < 8) (ho : (o = -1 ∧ a < b) ∨ (o = 0 ∧ a = b) ∨ (o = 1 ∧ b < a)) (hn : zp_HB c a b n) (H : post (nI n)) : wpX_holds post (nI c) o := by
  unfold zp_HB zp_hp at hn
  have h8 : c = 0 ∨ c = 1 ∨ c = 2 ∨ c = 3 ∨ c = 4 ∨ c = 5 ∨ c = 6 ∨ c = 7 := by omega
  have h1 : n = 0 ∨ n = 1 := by omega
  rcases h1 with rfl | rfl <;> rcases h8 with rfl | rfl | rfl | rfl | rfl | rfl | rfl | rfl <;> rcases ho with ⟨rfl, ho⟩ | ⟨rfl, ho⟩ | ⟨rfl, ho⟩ <;>
    first
    | (exfalso; omega)
    | (repeat (first | refine br_t (by decide) ?_ | refine br_f (by decide) ?_)
       exact H)
theorem zy_holds {post : Int32 → Prop} {c n : Nat} {v w : Int64} {a b : Int} (hc : c < 8) (hv : v.toInt = a) (hw : w.toInt = b) (hn : zp_HB c a b n) (H : post (nI n)) : wpY_holds post (nI c) v w := by
  unfold zp_HB zp_hp at hn
  have l1 : v ≤ w ↔ a ≤ b := by rw [Int64.le_iff_toInt_le, hv, hw]
  have l2 : w ≤ v ↔ b ≤ a := by rw [Int64.le_iff_toInt_le, hv, hw]
  have l3 : w < v ↔ b < a := by rw [Int64.lt_iff_toInt_lt, hv, hw]
  have l4 : v < w ↔ a < b := by rw [Int64.lt_iff_toInt_lt, hv, hw]
  have l5 : v = w ↔ a = b := by rw [← Int64.toInt_inj, hv, hw]
  have h8 : c = 0 ∨ c = 1 ∨ c = 2 ∨ c = 3 ∨ c = 4 ∨ c = 5 ∨ c = 6 ∨ c = 7 := by omega
  have h1 : n = 0 ∨ n = 1 := by omega
  unfold wpY_holds
  rw [l1, l2, l3, l4, l5]
  rcases h1 with rfl | rfl <;> rcases h8 with rfl | rfl | rfl | rfl | rfl | rfl | rfl | rfl <;>
    first
    | (exfalso; omega)
    | (repeat (first | refine br_t (by decide) ?_ | refine br_f (by decide) ?_)
       first
       | exact H
       | exact br_t (by omega) H
       | exact br_f (by omega) H)
section
variable {P F C A E : Int32} {p op ac e x y r m f : Nat} {M : Nat → Nat} {k : zx_K} {d : zx_D} {g : zy_D} {q : Int32 × Int32 × Int32} {post : SX → Prop}
theorem zx_order {post : Int32 → Prop} (hx : x < 68719476736) (hy : y < 68719476736)
    (H : ∀ o : Int32, ((o = -1 ∧ zp_sI x < zp_sI y) ∨ (o = 0 ∧ zp_sI x = zp_sI y) ∨ (o = 1 ∧ zp_sI y < zp_sI x)) → post o) : wpX_order post (zx_G P F C A E x y r M k d) := by
  have sx : zp_sI x = if x < 34359738368 then (x : Int) else (x : Int) - 68719476736 := rfl
  have sy : zp_sI y = if y < 34359738368 then (y : Int) else (y : Int) - 68719476736 := rfl
  generalize zp_sI x = a at *
  generalize zp_sI y = b at *
  refine nm_r (zn_xtop (by omega)) (nm_r (zn_xtop (by omega)) ?_)
  generalize h1 : (if x / 262144 < 131072 then x / 262144 + 131072 else x / 262144 - 131072) = x1
  generalize h2 : (if y / 262144 < 131072 then y / 262144 + 131072 else y / 262144 - 131072) = y1
  have b1 : x1 < 262144 := by rw [← h1]; split <;> omega
  have b2 : y1 < 262144 := by rw [← h2]; split <;> omega
  have c1 : a = ((x1 * 262144 + x % 262144 : Nat) : Int) - 34359738368 := by
    rw [sx, ← h1]
    split <;> split <;> omega
  have c2 : b = ((y1 * 262144 + y % 262144 : Nat) : Int) - 34359738368 := by
    rw [sy, ← h2]
    split <;> split <;> omega
  refine pk_eq x1 y1 (fun z => pk_le (y % 262144) (x % 262144) (fun z1 => pk_le (x % 262144) (y % 262144) (fun z2 => H 0 (Or.inr (Or.inl ⟨rfl, ?_⟩))) (fun z2 => H 1 (Or.inr (Or.inr ⟨rfl, ?_⟩)))) (fun z1 => H (-1) (Or.inl ⟨rfl, ?_⟩))) (fun z => pk_le y1 x1 (fun z1 => H 1 (Or.inr (Or.inr ⟨rfl, ?_⟩))) (fun z1 => H (-1) (Or.inl ⟨rfl, ?_⟩)))
  all_goals omega
theorem zx_cmp174 {c kd n : Nat} (hc : c < 8) (hkd : kd < 8) (hn : n ≤ 1) (hx : x < 68719476736) (hy : y < 68719476736) (hb : zp_HB c (zp_sI x) (zp_sI y) n)
    (H : post (zx_G (nI (zp_cp kd e p n)) F C A (nI e) x y r M k d)) : wX_compare_174 post (nI c) (nI kd) (nI p) F C d.1 d.2.1 d.2.2.1 d.2.2.2.1 A (nI e) (nI (x / 262144)) (nI (x % 262144)) (nI (y / 262144)) (nI (y % 262144)) (nI (r / 262144)) (nI (r % 262144)) (zp_HI M) (zp_LO M) k.1 k.2.1 k.2.2.1 k.2.2.2.1 k.2.2.2.2 d.2.2.2.2.1 d.2.2.2.2.2.1 d.2.2.2.2.2.2.1 d.2.2.2.2.2.2.2.1 d.2.2.2.2.2.2.2.2 := by
  refine zx_order hx hy (fun o ho => zx_holds hc ho hb ?_)
  unfold zp_cp at H
  refine pk_eq n 0 (fun h => ?_) (fun h => pk_le kd 1 (fun h1 => ?_) (fun h1 => ?_))
  · rw [if_pos h] at H
    exact H
  · rw [if_neg h, if_neg (by omega)] at H
    exact zx_skip H
  · rw [if_neg h] at H
    by_cases h2 : kd % 2 = 0
    · rw [if_pos (by omega)] at H
      exact br_t ((zn_b1 kd).mpr h2) H
    · rw [if_neg (by omega)] at H
      exact br_f (fun z => h2 ((zn_b1 kd).mp z)) (zx_skip H)
/-- what is counted -/
def zp_cv (kd v : Nat) : Nat := if kd ≤ 3 then v else if 6 ≤ kd then zp_sm v 68719476735 0 else zp_sm v 1 0
def zp_cF (F : Int32) (kd v : Nat) : Int32 := if kd ≤ 3 then F else if 6 ≤ kd then zp_fl F v 68719476735 0 else zp_fl F v 1 0
def zp_cM (M : Nat → Nat) (e ac kd w : Nat) : Nat → Nat := if kd = 5 ∨ kd = 7 then zp_up M (e % 256) w else M
def zp_cN (M : Nat → Nat) (ac kd w : Nat) : Nat → Nat := if kd = 4 ∨ kd = 6 ∨ (kd % 2 = 1 ∧ ac ≠ 0) then zp_up M ac w else M
def zp_c0 (M : Nat → Nat) (e ac kd : Nat) : Nat := if kd % 2 = 1 then M (e % 256) else M ac
theorem zp_cv_lt {kd v : Nat} (h : v < 68719476736) : zp_cv kd v < 68719476736 := by
  unfold zp_cv
  split
  · exact h
  · split <;> exact zp_sm_lt _ _ _
theorem zp_cFL {F : Int32} {kd v : Nat} (h : zp_FL F) : zp_FL (zp_cF F kd v) := by
  unfold zp_cF
  split
  · exact h
  · split <;> exact zp_FLfl h _ _ _
theorem zp_cMW {M : Nat → Nat} {e ac kd w : Nat} (hM : zp_MW M) (hw : w < 68719476736) : zp_MW (zp_cM M e ac kd w) := by
  unfold zp_cM
  split
  · exact zp_MWu hM hw
  · exact hM
theorem zp_cNW {M : Nat → Nat} {ac kd w : Nat} (hM : zp_MW M) (hw : w < 68719476736) : zp_MW (zp_cN M ac kd w) := by
  unfold zp_cN
  split
  · exact zp_MWu hM hw
  · exact hM
theorem zx_cmp129 {c kd n : Nat} (hc : c < 8) (hkd : kd < 8) (hk2 : 2 ≤ kd) (hn : n ≤ 1) (hac : ac < 16) (hk : zp_CV M k) (hx : x < 68719476736) (hb : zp_HB c (zp_sI x) 0 n)
    (H : ∀ k', zp_CV (zp_cN M ac kd x) k' → post (zx_G (nI (zp_cp kd e p n)) F C (nI ac) (nI e) x 0 r (zp_cN M ac kd x) k' d)) :
    wX_compare_129 post (nI c) (nI kd) (nI (kd % 2)) (nI p) F C d.1 d.2.1 d.2.2.1 d.2.2.2.1 (nI ac) (nI e) (nI (x / 262144)) (nI (x % 262144)) (nI (y / 262144)) (nI (y % 262144)) (nI (r / 262144)) (nI (r % 262144)) (zp_HI M) (zp_LO M) k.1 k.2.1 k.2.2.1 k.2.2.2.1 k.2.2.2.2 d.2.2.2.2.1 d.2.2.2.2.2.1 d.2.2.2.2.2.2.1 d.2.2.2.2.2.2.2.1 d.2.2.2.2.2.2.2.2 := by
  have K : ∀ M' k', zp_CV M' k' → post (zx_G (nI (zp_cp kd e p n)) F C (nI ac) (nI e) x 0 r M' k' d) → wX_compare_164 post (nI c) (nI kd) (nI p) F C d.1 d.2.1 d.2.2.1 d.2.2.2.1 (nI ac) (nI e) (nI (x / 262144)) (nI (x % 262144)) (nI (y / 262144)) (nI (y % 262144)) (nI (r / 262144)) (nI (r % 262144)) (zp_HI M') (zp_LO M') k'.1 k'.2.1 k'.2.2.1 k'.2.2.2.1 k'.2.2.2.2 d.2.2.2.2.1 d.2.2.2.2.2.1 d.2.2.2.2.2.2.1 d.2.2.2.2.2.2.2.1 d.2.2.2.2.2.2.2.2 := by
    intro M' k' _ H'
    exact zx_cmp174 (y := 0) hc hkd hn hx (by decide) hb H'
  have L : (∀ k', zp_CV (zp_up M ac x) k' → post (zx_G (nI (zp_cp kd e p n)) F C (nI ac) (nI e) x 0 r (zp_up M ac x) k' d)) → wX_compare_148 post (nI c) (nI kd) (nI p) F C d.1 d.2.1 d.2.2.1 d.2.2.2.1 (nI ac) (nI e) (nI (x / 262144)) (nI (x % 262144)) (nI (y / 262144)) (nI (y % 262144)) (nI (r / 262144)) (nI (r % 262144)) (zp_HI M) (zp_LO M) k.1 k.2.1 k.2.2.1 k.2.2.2.1 k.2.2.2.2 d.2.2.2.2.1 d.2.2.2.2.2.1 d.2.2.2.2.2.2.1 d.2.2.2.2.2.2.2.1 d.2.2.2.2.2.2.2.2 := by
    intro H'
    exact zx_writeA hk hac x rfl rfl (fun k' hk' => K _ k' hk' (H' k' hk'))
  unfold zp_cN at H
  refine pk_eq (kd % 2) 0 (fun h => pk_le kd 3 (fun h3 => ?_) (fun h3 => ?_)) (fun h => pk_eq ac 0 (fun h0 => ?_) (fun h0 => ?_))
  · rw [if_neg (by omega)] at H
    exact K M k hk (H k hk)
  · rw [if_pos (by omega)] at H
    exact L H
  · rw [if_neg (by omega)] at H
    exact K M k hk (H k hk)
  · rw [if_pos (by omega)] at H
    exact L H
theorem zx_cmp104 {c kd n : Nat} (hc : c < 8) (hkd : kd < 8) (hk2 : 2 ≤ kd) (hn : n ≤ 1) (hac : ac < 16) (hk : zp_CV M k) (hx : x < 68719476736) (hb : zp_HB c (zp_sI x) 0 n)
    (H : ∀ k', zp_CV (zp_cN (zp_cM M e ac kd x) ac kd x) k' → post (zx_G (nI (zp_cp kd e p n)) F C (nI ac) (nI e) x 0 r (zp_cN (zp_cM M e ac kd x) ac kd x) k' d)) :
    wX_compare_104 post (nI c) (nI kd) (nI (kd % 2)) (nI p) F C d.1 d.2.1 d.2.2.1 d.2.2.2.1 (nI ac) (nI e) (nI (x / 262144)) (nI (x % 262144)) (nI (y / 262144)) (nI (y % 262144)) (nI (r / 262144)) (nI (r % 262144)) (zp_HI M) (zp_LO M) k.1 k.2.1 k.2.2.1 k.2.2.2.1 k.2.2.2.2 d.2.2.2.2.1 d.2.2.2.2.2.1 d.2.2.2.2.2.2.1 d.2.2.2.2.2.2.2.1 d.2.2.2.2.2.2.2.2 := by
  unfold zp_cM at H
  refine pk_le kd 3 (fun h3 => ?_) (fun h3 => pk_eq (kd % 2) 0 (fun h => ?_) (fun h => ?_))
  · rw [if_neg (by omega)] at H
    exact zx_cmp129 hc hkd hk2 hn hac hk hx hb H
  · rw [if_neg (by omega)] at H
    exact zx_cmp129 hc hkd hk2 hn hac hk hx hb H
  · rw [if_pos (by omega)] at H
    exact zx_write hk e x rfl rfl rfl (fun k' hk' => zx_cmp129 hc hkd hk2 hn hac hk' hx hb H)
theorem zx_cmp80 {c kd n i : Nat} (hc : c < 8) (hkd : kd < 8) (hk2 : 2 ≤ kd) (hn : n ≤ 1) (hac : ac < 16) (hi : i < 256) (hk : zp_CV M k) (hM : zp_MW M) (hb : zp_HB c (zp_sI (zp_cv kd (M i))) 0 n)
    (hr : r < 68719476736)
    (H : ∀ r' k', r' < 68719476736 → zp_CV (zp_cN (zp_cM M e ac kd (zp_cv kd (M i))) ac kd (zp_cv kd (M i))) k' → post (zx_G (nI (zp_cp kd e p n)) (zp_cF F kd (M i)) C (nI ac) (nI e) (zp_cv kd (M i)) 0 r' (zp_cN (zp_cM M e ac kd (zp_cv kd (M i))) ac kd (zp_cv kd (M i))) k' d))
    {xh : Int32} (hxh : xh = nI (M i / 262144)) {xl : Int32} :
    wX_compare_80 post (nI c) (nI kd) (nI (kd % 2)) (nI i) (nI p) F C d.1 d.2.1 d.2.2.1 d.2.2.2.1 (nI ac) (nI e) xh xl (nI (y / 262144)) (nI (y % 262144)) (nI (r / 262144)) (nI (r % 262144)) (zp_HI M) (zp_LO M) k.1 k.2.1 k.2.2.1 k.2.2.2.1 k.2.2.2.2 d.2.2.2.2.1 d.2.2.2.2.2.1 d.2.2.2.2.2.2.1 d.2.2.2.2.2.2.2.1 d.2.2.2.2.2.2.2.2 := by
  subst hxh
  have hw := hM i
  refine ⟨vp_in_nI hi (by decide), ?_⟩
  rw [nI_clamp (by omega)]
  refine nm_e ?_
  unfold zp_cv zp_cF at H
  unfold zp_cv at hb
  refine pk_le kd 3 (fun h3 => ?_) (fun h3 => pk_le 6 kd (fun h6 => ?_) (fun h6 => ?_))
  · rw [if_pos h3] at hb
    rw [if_pos h3, if_pos h3] at H
    exact zx_cmp104 (x := M i) hc hkd hk2 hn hac hk hw hb (fun k' hk' => H r k' hr hk')
  · rw [if_neg (by omega), if_pos h6] at hb
    rw [if_neg (by omega), if_pos h6, if_neg (by omega), if_pos h6] at H
    exact br_t rfl (zx_add (x := M i) 68719476735 0 hw (by decide) (by decide) rfl rfl rfl (zx_cmp104 (x := zp_sm (M i) 68719476735 0) hc hkd hk2 hn hac hk (zp_sm_lt _ _ _) hb (fun k' hk' => H _ k' (zp_sm_lt _ _ _) hk')))
  · rw [if_neg (by omega), if_neg (by omega)] at hb
    rw [if_neg (by omega), if_neg (by omega), if_neg (by omega), if_neg (by omega)] at H
    exact br_f (by decide) (zx_add (x := M i) 1 0 hw (by decide) (by decide) rfl rfl rfl (zx_cmp104 (x := zp_sm (M i) 1 0) hc hkd hk2 hn hac hk (zp_sm_lt _ _ _) hb (fun k' hk' => H _ k' (zp_sm_lt _ _ _) hk')))
theorem zx_compare2 {c kd n : Nat} (hc : c < 8) (hkd : kd < 8) (hk2 : 2 ≤ kd) (hn : n ≤ 1) (hac : ac < 16) (hk : zp_CV M k) (hM : zp_MW M) (hr : r < 68719476736) (w : Nat) (hw : w = zp_c0 M e ac kd) (hb : zp_HB c (zp_sI (zp_cv kd w)) 0 n)
    (H : ∀ r' k', r' < 68719476736 → zp_CV (zp_cN (zp_cM M e ac kd (zp_cv kd w)) ac kd (zp_cv kd w)) k' → post (zx_G (nI (zp_cp kd e p n)) (zp_cF F kd w) C (nI ac) (nI e) (zp_cv kd w) 0 r' (zp_cN (zp_cM M e ac kd (zp_cv kd w)) ac kd (zp_cv kd w)) k' d)) :
    wpX_compare post (zx_G (nI p) F C (nI ac) (nI e) x y r M k d) (nI c) (nI kd) := by
  refine pk_le 2 kd (fun _ => ?_) (fun h => by omega)
  unfold zp_c0 at hw
  by_cases h : kd % 2 = 1
  · rw [if_pos h] at hw
    subst hw
    refine br_t ((zn_b11 kd).mpr h) (br_f (by decide) ⟨zn_i8 e, ?_⟩)
    rw [zn_m8, nI_clamp (by omega)]
    refine nm_e (br_f (by decide) ?_)
    have K := zx_cmp80 (post := post) (F := F) (C := C) (p := p) (e := e) (y := y) (d := d) (i := e % 256) hc hkd hk2 hn hac (by omega) hk hM hb hr H (xh := nI (M (e % 256) / 262144)) rfl (xl := nI (x % 262144))
    rw [h] at K
    exact K
  · rw [if_neg h] at hw
    subst hw
    refine br_f (fun z => h ((zn_b11 kd).mp z)) (br_t rfl ⟨zx_iA hac, ?_⟩)
    rw [zx_cA hac]
    refine nm_e (br_t rfl ?_)
    have K := zx_cmp80 (post := post) (F := F) (C := C) (p := p) (e := e) (y := y) (d := d) (i := ac) hc hkd hk2 hn hac (by omega) hk hM hb hr H (xh := nI (M ac / 262144)) rfl (xl := nI (x % 262144))
    rw [show kd % 2 = 0 by omega] at K
    exact K
theorem zx_compare01 {c kd n : Nat} (hc : c < 8) (hk2 : kd < 2) (hn : n ≤ 1) (hac : ac < 16) (he : e < 262144) (hk : zp_CV M k) (hM : zp_MW M) (hb : zp_HB c (zp_sI (M ac)) (zp_sI (zp_sec M e (1 - kd))) n)
    (H : post (zx_G (nI (zp_cp kd e p n)) F C (nI ac) (nI e) (M ac) (zp_sec M e (1 - kd)) r M k d)) :
    wpX_compare post (zx_G (nI p) F C (nI ac) (nI e) x y r M k d) (nI c) (nI kd) := by
  refine pk_le 2 kd (fun h => by omega) (fun _ => ?_)
  have e1 : (1 : Int32) - nI kd = nI (1 - kd) := by
    show nI 1 - nI kd = _
    exact pk_sub (by omega)
  rw [e1]
  exact zx_operands hac he (by omega) (zx_cmp174 hc (by omega) hn (hM ac) (zp_sec_lt hM he) hb H)
end
end
section
/-! comparisons: Y, and both -/
section
variable {F C Wh Dp Mo : Int32} {p op ac e x y r m f : Nat} {M : Nat → Nat} {k : zx_K} {d : zx_D} {g : zy_D} {q : Int32 × Int32 × Int32} {post : SY → Prop}
theorem zy_jump1 {P O A : Int32} (H : post (zy_G (nI e) F C O A (nI e) Wh Dp Mo M g)) : wpY_jump post (zy_G P F C O A (nI e) Wh Dp Mo M g) 1 := br_f (by decide) H
theorem zy_jump0 {P O A E : Int32} (H : post (zy_G P F C O A E Wh Dp Mo M g)) : wpY_jump post (zy_G P F C O A E Wh Dp Mo M g) 0 := br_t rfl H
theorem zy_cmp196 {c kd n : Nat} {v w : Int64} {a b : Int} {O : Int32} (hc : c < 8) (hkd : kd < 8) (hn : n ≤ 1) (hv : v.toInt = a) (hw : w.toInt = b) (hb : zp_HB c a b n)
    (H : post (zy_G (nI (zp_cp kd e p n)) F C O (nI ac) (nI e) Wh Dp Mo M g)) : wY_compare_196 post (nI c) (nI kd) v w (nI p) F C g.1 g.2.1 g.2.2.1 O (nI ac) (nI e) Wh Dp Mo (zp_ME M) g.2.2.2.1 g.2.2.2.2.1 g.2.2.2.2.2 := by
  refine zy_holds hc hv hw hb ?_
  have h1 : n = 0 ∨ n = 1 := by omega
  unfold zp_cp at H
  have J : (kd = 2 ∨ kd = 4 ∨ kd = 6) → wY_compare_224 post (nI n) (nI p) F C g.1 g.2.1 g.2.2.1 O (nI ac) (nI e) Wh Dp Mo (zp_ME M) g.2.2.2.1 g.2.2.2.2.1 g.2.2.2.2.2 := by
    intro h
    rw [if_pos h] at H
    rcases h1 with rfl | rfl
    · rw [if_pos rfl] at H
      exact zy_jump0 H
    · rw [if_neg (by decide)] at H
      exact zy_jump1 H
  refine pk_eq kd 2 (fun z => J (by omega)) (fun z2 => pk_eq kd 4 (fun z => J (by omega)) (fun z4 => pk_eq kd 6 (fun z => J (by omega)) (fun z6 => ?_)))
  rw [if_neg (by omega : ¬ (kd = 2 ∨ kd = 4 ∨ kd = 6))] at H
  rcases h1 with rfl | rfl
  · rw [if_pos rfl] at H
    exact zy_skip0 H
  · rw [if_neg (by decide)] at H
    exact zy_skip1 H
theorem zp_sI0 : zp_sI 0 = 0 := rfl
theorem zp_sIs {e : Nat} (he : e < 262144) : zp_sI e = (e : Int) := by
  unfold zp_sI
  rw [if_pos (by omega)]
/-- what a word is compared with -/
def zp_cy (M : Nat → Nat) (e kd : Nat) : Nat := if kd = 0 then e else if kd = 1 then M (e % 256) else 0
theorem zy_cmp157 {c kd n w : Nat} {O : Int32} (hc : c < 8) (hkd : kd < 8) (hn : n ≤ 1) (he : e < 262144) (hM : zp_MW M) (hw : w < 68719476736) (hb : zp_HB c (zp_sI w) (zp_sI (zp_cy M e kd)) n)
    (H : post (zy_G (nI (zp_cp kd e p n)) F C O (nI ac) (nI e) Wh Dp Mo M g)) : wY_compare_157 post (nI c) (nI kd) (lN w) (nI p) F C g.1 g.2.1 g.2.2.1 O (nI ac) (nI e) Wh Dp Mo (zp_ME M) g.2.2.2.1 g.2.2.2.2.1 g.2.2.2.2.2 := by
  refine zy_signed hw (zy_there ?_)
  unfold zp_cy at hb
  refine pk_eq kd 0 (fun z => ?_) (fun z0 => pk_eq kd 1 (fun z => ?_) (fun z1 => ?_))
  · rw [if_pos z, zp_sIs he] at hb
    exact zy_cmp196 hc hkd hn (zp_sg_toInt hw) (by rw [nI_l (by omega), lN_toInt (by omega)]) hb H
  · rw [if_neg z0, if_pos z] at hb
    exact zy_signed (hM _) (zy_cmp196 hc hkd hn (zp_sg_toInt hw) (zp_sg_toInt (hM _)) hb H)
  · rw [if_neg z0, if_neg z1] at hb
    exact zy_cmp196 hc hkd hn (zp_sg_toInt hw) (by decide) hb H
theorem zy_cmp124 {c kd n w : Nat} {O : Int32} (hc : c < 8) (hkd : kd < 8) (hn : n ≤ 1) (hac : ac < 16) (he : e < 262144) (hM : zp_MW M) (hw : w < 68719476736) (h3 : x = if kd = 3 ∨ kd = 5 ∨ kd = 7 then 1 else 0)
    (hb : zp_HB c (zp_sI w) (zp_sI (zp_cy (if 2 ≤ kd then zp_cN M ac kd w else M) e kd)) n)
    (H : post (zy_G (nI (zp_cp kd e p n)) F C O (nI ac) (nI e) Wh Dp Mo (if 2 ≤ kd then zp_cN M ac kd w else M) g)) : wY_compare_124 post (nI c) (nI kd) (nI x) (lN w) (nI p) F C g.1 g.2.1 g.2.2.1 O (nI ac) (nI e) Wh Dp Mo (zp_ME M) g.2.2.2.1 g.2.2.2.2.1 g.2.2.2.2.2 := by
  have K : ∀ M', zp_MW M' → M' = (if 2 ≤ kd then zp_cN M ac kd w else M) → wY_compare_157 post (nI c) (nI kd) (lN w) (nI p) F C g.1 g.2.1 g.2.2.1 O (nI ac) (nI e) Wh Dp Mo (zp_ME M') g.2.2.2.1 g.2.2.2.2.1 g.2.2.2.2.2 := by
    intro M' hM' e'
    rw [← e'] at hb H
    exact zy_cmp157 hc hkd hn he hM' hw hb H
  have L : 2 ≤ kd → (kd = 4 ∨ kd = 6 ∨ (kd % 2 = 1 ∧ ac ≠ 0)) → wY_compare_146 post (nI c) (nI kd) (lN w) (nI p) F C g.1 g.2.1 g.2.2.1 O (nI ac) (nI e) Wh Dp Mo (zp_ME M) g.2.2.2.1 g.2.2.2.2.1 g.2.2.2.2.2 := by
    intro h2 hh
    refine ⟨zx_iA hac, nm_r (zy_updA hac) (K (zp_up M ac w) (zp_MWu hM hw) ?_)⟩
    unfold zp_cN
    rw [if_pos h2, if_pos hh]
  have N : ¬ (2 ≤ kd ∧ (kd = 4 ∨ kd = 6 ∨ (kd % 2 = 1 ∧ ac ≠ 0))) → wY_compare_157 post (nI c) (nI kd) (lN w) (nI p) F C g.1 g.2.1 g.2.2.1 O (nI ac) (nI e) Wh Dp Mo (zp_ME M) g.2.2.2.1 g.2.2.2.2.1 g.2.2.2.2.2 := by
    intro hh
    refine K M hM ?_
    by_cases h2 : 2 ≤ kd
    · unfold zp_cN
      rw [if_pos h2, if_neg (fun z => hh ⟨h2, z⟩)]
    · rw [if_neg h2]
  have hx : x ≤ 1 := by rw [h3]; split <;> decide
  refine pk_eq kd 4 (fun z => L (by omega) (by omega)) (fun z4 => pk_eq kd 6 (fun z => L (by omega) (by omega)) (fun z6 => pk_eq x 0 (fun zx => ?_) (fun zx => pk_eq ac 0 (fun za => ?_) (fun za => ?_))))
  · refine N ?_
    by_cases hh : kd = 3 ∨ kd = 5 ∨ kd = 7
    · rw [if_pos hh] at h3; omega
    · omega
  · exact N (by omega)
  · by_cases hh : kd = 3 ∨ kd = 5 ∨ kd = 7
    · exact L (by omega) (by omega)
    · rw [if_neg hh] at h3; omega
theorem zy_cmp98 {c kd n w : Nat} {O : Int32} (hc : c < 8) (hkd : kd < 8) (hn : n ≤ 1) (hac : ac < 16) (he : e < 262144) (hM : zp_MW M) (hw : w < 68719476736) (h3 : x = if kd = 3 ∨ kd = 5 ∨ kd = 7 then 1 else 0)
    (hb : zp_HB c (zp_sI w) (zp_sI (zp_cy (if 2 ≤ kd then zp_cN (zp_cM M e ac kd w) ac kd w else zp_cM M e ac kd w) e kd)) n)
    (H : post (zy_G (nI (zp_cp kd e p n)) F C O (nI ac) (nI e) Wh Dp Mo (if 2 ≤ kd then zp_cN (zp_cM M e ac kd w) ac kd w else zp_cM M e ac kd w) g)) : wY_compare_98 post (nI c) (nI kd) (nI x) (lN w) (nI p) F C g.1 g.2.1 g.2.2.1 O (nI ac) (nI e) Wh Dp Mo (zp_ME M) g.2.2.2.1 g.2.2.2.2.1 g.2.2.2.2.2 := by
  unfold zp_cM at hb H
  refine pk_eq kd 5 (fun z => ⟨zn_i8 e, nm_r zy_updE ?_⟩) (fun z5 => pk_eq kd 7 (fun z => ⟨zn_i8 e, nm_r zy_updE ?_⟩) (fun z7 => ?_))
  · rw [if_pos (by omega : kd = 5 ∨ kd = 7)] at hb H
    exact zy_cmp124 hc hkd hn hac he (zp_MWu hM hw) hw h3 hb H
  · rw [if_pos (by omega : kd = 5 ∨ kd = 7)] at hb H
    exact zy_cmp124 hc hkd hn hac he (zp_MWu hM hw) hw h3 hb H
  · rw [if_neg (by omega : ¬ (kd = 5 ∨ kd = 7))] at hb H
    exact zy_cmp124 hc hkd hn hac he hM hw h3 hb H
theorem zy_cmp69 {c kd n v w : Nat} {O : Int32} (hc : c < 8) (hkd : kd < 8) (hn : n ≤ 1) (hac : ac < 16) (he : e < 262144) (hM : zp_MW M) (hv : v < 68719476736) (hw : w = zp_cv kd v) (h3 : x = if kd = 3 ∨ kd = 5 ∨ kd = 7 then 1 else 0)
    (hb : zp_HB c (zp_sI w) (zp_sI (zp_cy (if 2 ≤ kd then zp_cN (zp_cM M e ac kd w) ac kd w else zp_cM M e ac kd w) e kd)) n)
    (H : post (zy_G (nI (zp_cp kd e p n)) (zp_cF F kd v) C O (nI ac) (nI e) Wh Dp Mo (if 2 ≤ kd then zp_cN (zp_cM M e ac kd w) ac kd w else zp_cM M e ac kd w) g)) : wY_compare_69 post (nI c) (nI kd) (nI x) (lN v) (nI p) F C g.1 g.2.1 g.2.2.1 O (nI ac) (nI e) Wh Dp Mo (zp_ME M) g.2.2.2.1 g.2.2.2.2.1 g.2.2.2.2.2 := by
  have hwl : w < 68719476736 := by rw [hw]; exact zp_cv_lt hv
  unfold zp_cv at hw
  unfold zp_cF at H
  refine pk_le kd 3 (fun z => ?_) (fun z3 => pk_le 6 kd (fun z6 => ?_) (fun z6 => ?_))
  · rw [if_pos z] at hw H
    rw [← hw]
    exact zy_cmp98 hc hkd hn hac he hM hwl h3 hb H
  · rw [if_neg (by omega : ¬ kd ≤ 3), if_pos z6] at hw H
    refine zy_sum v 68719476735 0 hv (by decide) (by decide) rfl ?_
    rw [← hw]
    exact zy_cmp98 hc hkd hn hac he hM hwl h3 hb H
  · rw [if_neg (by omega : ¬ kd ≤ 3), if_neg (by omega : ¬ 6 ≤ kd)] at hw H
    refine zy_sum v 1 0 hv (by decide) (by decide) rfl ?_
    rw [← hw]
    exact zy_cmp98 hc hkd hn hac he hM hwl h3 hb H
theorem zy_compare {n v w c kd : Nat} (hop : op < 512) (hcc : c = op % 8) (hkk : kd = op / 8 % 8) (hn : n ≤ 1) (hac : ac < 16) (he : e < 262144) (hM : zp_MW M) (hv : v = if kd = 3 ∨ kd = 5 ∨ kd = 7 then M (e % 256) else M ac) (hw : w = zp_cv kd v)
    (hb : zp_HB c (zp_sI w) (zp_sI (zp_cy (if 2 ≤ kd then zp_cN (zp_cM M e ac kd w) ac kd w else zp_cM M e ac kd w) e kd)) n)
    (H : post (zy_G (nI (zp_cp kd e p n)) (zp_cF F kd v) C (nI op) (nI ac) (nI e) Wh Dp Mo (if 2 ≤ kd then zp_cN (zp_cM M e ac kd w) ac kd w else zp_cM M e ac kd w) g)) : wpY_compare post (zy_G (nI p) F C (nI op) (nI ac) (nI e) Wh Dp Mo M g) := by
  have hc : c < 8 := by omega
  have hkd : kd < 8 := by omega
  have hvl : v < 68719476736 := by rw [hv]; split <;> exact hM _
  refine nm_r (e' := nI c) (by rw [zn_m3, hcc]) (nm_r (e' := nI kd) (by rw [zn_shr3 (by omega), zn_m3, hkk]) ?_)
  have K1 : (kd = 3 ∨ kd = 5 ∨ kd = 7) → wY_compare_39 post (nI c) (nI kd) (nI 1) (nI p) F C g.1 g.2.1 g.2.2.1 (nI op) (nI ac) (nI e) Wh Dp Mo (zp_ME M) g.2.2.2.1 g.2.2.2.2.1 g.2.2.2.2.2 := by
    intro hh
    rw [if_pos hh] at hv
    refine br_f (by decide) ⟨zn_i8 e, ?_⟩
    rw [zn_c8]
    show wY_compare_69 post (nI c) (nI kd) (nI 1) (lN (M (e % 256))) (nI p) F C g.1 g.2.1 g.2.2.1 (nI op) (nI ac) (nI e) Wh Dp Mo (zp_ME M) g.2.2.2.1 g.2.2.2.2.1 g.2.2.2.2.2
    rw [← hv]
    exact zy_cmp69 hc hkd hn hac he hM hvl hw (by rw [if_pos hh]) hb H
  refine pk_eq kd 3 (fun z => K1 (by omega)) (fun z3 => pk_eq kd 5 (fun z => K1 (by omega)) (fun z5 => pk_eq kd 7 (fun z => K1 (by omega)) (fun z7 => ?_)))
  rw [if_neg (by omega)] at hv
  refine br_t rfl ⟨zx_iA hac, ?_⟩
  rw [zx_cA hac]
  show wY_compare_69 post (nI c) (nI kd) (nI 0) (lN (M ac)) (nI p) F C g.1 g.2.1 g.2.2.1 (nI op) (nI ac) (nI e) Wh Dp Mo (zp_ME M) g.2.2.2.1 g.2.2.2.2.1 g.2.2.2.2.2
  rw [← hv]
  exact zy_cmp69 hc hkd hn hac he hM hvl hw (by rw [if_neg (by omega)]) hb H
theorem zo_compare (c : zo_ctx p F op ac e M) :
    zo_good M (fun x y r k post => wpX_compare (fun u => post (-1) u) (zx_S p F C ac e x y r M k d) (nI op &&& 7) ((nI op >>> ((3 : Int32) &&& 31)) &&& 7)) (fun post => wpY_compare post (zy_S p F C op ac e q M g)) C op ac e q d g := by
  obtain ⟨hp, hF, hop, hac, he, hM⟩ := c
  have e1 : nI op &&& 7 = nI (op % 8) := zn_m3 op
  have e2 : (nI op >>> ((3 : Int32) &&& 31)) &&& 7 = nI (op / 8 % 8) := by rw [zn_shr3 (by omega), zn_m3]
  have hc : op % 8 < 8 := by omega
  have hkd : op / 8 % 8 < 8 := by omega
  generalize hcc : op % 8 = cc at *
  generalize hkk : op / 8 % 8 = kd at *
  by_cases h2 : kd < 2
  · obtain ⟨n, hn, hb⟩ := zp_HBe cc (zp_sI (M ac)) (zp_sI (zp_sec M e (1 - kd)))
    have ht := zp_sec_lt (m := 1 - kd) hM he
    have hcy : zp_cy M e kd = zp_sec M e (1 - kd) := by
      unfold zp_cy zp_sec
      by_cases h0 : kd = 0
      · rw [if_pos h0, if_pos (by omega)]
      · rw [if_neg h0, if_pos (by omega), if_neg (by omega)]
    have hcm : zp_cM M e ac kd (M ac) = M := by unfold zp_cM; rw [if_neg (by omega)]
    have hcv : zp_cv kd (M ac) = M ac := by unfold zp_cv; rw [if_pos (by omega)]
    have hcf : zp_cF F kd (M ac) = F := by unfold zp_cF; rw [if_pos (by omega)]
    refine ⟨zp_cp kd e p n, F, M, zp_cp_lt he hp, hF, hM, ?_, ?_⟩
    · intro x y r k hx hy hr hk post H
      rw [e1, e2]
      exact zx_compare01 hc h2 hn hac he hk hM hb (H _ _ _ k (hM ac) ht hr hk)
    · intro post H
      refine zy_compare (w := M ac) (v := M ac) hop hcc.symm hkk.symm hn hac he hM (by rw [if_neg (by omega)]) hcv.symm ?_ ?_
      · rw [if_neg (by omega), hcm, hcy]
        exact hb
      · rw [if_neg (by omega), hcm, hcf]
        exact H
  · have h2' : 2 ≤ kd := by omega
    have hc0 : zp_c0 M e ac kd = if kd = 3 ∨ kd = 5 ∨ kd = 7 then M (e % 256) else M ac := by
      unfold zp_c0
      by_cases hh : kd % 2 = 1
      · rw [if_pos hh, if_pos (by omega)]
      · rw [if_neg hh, if_neg (by omega)]
    have hvl : zp_c0 M e ac kd < 68719476736 := by rw [hc0]; split <;> exact hM _
    generalize hv : zp_c0 M e ac kd = v at *
    obtain ⟨n, hn, hb⟩ := zp_HBe cc (zp_sI (zp_cv kd v)) 0
    refine ⟨zp_cp kd e p n, zp_cF F kd v, zp_cN (zp_cM M e ac kd (zp_cv kd v)) ac kd (zp_cv kd v), zp_cp_lt he hp, zp_cFL hF, zp_cNW (zp_cMW hM (zp_cv_lt hvl)) (zp_cv_lt hvl), ?_, ?_⟩
    · intro x y r k hx hy hr hk post H
      rw [e1, e2]
      exact zx_compare2 hc hkd h2' hn hac hk hM hr v hv.symm hb (fun r' k' hr' hk' => H _ _ _ k' (zp_cv_lt hvl) (by decide) hr' hk')
    · intro post H
      refine zy_compare (w := zp_cv kd v) (v := v) hop hcc.symm hkk.symm hn hac he hM hc0 rfl ?_ ?_
      · rw [if_pos h2']
        unfold zp_cy
        rw [if_neg (by omega), if_neg (by omega), zp_sI0]
        exact hb
      · rw [if_pos h2']
        exact H
end
end
section
/-! addresses -/
def zp_ea (M : Nat → Nat) (w : Nat) : Nat := (w % 262144 + (if w / 262144 % 16 = 0 then 0 else M (w / 262144 % 16) % 262144)) % 262144
def zp_ad (M : Nat → Nat) : Nat → Nat → Int32
  | 0, _ => -1
  | n + 1, w => if w / 4194304 % 2 = 0 then nI (zp_ea M w) else zp_ad M n (M (zp_ea M w % 256))
theorem zp_ea_lt (M : Nat → Nat) (w : Nat) : zp_ea M w < 262144 := Nat.mod_lt _ (by decide)
theorem zp_adC (M : Nat → Nat) : ∀ n w, zp_ad M n w = -1 ∨ ∃ e, e < 262144 ∧ zp_ad M n w = nI e := by
  intro n
  induction n with
  | zero => exact fun w => Or.inl rfl
  | succ n ih =>
    intro w
    by_cases h : w / 4194304 % 2 = 0
    · exact Or.inr ⟨zp_ea M w, zp_ea_lt M w, if_pos h⟩
    · rcases ih (M (zp_ea M w % 256)) with h2 | ⟨e, he, h2⟩
      · exact Or.inl ((if_neg h).trans h2)
      · exact Or.inr ⟨e, he, (if_neg h).trans h2⟩
theorem zp_hi15 (w : Nat) : nI (w / 262144) &&& 15 = nI (w / 262144 % 16) := zn_m4 _
theorem zp_hiI {w : Nat} (h : w < 68719476736) : (nI (w / 262144) >>> ((4 : Int32) &&& 31)) &&& 1 = nI (w / 4194304 % 2) := by
  rw [zn_shr4 (by omega), zn_m1]
  exact congrArg nI (by omega)
section
variable {P F C A E : Int32} {p op ac e x y r m f : Nat} {M : Nat → Nat} {k : zx_K} {d : zx_D} {g : zy_D} {q : Int32 × Int32 × Int32}
theorem zx_ad27 {post : Int32 → Prop} (hM : zp_MW M) : ∀ t j w, j + t = 8 → post (zp_ad M (t + 1) w) →
    wX_address_27 post P F C d.1 d.2.1 d.2.2.1 d.2.2.2.1 A E (nI (x / 262144)) (nI (x % 262144)) (nI (y / 262144)) (nI (y % 262144)) (nI (r / 262144)) (nI (r % 262144)) (zp_HI M) (zp_LO M) k.1 k.2.1 k.2.2.1 k.2.2.2.1 k.2.2.2.2 d.2.2.2.2.1 d.2.2.2.2.2.1 d.2.2.2.2.2.2.1 d.2.2.2.2.2.2.2.1 d.2.2.2.2.2.2.2.2 (t + 1) (nI (zp_ea M w)) (nI (w / 4194304 % 2)) (nI j) := by
  intro t
  induction t with
  | zero =>
    intro j w hj H
    have ej : j = 8 := by omega
    subst ej
    refine br_t (by decide) (pk_eq (w / 4194304 % 2) 0 (fun h => ?_) (fun h => ?_))
    · have H' : post (if w / 4194304 % 2 = 0 then nI (zp_ea M w) else zp_ad M 0 (M (zp_ea M w % 256))) := H
      rw [if_pos h] at H'
      exact H'
    · have H' : post (if w / 4194304 % 2 = 0 then nI (zp_ea M w) else zp_ad M 0 (M (zp_ea M w % 256))) := H
      rw [if_neg h] at H'
      exact H'
  | succ t ih =>
    intro j w hj H
    have H' : post (if w / 4194304 % 2 = 0 then nI (zp_ea M w) else zp_ad M (t + 1) (M (zp_ea M w % 256))) := H
    refine pk_le 8 j (fun h => by omega) (fun _ => pk_eq (w / 4194304 % 2) 0 (fun h => ?_) (fun h => ?_))
    · rw [if_pos h] at H'
      exact br_t (by rw [h]; rfl) H'
    · rw [if_neg h] at H'
      have hw := hM (zp_ea M w % 256)
      have i8 : vp_in (nI (zp_ea M w % 256)) 256 := vp_in_nI (by omega) (by decide)
      have c8 : (nI (zp_ea M w % 256)).toNatClampNeg = zp_ea M w % 256 := nI_clamp (by omega)
      refine nm_r (zn_m8 _) ⟨i8, ?_⟩
      rw [c8]
      have J := ih (j + 1) (M (zp_ea M w % 256)) (by omega) H'
      generalize hv : M (zp_ea M w % 256) = v at *
      have eh : zp_HI M (zp_ea M w % 256) = nI (v / 262144) := by show nI (M _ / 262144) = _; rw [hv]
      have el : zp_LO M (zp_ea M w % 256) = nI (v % 262144) := by show nI (M _ % 262144) = _; rw [hv]
      rw [eh]
      refine nm_r (zp_hi15 v) ⟨i8, ?_⟩
      have K : ∀ z0, z0 = nI (v / 4194304 % 2) → wX_address_79 post (wX_address_27 post P F C d.1 d.2.1 d.2.2.1 d.2.2.2.1 A E (nI (x / 262144)) (nI (x % 262144)) (nI (y / 262144)) (nI (y % 262144)) (nI (r / 262144)) (nI (r % 262144)) (zp_HI M) (zp_LO M) k.1 k.2.1 k.2.2.1 k.2.2.2.1 k.2.2.2.2 d.2.2.2.2.1 d.2.2.2.2.2.1 d.2.2.2.2.2.2.1 d.2.2.2.2.2.2.2.1 d.2.2.2.2.2.2.2.2 (t + 1)) (nI j) (nI (zp_ea M w % 256)) (nI (v / 262144 % 16)) z0 P F C d.1 d.2.1 d.2.2.1 d.2.2.2.1 A E (nI (x / 262144)) (nI (x % 262144)) (nI (y / 262144)) (nI (y % 262144)) (nI (r / 262144)) (nI (r % 262144)) (zp_HI M) (zp_LO M) k.1 k.2.1 k.2.2.1 k.2.2.2.1 k.2.2.2.2 d.2.2.2.2.1 d.2.2.2.2.2.1 d.2.2.2.2.2.2.1 d.2.2.2.2.2.2.2.1 d.2.2.2.2.2.2.2.2 := by
        intro z0 hz
        subst hz
        refine ⟨i8, ?_⟩
        rw [c8, el]
        unfold zp_ea at J
        refine pk_le (v / 262144 % 16) 0 (fun h0 => ?_) (fun h0 => ⟨vp_in_nI (by omega) (by decide), ?_⟩)
        · rw [if_pos (by omega)] at J
          exact nm_r (e' := nI ((v % 262144 + 0) % 262144)) (by show (nI (v % 262144) + nI 0) &&& 262143 = _; rw [nI_add, zn_m18]) (nm_r (nI_1 j) J)
        · rw [if_neg (by omega)] at J
          rw [nI_clamp (by omega)]
          exact nm_r (e' := nI ((v % 262144 + M (v / 262144 % 16) % 262144) % 262144)) (by show (nI (v % 262144) + nI (M (v / 262144 % 16) % 262144)) &&& 262143 = _; rw [nI_add, zn_m18]) (nm_r (nI_1 j) J)
      rw [zp_hiI hw]
      have h01 : v / 4194304 % 2 = 0 ∨ v / 4194304 % 2 = 1 := by omega
      rcases h01 with h01 | h01
      · exact br_f (by rw [h01]; decide) (K 0 (by rw [h01]; rfl))
      · exact br_t (by rw [h01]; rfl) (K 1 (by rw [h01]; rfl))
theorem zx_address {post : Int32 → Prop} (hM : zp_MW M) (w : Nat) {i x' y' : Int32} (hi : i = nI (w / 4194304 % 2)) (hx : x' = nI (w / 262144 % 16)) (hy : y' = nI (w % 262144)) (H : post (zp_ad M 9 w)) :
    wpX_address post (zx_G P F C A E x y r M k d) i x' y' := by
  subst hi hx hy
  have J := zx_ad27 (P := P) (F := F) (C := C) (A := A) (E := E) (x := x) (y := y) (r := r) (k := k) (d := d) hM 8 0 w rfl H
  unfold zp_ea at J
  refine pk_le (w / 262144 % 16) 0 (fun h0 => ?_) (fun h0 => ⟨vp_in_nI (by omega) (by decide), ?_⟩)
  · rw [if_pos (by omega)] at J
    exact nm_r (e' := nI ((w % 262144 + 0) % 262144)) (by show (nI (w % 262144) + nI 0) &&& 262143 = _; rw [nI_add, zn_m18]) ⟨_, J⟩
  · rw [if_neg (by omega)] at J
    rw [nI_clamp (by omega)]
    exact nm_r (e' := nI ((w % 262144 + M (w / 262144 % 16) % 262144) % 262144)) (by show (nI (w % 262144) + nI (M (w / 262144 % 16) % 262144)) &&& 262143 = _; rw [nI_add, zn_m18]) ⟨_, J⟩
end
section
variable {P F C O A E Wh Dp Mo : Int32} {p op ac e x y r m f : Nat} {M : Nat → Nat} {g : zy_D}
theorem zy_ad5 {post : Int32 → Prop} (hM : zp_MW M) : ∀ t j w, j + t = 9 → w < 68719476736 → post (zp_ad M t w) →
    wY_address_5 post P F C g.1 g.2.1 g.2.2.1 O A E Wh Dp Mo (zp_ME M) g.2.2.2.1 g.2.2.2.2.1 g.2.2.2.2.2 (t + 1) (lN w) (nI j) := by
  intro t
  induction t with
  | zero =>
    intro j w hj hw H
    have ej : j = 9 := by omega
    subst ej
    exact br_t (by decide) H
  | succ t ih =>
    intro j w hj hw H
    have H' : post (if w / 4194304 % 2 = 0 then nI (zp_ea M w) else zp_ad M t (M (zp_ea M w % 256))) := H
    refine pk_le 9 j (fun h => by omega) (fun _ => ?_)
    refine nm_r (e' := nI (w / 262144 % 16)) (by rw [zl_shr18 (by omega), lN_i, zn_m4]) (nm_r (e' := nI (w % 262144)) (by rw [lN_i, zn_m18]) ?_)
    have eb : ((lN w >>> ((22 : Int32).toInt64 &&& 63)) &&& 1 = 0) ↔ w / 4194304 % 2 = 0 := by
      rw [zl_shr22 (by omega), zl_m1, show (0 : Int64) = lN 0 from rfl, pk_lEQ (by omega) (by decide)]
    have K : wY_address_54 post (wY_address_5 post P F C g.1 g.2.1 g.2.2.1 O A E Wh Dp Mo (zp_ME M) g.2.2.2.1 g.2.2.2.2.1 g.2.2.2.2.2 (t + 1)) (lN w) (nI j) (nI (zp_ea M w)) P F C g.1 g.2.1 g.2.2.1 O A E Wh Dp Mo (zp_ME M) g.2.2.2.1 g.2.2.2.2.1 g.2.2.2.2.2 := by
      by_cases h : w / 4194304 % 2 = 0
      · rw [if_pos h] at H'
        exact br_t (eb.mpr h) H'
      · rw [if_neg h] at H'
        refine br_f (fun z => h (eb.mp z)) ⟨zn_i8 _, ?_⟩
        rw [zn_c8]
        exact nm_e (nm_r (nI_1 j) (ih (j + 1) _ (by omega) (hM _) H'))
    unfold zp_ea at K
    refine pk_le (w / 262144 % 16) 0 (fun h0 => ?_) (fun h0 => ⟨vp_in_nI (by omega) (by decide), ?_⟩)
    · rw [if_pos (by omega), show (w % 262144 + 0) % 262144 = w % 262144 by omega] at K
      exact K
    · rw [if_neg (by omega)] at K
      rw [nI_clamp (by omega)]
      exact nm_r (e' := nI ((w % 262144 + M (w / 262144 % 16) % 262144) % 262144)) (by show (nI (w % 262144) + (lN (M (w / 262144 % 16)) &&& 262143).toInt32) &&& 262143 = _; rw [zl_m18, lN_i, nI_add, zn_m18]) K
theorem zy_address {post : Int32 → Prop} (hM : zp_MW M) (w : Nat) (hw : w < 68719476736) (H : post (zp_ad M 9 w)) : wpY_address post (zy_G P F C O A E Wh Dp Mo M g) (lN w) :=
  ⟨10, zy_ad5 hM 9 0 w rfl hw H⟩
end
end
section
/-! bytes -/
def zp_bp (w : Nat) : Nat := if w / 1073741824 < w / 16777216 % 64 then (if w / 16777216 % 64 ≤ 36 then 36 - w / 16777216 % 64 else 0) else w / 1073741824 - w / 16777216 % 64
def zp_by (w : Nat) : Nat := if w / 1073741824 < w / 16777216 % 64 then (w % 262144 + 1) % 262144 else w % 262144
/-- a pointer goes on -/
def zp_av (w : Nat) : Nat := zp_bp w * 1073741824 + w / 262144 % 4096 * 262144 + zp_by w
theorem zp_bp_lt {w : Nat} (h : w < 68719476736) : zp_bp w < 64 := by
  unfold zp_bp
  split
  · split <;> omega
  · omega
theorem zp_by_lt (w : Nat) : zp_by w < 262144 := by
  unfold zp_by
  split <;> omega
theorem zp_av_lt {w : Nat} (h : w < 68719476736) : zp_av w < 68719476736 := by
  have h1 := zp_bp_lt h
  have h2 := zp_by_lt w
  unfold zp_av
  omega
theorem zp_avP {w : Nat} (h : w < 68719476736) : zp_av w / 1073741824 = zp_bp w := by
  have h1 := zp_bp_lt h
  have h2 := zp_by_lt w
  unfold zp_av
  omega
theorem zp_avS {w : Nat} (h : w < 68719476736) : zp_av w / 16777216 % 64 = w / 16777216 % 64 := by
  have h1 := zp_bp_lt h
  have h2 := zp_by_lt w
  unfold zp_av
  omega
def zp_ms (s : Nat) : Nat := 2 ^ s - 1
/-- a byte is loaded -/
def zp_lb (w p s : Nat) : Nat := w / 2 ^ p % 2 ^ s
def zp_db (w v p s : Nat) : Nat := ((w &&& ((zp_ms s * 2 ^ p) ^^^ 18446744073709551615)) ||| ((v &&& zp_ms s) * 2 ^ p)) % 68719476736
theorem zp_lb_lt {w p s : Nat} (h : w < 68719476736) : zp_lb w p s < 68719476736 :=
  Nat.lt_of_le_of_lt (Nat.le_trans (Nat.mod_le _ _) (Nat.div_le_self _ _)) h
theorem zp_db_lt (w v p s : Nat) : zp_db w v p s < 68719476736 := Nat.mod_lt _ (by decide)
theorem zp_shB (a p j : Nat) : (a * 2 ^ p).testBit j = (decide (p ≤ j) && a.testBit (j - p)) := by
  rw [← Nat.shiftLeft_eq, Nat.testBit_shiftLeft]
theorem zp_msB (s j : Nat) : (zp_ms s).testBit j = decide (j < s) := Nat.testBit_two_pow_sub_one s j
theorem zp_dbY {w v p s s' : Nat} (hw : w < 68719476736) (hs : s' = if s ≤ 35 then s else 36) :
    (w &&& ((zp_ms s' * 2 ^ p) ^^^ 18446744073709551615)) ||| (((v * 2 ^ p) &&& (zp_ms s' * 2 ^ p)) &&& 68719476735) = zp_db w v p s := by
  apply Nat.eq_of_testBit_eq
  intro j
  unfold zp_db
  rw [show (68719476736 : Nat) = 2 ^ 36 from rfl, Nat.testBit_mod_two_pow]
  simp only [Nat.testBit_or, Nat.testBit_and, Nat.testBit_xor, zp_shB, zp_msB, zp_o36, zp_o64]
  by_cases h : j < 36
  · have e : decide (j - p < s') = decide (j - p < s) := by
      apply decide_eq_decide.mpr
      rw [hs]
      split <;> omega
    rw [e, decide_eq_true h, decide_eq_true (show j < 64 by omega)]
    simp only [Bool.true_and, Bool.and_true]
    cases decide (p ≤ j) <;> cases v.testBit (j - p) <;> cases decide (j - p < s) <;> simp
  · rw [Nat.testBit_lt_two_pow (x := w) (i := j) (zp_p36 hw (by omega)), decide_eq_false h]
    simp
theorem zp_lbY {w p s s' : Nat} (hw : w < 68719476736) (hs : s' = if s ≤ 35 then s else 36) : w / 2 ^ p % 2 ^ s' = zp_lb w p s := by
  unfold zp_lb
  by_cases h : s ≤ 35
  · rw [hs, if_pos h]
  · rw [hs, if_neg h]
    have h1 : w / 2 ^ p < 2 ^ 36 := Nat.lt_of_le_of_lt (Nat.div_le_self _ _) hw
    have h2 : 2 ^ 36 ≤ 2 ^ s := Nat.pow_le_pow_right (by decide) (by omega)
    rw [Nat.mod_eq_of_lt h1, Nat.mod_eq_of_lt (Nat.lt_of_lt_of_le h1 h2)]
theorem zl_mask {s : Nat} (hs : s < 64) : ((1 : Int64) <<< ((nI s).toInt64 &&& 63)) - 1 = lN (zp_ms s) := by
  have h : (1 : Int64) <<< ((nI s).toInt64 &&& 63) = lN (1 * 2 ^ s) := wb_shl 1 hs
  rw [h, Nat.one_mul]
  exact lN_sub (Nat.one_le_two_pow)
theorem zl_cnt : ∀ p, p < 64 → (((nI p).toInt64 &&& 63).toBitVec.smod 64).toNat = p := by decide +kernel
section
variable {P F C A E : Int32} {p op ac e x y r m f : Nat} {M : Nat → Nat} {k : zx_K} {d : zx_D} {g : zy_D} {q : Int32 × Int32 × Int32}
theorem zp_hiP {w : Nat} (h : w < 68719476736) : nI (w / 262144) >>> ((12 : Int32) &&& 31) = nI (w / 1073741824) := by
  rw [zn_shr12 (by omega)]
  exact congrArg nI (by omega)
theorem zp_hiS {w : Nat} (h : w < 68719476736) : (nI (w / 262144) >>> ((6 : Int32) &&& 31)) &&& 63 = nI (w / 16777216 % 64) := by
  rw [zn_shr6 (by omega), zn_m6]
  exact congrArg nI (by omega)
theorem zp_orA (a b : Nat) (hb : b < 4096) : b ||| a * 4096 = a * 4096 + b := by
  rw [Nat.or_comm]
  exact zp_orS 12 b a hb
theorem zx_adv67 {post : SX → Prop} (hM : zp_MW M) (hk : zp_CV M k) {i : Nat} (hi : i < 256) (bp bq : Nat) (hp : bp = zp_bp (M i)) (hq : bq = zp_by (M i))
    (H : ∀ k', zp_CV (zp_up M i (zp_av (M i))) k' → post (zx_G P F C A E x y r (zp_up M i (zp_av (M i))) k' d)) :
    wX_advance_67 post (nI i) (nI bp) (nI bq) P F C d.1 d.2.1 d.2.2.1 d.2.2.2.1 A E (nI (x / 262144)) (nI (x % 262144)) (nI (y / 262144)) (nI (y % 262144)) (nI (r / 262144)) (nI (r % 262144)) (zp_HI M) (zp_LO M) k.1 k.2.1 k.2.2.1 k.2.2.2.1 k.2.2.2.2 d.2.2.2.2.1 d.2.2.2.2.2.1 d.2.2.2.2.2.2.1 d.2.2.2.2.2.2.2.1 d.2.2.2.2.2.2.2.2 := by
  have hw := hM i
  have h1 := zp_bp_lt hw
  have h2 := zp_by_lt (M i)
  refine ⟨vp_in_nI hi (by decide), ?_⟩
  rw [nI_clamp (by omega)]
  refine zx_write hk i (zp_av (M i)) rfl ?_ ?_ ?_
  · show (nI (M i / 262144) &&& 4095) ||| (nI bp <<< ((12 : Int32) &&& 31)) = _
    rw [zn_m12, zn_shl12 (by omega), zn_or, zp_orA _ _ (by omega)]
    unfold zp_av
    exact congrArg nI (by omega)
  · unfold zp_av
    exact congrArg nI (by omega)
  · rw [Nat.mod_eq_of_lt hi]
    exact H
theorem zx_advance {post : SX → Prop} (hM : zp_MW M) (hk : zp_CV M k) {i : Nat} (hi : i < 256)
    (H : ∀ k', zp_CV (zp_up M i (zp_av (M i))) k' → post (zx_G P F C A E x y r (zp_up M i (zp_av (M i))) k' d)) :
    wpX_advance post (zx_G P F C A E x y r M k d) (nI i) := by
  have hw := hM i
  have i8 : vp_in (nI i) 256 := vp_in_nI hi (by decide)
  refine ⟨i8, ?_⟩
  rw [nI_clamp (by omega)]
  have eh : zp_HI M i = nI (M i / 262144) := rfl
  have el : zp_LO M i = nI (M i % 262144) := rfl
  rw [eh, el]
  refine nm_r (zp_hiP hw) ⟨i8, nm_r (zp_hiS hw) ⟨i8, nm_e ?_⟩⟩
  have d1 : zp_bp (M i) = if M i / 1073741824 < M i / 16777216 % 64 then (if M i / 16777216 % 64 ≤ 36 then 36 - M i / 16777216 % 64 else 0) else M i / 1073741824 - M i / 16777216 % 64 := rfl
  have d2 : zp_by (M i) = if M i / 1073741824 < M i / 16777216 % 64 then (M i % 262144 + 1) % 262144 else M i % 262144 := rfl
  refine pk_lt (M i / 1073741824) (M i / 16777216 % 64) (fun h => ?_) (fun h => ?_)
  · rw [if_pos h] at d1 d2
    refine pk_le (M i / 16777216 % 64) 36 (fun h2 => ?_) (fun h2 => ?_)
    · rw [if_pos h2] at d1
      have e36 : (36 : Int32) - nI (M i / 16777216 % 64) = nI (36 - M i / 16777216 % 64) := by
        show nI 36 - _ = _
        exact pk_sub h2
      rw [e36]
      exact nm_r (by rw [nI_1, zn_m18]) (zx_adv67 hM hk hi _ _ d1.symm d2.symm H)
    · rw [if_neg (by omega)] at d1
      exact nm_r (by rw [nI_1, zn_m18]) (zx_adv67 hM hk hi 0 _ d1.symm d2.symm H)
  · rw [if_neg (by omega)] at d1 d2
    exact nm_r (pk_sub h) (zx_adv67 hM hk hi _ _ d1.symm d2.symm H)
/-- what a byte instruction does behind its pointer -/
def zp_bM (M : Nat → Nat) (ac op a w : Nat) : Nat → Nat := if op < 94 then zp_up M ac (zp_lb (M (a % 256)) (w / 1073741824) (w / 16777216 % 64)) else zp_up M (a % 256) (zp_db (M (a % 256)) (M ac) (w / 1073741824) (w / 16777216 % 64))
theorem zp_bMW {M : Nat → Nat} {ac op a w : Nat} (hM : zp_MW M) : zp_MW (zp_bM M ac op a w) := by
  unfold zp_bM
  split
  · exact zp_MWu hM (zp_lb_lt (hM _))
  · exact zp_MWu hM (zp_db_lt _ _ _ _)
theorem zx_bytes74 {post : Int32 → SX → Prop} {i kd : Nat} (hM : zp_MW M) (hk : zp_CV M k) (hac : ac < 16) (hi : i < 256) (hkd : kd < 5) (hr : r < 68719476736) (hop : op = kd + 91) {z0 : Int32} (hz : z0 = nI (M i / 4194304 % 2))
    (Hs : zp_ad M 9 (M i) = -1 → post (-2) (zx_G P F 3 (nI ac) E x y r M k d))
    (H : ∀ a, a < 262144 → zp_ad M 9 (M i) = nI a → ∀ r' k', r' < 68719476736 → zp_CV (zp_bM M ac op a (M i)) k' → post (-1) (zx_G P F C (nI ac) E x y r' (zp_bM M ac op a (M i)) k' d)) :
    wX_bytes_74 post (nI kd) (nI i) (nI (M i / 1073741824)) (nI (M i / 16777216 % 64)) z0 P F C d.1 d.2.1 d.2.2.1 d.2.2.2.1 (nI ac) E (nI (x / 262144)) (nI (x % 262144)) (nI (y / 262144)) (nI (y % 262144)) (nI (r / 262144)) (nI (r % 262144)) (zp_HI M) (zp_LO M) k.1 k.2.1 k.2.2.1 k.2.2.2.1 k.2.2.2.2 d.2.2.2.2.1 d.2.2.2.2.2.1 d.2.2.2.2.2.2.1 d.2.2.2.2.2.2.2.1 d.2.2.2.2.2.2.2.2 := by
  have hw := hM i
  have i8 : vp_in (nI i) 256 := vp_in_nI hi (by decide)
  refine ⟨i8, i8, ?_⟩
  rw [nI_clamp (n := i) (by omega)]
  refine zx_address hM (M i) hz (zp_hi15 (M i)) rfl ?_
  rcases zp_adC M 9 (M i) with h | ⟨a, ha, h⟩
  · rw [h]
    exact br_f (by decide) (Hs h)
  · rw [h]
    have H2 := H a ha h
    refine br_t (nI_pos' (by omega)) (nm_r (zn_m8 a) (nm_r (zl_mask (by omega)) ?_))
    have i9 : vp_in (nI (a % 256)) 256 := vp_in_nI (by omega) (by decide)
    refine ⟨i9, i9, ?_⟩
    rw [nI_clamp (n := a % 256) (by omega), zx_cA hac]
    have e1 : ((zp_HI M (a % 256)).toInt64 <<< ((18 : Int32).toInt64 &&& 63)) ||| (zp_LO M (a % 256)).toInt64 = lN (M (a % 256)) := zl_wordN _ (by have := hM (a % 256); omega)
    have e2 : ((zp_HI M ac).toInt64 <<< ((18 : Int32).toInt64 &&& 63)) ||| (zp_LO M ac).toInt64 = lN (M ac) := zl_wordN _ (by have := hM ac; omega)
    refine nm_r e1 ⟨zx_iA hac, zx_iA hac, nm_r e2 ?_⟩
    have hp : M i / 1073741824 < 64 := by omega
    have hs : M i / 16777216 % 64 < 64 := by omega
    unfold zp_bM at H2
    generalize M i / 1073741824 = bp at *
    generalize M i / 16777216 % 64 = bs at *
    have ha' := hM (a % 256)
    refine pk_le 3 kd (fun h3 => ?_) (fun h3 => ?_)
    · rw [if_neg (by omega)] at H2
      refine zx_result (zx_write hk (a % 256) (zp_db (M (a % 256)) (M ac) bp bs) rfl ?_ ?_ ?_)
      · rw [zl_and, wb_shl _ hp, wb_shl _ hp, zl_m1e, lN_xor, zl_and, zl_or, zp_wdN]
        rfl
      · rw [zl_and, wb_shl _ hp, wb_shl _ hp, zl_m1e, lN_xor, zl_and, zl_or, zp_wdN]
        rfl
      · rw [Nat.mod_eq_of_lt (show a % 256 < 256 by omega)]
        exact fun k' hk' => H2 _ k' (zp_wd_lt _) hk'
    · rw [if_pos (by omega)] at H2
      have e3 : ((lN (M (a % 256))).toUInt64 >>> ((nI bp).toInt64.toUInt64 &&& Int64.toUInt64 63)).toInt64 &&& lN (zp_ms bs) = lN (zp_lb (M (a % 256)) bp bs) := by
        rw [wb_shr (by omega) hp, zl_and]
        unfold zp_ms
        rw [Nat.and_two_pow_sub_one_eq_mod]
        rfl
      rw [e3]
      refine zx_result (zx_writeA hk hac (zp_lb (M (a % 256)) bp bs) ?_ ?_ ?_)
      · rw [zp_wdN, Nat.mod_eq_of_lt (zp_lb_lt ha')]
      · rw [zp_wdN, Nat.mod_eq_of_lt (zp_lb_lt ha')]
      · exact fun k' hk' => H2 _ k' (zp_wd_lt _) hk'
theorem zx_bytes24 {post : Int32 → SX → Prop} {i kd : Nat} (hM : zp_MW M) (hk : zp_CV M k) (hac : ac < 16) (hi : i < 256) (hkd : kd < 5) (hr : r < 68719476736) (hop : op = kd + 91)
    (H0 : kd = 0 → post (-1) (zx_G P F C (nI ac) E x y r M k d))
    (Hs : kd ≠ 0 → zp_ad M 9 (M i) = -1 → post (-2) (zx_G P F 3 (nI ac) E x y r M k d))
    (H : kd ≠ 0 → ∀ a, a < 262144 → zp_ad M 9 (M i) = nI a → ∀ r' k', r' < 68719476736 → zp_CV (zp_bM M ac op a (M i)) k' → post (-1) (zx_G P F C (nI ac) E x y r' (zp_bM M ac op a (M i)) k' d)) :
    wX_bytes_24 post (nI kd) (nI i) P F C d.1 d.2.1 d.2.2.1 d.2.2.2.1 (nI ac) E (nI (x / 262144)) (nI (x % 262144)) (nI (y / 262144)) (nI (y % 262144)) (nI (r / 262144)) (nI (r % 262144)) (zp_HI M) (zp_LO M) k.1 k.2.1 k.2.2.1 k.2.2.2.1 k.2.2.2.2 d.2.2.2.2.1 d.2.2.2.2.2.1 d.2.2.2.2.2.2.1 d.2.2.2.2.2.2.2.1 d.2.2.2.2.2.2.2.2 := by
  have hw := hM i
  have i8 : vp_in (nI i) 256 := vp_in_nI hi (by decide)
  refine pk_eq kd 0 (fun h => H0 h) (fun h => ⟨i8, ?_⟩)
  rw [nI_clamp (by omega)]
  have eh : zp_HI M i = nI (M i / 262144) := rfl
  rw [eh]
  refine nm_r (zp_hiP hw) ⟨i8, nm_r (zp_hiS hw) ⟨i8, ?_⟩⟩
  rw [zp_hiI hw]
  have h01 : M i / 4194304 % 2 = 0 ∨ M i / 4194304 % 2 = 1 := by omega
  rcases h01 with h01 | h01
  · exact br_f (by rw [h01]; decide) (zx_bytes74 hM hk hac hi hkd hr hop (by rw [h01]; rfl) (Hs h) (H h))
  · exact br_t (by rw [h01]; rfl) (zx_bytes74 hM hk hac hi hkd hr hop (by rw [h01]; rfl) (Hs h) (H h))
/-- memory behind the pointer's going on -/
def zp_bA (M : Nat → Nat) (op e : Nat) : Nat → Nat := if op = 91 ∨ op = 92 ∨ op = 94 then zp_up M (e % 256) (zp_av (M (e % 256))) else M
theorem zp_bAW {M : Nat → Nat} {op e : Nat} (hM : zp_MW M) : zp_MW (zp_bA M op e) := by
  unfold zp_bA
  split
  · exact zp_MWu hM (zp_av_lt (hM _))
  · exact hM
theorem zx_bytes {post : Int32 → SX → Prop} {kd : Nat} (hM : zp_MW M) (hk : zp_CV M k) (hac : ac < 16) (hkd : kd < 5) (hr : r < 68719476736) (hop : op = kd + 91)
    (H0 : op = 91 → ∀ k', zp_CV (zp_bA M op e) k' → post (-1) (zx_G P F C (nI ac) (nI e) x y r (zp_bA M op e) k' d))
    (Hs : op ≠ 91 → zp_ad (zp_bA M op e) 9 (zp_bA M op e (e % 256)) = -1 → ∀ k', zp_CV (zp_bA M op e) k' → post (-2) (zx_G P F 3 (nI ac) (nI e) x y r (zp_bA M op e) k' d))
    (H : op ≠ 91 → ∀ a, a < 262144 → zp_ad (zp_bA M op e) 9 (zp_bA M op e (e % 256)) = nI a → ∀ r' k', r' < 68719476736 → zp_CV (zp_bM (zp_bA M op e) ac op a (zp_bA M op e (e % 256))) k' → post (-1) (zx_G P F C (nI ac) (nI e) x y r' (zp_bM (zp_bA M op e) ac op a (zp_bA M op e (e % 256))) k' d)) :
    wpX_bytes post (zx_G P F C (nI ac) (nI e) x y r M k d) (nI kd) := by
  have K : ∀ k', zp_CV (zp_bA M op e) k' → wX_bytes_24 post (nI kd) (nI (e % 256)) P F C d.1 d.2.1 d.2.2.1 d.2.2.2.1 (nI ac) (nI e) (nI (x / 262144)) (nI (x % 262144)) (nI (y / 262144)) (nI (y % 262144)) (nI (r / 262144)) (nI (r % 262144)) (zp_HI (zp_bA M op e)) (zp_LO (zp_bA M op e)) k'.1 k'.2.1 k'.2.2.1 k'.2.2.2.1 k'.2.2.2.2 d.2.2.2.2.1 d.2.2.2.2.2.1 d.2.2.2.2.2.2.1 d.2.2.2.2.2.2.2.1 d.2.2.2.2.2.2.2.2 := by
    intro k' hk'
    exact zx_bytes24 (zp_bAW hM) hk' hac (by omega) hkd hr hop (fun h => H0 (by omega) k' hk') (fun h z => Hs (by omega) z k' hk') (fun h => H (by omega))
  refine nm_r (zn_m8 e) ?_
  unfold zp_bA at K
  refine pk_lt kd 2 (fun h => ?_) (fun h => pk_eq kd 3 (fun h3 => ?_) (fun h3 => ?_))
  · rw [if_pos (by omega)] at K
    exact zx_advance hM hk (by omega) K
  · rw [if_pos (by omega)] at K
    exact zx_advance hM hk (by omega) K
  · rw [if_neg (by omega)] at K
    exact K k hk
end
end
section
/-! bytes: Y, and both -/
theorem zp_m1n {a : Nat} (h : a < 2147483648) : ¬ (-1 : Int32) = nI a := by
  intro z
  have h1 := congrArg Int32.toInt z
  rw [nI_toInt h, show (-1 : Int32).toInt = -1 from by decide] at h1
  omega
section
variable {P F C Wh Dp Mo : Int32} {p op ac e x y r m f : Nat} {M : Nat → Nat} {k : zx_K} {d : zx_D} {g : zy_D} {q : Int32 × Int32 × Int32} {post : SY → Prop}
theorem zy_bytes179 {w a s' : Nat} (hM : zp_MW M) (hac : ac < 16) (hw : w < 68719476736) (hop : op < 512) (hs : s' = if w / 16777216 % 64 ≤ 35 then w / 16777216 % 64 else 36) {z0 : Int64} (hz : z0 = lN (zp_ms s'))
    (H : post (zy_G P F C (nI op) (nI ac) (nI e) Wh Dp Mo (zp_bM M ac op a w) g)) : wY_bytes_179 post (lN (w / 1073741824)) (nI a) z0 P F C g.1 g.2.1 g.2.2.1 (nI op) (nI ac) (nI e) Wh Dp Mo (zp_ME M) g.2.2.2.1 g.2.2.2.2.1 g.2.2.2.2.2 := by
  subst hz
  have hp : w / 1073741824 < 64 := by omega
  unfold zp_bM at H
  refine ⟨zn_i8 a, ?_⟩
  rw [zn_c8, lN_i, zx_cA hac]
  have ha := hM (a % 256)
  generalize w / 1073741824 = bp at *
  generalize w / 16777216 % 64 = bs at *
  refine nm_e (pk_le 94 op (fun h => ⟨zx_iA hac, zn_i8 a, nm_r (e' := zp_ME (zp_up M (a % 256) (zp_db (M (a % 256)) (M ac) bp bs))) ?_ ?_⟩) (fun h => ⟨zx_iA hac, nm_r (e' := zp_ME (zp_up M ac (zp_lb (M (a % 256)) bp bs))) ?_ ?_⟩))
  · show vp_updL (zp_ME M) (a % 256) ((lN (M (a % 256)) &&& ((lN (zp_ms s') <<< ((nI bp).toInt64 &&& 63)) ^^^ (-1))) ||| (((lN (M ac) <<< ((nI bp).toInt64 &&& 63)) &&& (lN (zp_ms s') <<< ((nI bp).toInt64 &&& 63))) &&& 68719476735)) = _
    rw [wb_shl _ hp, wb_shl _ hp, zl_m1e, lN_xor, zl_and, zl_and, show (68719476735 : Int64) = lN 68719476735 from rfl, zl_and, zl_or, zp_dbY ha hs, zp_MEu]
  · rw [if_neg (by omega)] at H
    exact H
  · show vp_updL (zp_ME M) ac ((lN (M (a % 256)) >>> ((nI bp).toInt64 &&& 63)) &&& lN (zp_ms s')) = _
    rw [zl_shr bp (zl_cnt bp hp) (by omega), zl_and]
    unfold zp_ms
    rw [Nat.and_two_pow_sub_one_eq_mod, zp_lbY ha hs, zp_MEu]
  · rw [if_pos (by omega)] at H
    exact H
theorem zy_bytes129 {w : Nat} (hM : zp_MW M) (hac : ac < 16) (hop : op < 512) (hww : w = M (e % 256))
    (H0 : op = 91 → post (zy_G P F C (nI op) (nI ac) (nI e) Wh Dp Mo M g))
    (Hs : op ≠ 91 → zp_ad M 9 w = -1 → post (zy_G P F 3 (nI op) (nI ac) (nI e) Wh Dp Mo M g))
    (H : op ≠ 91 → ∀ a, a < 262144 → zp_ad M 9 w = nI a → post (zy_G P F C (nI op) (nI ac) (nI e) Wh Dp Mo (zp_bM M ac op a w) g)) :
    wY_bytes_129 post (lN w) (lN (w / 1073741824)) (lN (w / 16777216 % 64)) P F C g.1 g.2.1 g.2.2.1 (nI op) (nI ac) (nI e) Wh Dp Mo (zp_ME M) g.2.2.2.1 g.2.2.2.2.1 g.2.2.2.2.2 := by
  have hw : w < 68719476736 := by rw [hww]; exact hM _
  refine pk_eq op 91 (fun h => H0 h) (fun h => zy_address hM w hw ?_)
  rcases zp_adC M 9 w with h2 | ⟨a, ha, h2⟩
  · rw [h2]
    exact br_f (by decide) (Hs h h2)
  · rw [h2]
    refine br_t (nI_pos' (by omega)) ?_
    by_cases h3 : w / 16777216 % 64 ≤ 35
    · refine br_t ((pk_lLE (b := 35) (by omega) (by decide)).mpr h3) ?_
      refine zy_bytes179 hM hac hw hop rfl ?_ (H h a ha h2)
      rw [if_pos h3, lN_i]
      exact zl_mask (by omega)
    · refine br_f (fun z => h3 ((pk_lLE (b := 35) (by omega) (by decide)).mp z)) ?_
      refine zy_bytes179 hM hac hw hop rfl ?_ (H h a ha h2)
      rw [if_neg h3]
      rfl
theorem zl_subneg {a b : Nat} (ha : a < 1000) (hb : b < 1000) : (0 ≤ lN a - lN b) ↔ b ≤ a := by
  rw [zl_le0, zl_subw a (by omega)]
  by_cases h : b ≤ a
  · have e : lN (a + (18446744073709551616 - b)) = lN (a - b) := by
      apply uN_inj
      rw [zp_uN, zp_uN]
      omega
    rw [e, pk_lT (by omega)]
    omega
  · rw [zl_toIntS (by omega), if_neg (by omega)]
    omega
theorem zy_bytes95 {w : Nat} (hM : zp_MW M) (hww : w = M (e % 256)) {x3 x7 x5 : Int64} (h3 : x3 = lN (zp_bp w)) (h7 : x7 = lN (zp_by w)) (h5 : x5 = lN (w / 16777216 % 64))
    (H : wY_bytes_129 post (lN (zp_av w)) (lN (zp_av w / 1073741824)) (lN (zp_av w / 16777216 % 64)) P F C g.1 g.2.1 g.2.2.1 (nI op) (nI ac) (nI e) Wh Dp Mo (zp_ME (zp_up M (e % 256) (zp_av w))) g.2.2.2.1 g.2.2.2.2.1 g.2.2.2.2.2) :
    wY_bytes_95 post (lN w) x3 x5 x7 P F C g.1 g.2.1 g.2.2.1 (nI op) (nI ac) (nI e) Wh Dp Mo (zp_ME M) g.2.2.2.1 g.2.2.2.2.1 g.2.2.2.2.2 := by
  subst h3 h7 h5
  have hw : w < 68719476736 := by rw [hww]; exact hM _
  have h1 := zp_bp_lt hw
  have h2 := zp_by_lt w
  rw [zp_avP hw, zp_avS hw] at H
  refine nm_r (e' := lN (zp_av w)) ?_ ⟨zn_i8 e, nm_r zy_updE H⟩
  rw [zl_m30, zl_shr18 (by omega), zl_shl18, zl_shl30, zl_or, zl_or]
  have e1 : zp_bp w * 1073741824 ||| w % 1073741824 / 262144 * 262144 = (zp_bp w * 4096 + w % 1073741824 / 262144) * 262144 := by
    have := zp_orS 30 (w % 1073741824 / 262144 * 262144) (zp_bp w) (by omega)
    have e2 : (2 ^ 30 : Nat) = 1073741824 := rfl
    rw [e2] at this
    rw [this]
    omega
  rw [e1, zp_or18 _ h2]
  unfold zp_av
  exact congrArg lN (by omega)
theorem zy_bytes47 {w : Nat} (hM : zp_MW M) (hww : w = M (e % 256))
    (H : wY_bytes_129 post (lN (zp_av w)) (lN (zp_av w / 1073741824)) (lN (zp_av w / 16777216 % 64)) P F C g.1 g.2.1 g.2.2.1 (nI op) (nI ac) (nI e) Wh Dp Mo (zp_ME (zp_up M (e % 256) (zp_av w))) g.2.2.2.1 g.2.2.2.2.1 g.2.2.2.2.2) :
    wY_bytes_47 post (lN w) (lN (w / 1073741824)) (lN (w / 16777216 % 64)) P F C g.1 g.2.1 g.2.2.1 (nI op) (nI ac) (nI e) Wh Dp Mo (zp_ME M) g.2.2.2.1 g.2.2.2.2.1 g.2.2.2.2.2 := by
  have hw : w < 68719476736 := by rw [hww]; exact hM _
  refine nm_r (zl_m18 w) (nm_e ?_)
  by_cases h : w / 16777216 % 64 ≤ w / 1073741824
  · refine br_t ((zl_subneg (by omega) (by omega)).mpr h) (zy_bytes95 hM hww ?_ ?_ rfl H)
    · unfold zp_bp
      rw [if_neg (by omega)]
      exact lN_sub h
    · unfold zp_by
      rw [if_neg (by omega)]
  · refine br_f (fun z => h ((zl_subneg (by omega) (by omega)).mp z)) (nm_r (e' := lN ((w % 262144 + 1) % 262144)) (by rw [lN_1, zl_m18]) ?_)
    have hy : lN ((w % 262144 + 1) % 262144) = lN (zp_by w) := by unfold zp_by; rw [if_pos (by omega)]
    by_cases h6 : w / 16777216 % 64 ≤ 36
    · refine br_t ((pk_lLE (b := 36) (by omega) (by decide)).mpr h6) (zy_bytes95 hM hww ?_ hy rfl H)
      unfold zp_bp
      rw [if_pos (by omega), if_pos h6]
      exact lN_sub h6
    · refine br_f (fun z => h6 ((pk_lLE (b := 36) (by omega) (by decide)).mp z)) (zy_bytes95 hM hww ?_ hy rfl H)
      unfold zp_bp
      rw [if_pos (by omega), if_neg h6]
      rfl
theorem zy_bytes (hM : zp_MW M) (hac : ac < 16) (hop : op < 512)
    (H0 : op = 91 → post (zy_G P F C (nI op) (nI ac) (nI e) Wh Dp Mo (zp_bA M op e) g))
    (Hs : op ≠ 91 → zp_ad (zp_bA M op e) 9 (zp_bA M op e (e % 256)) = -1 → post (zy_G P F 3 (nI op) (nI ac) (nI e) Wh Dp Mo (zp_bA M op e) g))
    (H : op ≠ 91 → ∀ a, a < 262144 → zp_ad (zp_bA M op e) 9 (zp_bA M op e (e % 256)) = nI a → post (zy_G P F C (nI op) (nI ac) (nI e) Wh Dp Mo (zp_bM (zp_bA M op e) ac op a (zp_bA M op e (e % 256))) g)) :
    wpY_bytes post (zy_G P F C (nI op) (nI ac) (nI e) Wh Dp Mo M g) := by
  have K := zy_bytes129 (zp_bAW hM) hac hop rfl H0 Hs H
  have hw := hM (e % 256)
  unfold wpY_bytes
  refine zy_there ?_
  refine nm_r (zl_shr30 (by omega)) (nm_r (e' := lN (M (e % 256) / 16777216 % 64)) (by rw [zl_shr24 (by omega), zl_m6]) ?_)
  unfold zp_bA at K
  by_cases h : op = 91 ∨ op = 92 ∨ op = 94
  · rw [if_pos h] at K
    rw [zp_upS] at K
    refine pk_eq op 91 (fun z => zy_bytes47 hM rfl K) (fun z1 => pk_eq op 92 (fun z => zy_bytes47 hM rfl K) (fun z2 => pk_eq op 94 (fun z => zy_bytes47 hM rfl K) (fun z4 => by omega)))
  · rw [if_neg h] at K
    refine pk_eq op 91 (fun z => by omega) (fun z1 => pk_eq op 92 (fun z => by omega) (fun z2 => pk_eq op 94 (fun z => by omega) (fun z4 => K)))
/-- an instruction that goes well, or stops at an address -/
def zo_gs (M0 : Nat → Nat) (WX : Nat → Nat → Nat → zx_K → (Int32 → SX → Prop) → Prop) (WY : (SY → Prop) → Prop) (op ac e : Nat) (q : Int32 × Int32 × Int32) (d : zx_D) (g : zy_D) : Prop :=
  ∃ (rv C : Int32) (p : Nat) (F : Int32) (M : Nat → Nat), p < 262144 ∧ zp_FL F ∧ zp_MW M ∧ zo_A M0 WX rv p F C ac e M d ∧ zo_Y WY p F C op ac e q M g ∧ ((rv = -1 ∧ C = 0) ∨ (rv = -2 ∧ C = 3))
theorem zo_bytes (c : zo_ctx p F op ac e M) (h1 : 91 ≤ op) (h2 : op < 96) :
    zo_gs M (fun x y r k post => wpX_bytes post (zx_S p F 0 ac e x y r M k d) (nI op - 91)) (fun post => wpY_bytes post (zy_S p F 0 op ac e q M g)) op ac e q d g := by
  obtain ⟨hp, hF, hop, hac, he, hM⟩ := c
  have e1 : nI op - 91 = nI (op - 91) := pk_sub (b := 91) h1
  rw [e1]
  by_cases h : op = 91
  · refine ⟨-1, 0, p, F, zp_bA M op e, hp, hF, zp_bAW hM, ?_, ?_, Or.inl ⟨rfl, rfl⟩⟩
    · intro x y r k hx hy hr hk post H
      exact zx_bytes hM hk hac (by omega) hr (by omega) (fun _ k' hk' => H _ _ _ k' hx hy hr hk') (fun z => absurd h z) (fun z => absurd h z)
    · intro post H
      exact zy_bytes hM hac hop (fun _ => H) (fun z => absurd h z) (fun z => absurd h z)
  · rcases zp_adC (zp_bA M op e) 9 (zp_bA M op e (e % 256)) with h3 | ⟨a, ha, h3⟩
    · refine ⟨-2, 3, p, F, zp_bA M op e, hp, hF, zp_bAW hM, ?_, ?_, Or.inr ⟨rfl, rfl⟩⟩
      · intro x y r k hx hy hr hk post H
        exact zx_bytes hM hk hac (by omega) hr (by omega) (fun z => absurd z h) (fun _ _ k' hk' => H _ _ _ k' hx hy hr hk') (fun _ a ha z => absurd (h3.symm.trans z) (zp_m1n (by omega)))
      · intro post H
        exact zy_bytes hM hac hop (fun z => absurd z h) (fun _ _ => H) (fun _ a ha z => absurd (h3.symm.trans z) (zp_m1n (by omega)))
    · refine ⟨-1, 0, p, F, zp_bM (zp_bA M op e) ac op a (zp_bA M op e (e % 256)), hp, hF, zp_bMW (zp_bAW hM), ?_, ?_, Or.inl ⟨rfl, rfl⟩⟩
      · intro x y r k hx hy hr hk post H
        refine zx_bytes hM hk hac (by omega) hr (by omega) (fun z => absurd z h) (fun _ z => absurd (z.symm.trans h3) (zp_m1n (by omega))) (fun _ a' ha' z r' k' hr' hk' => ?_)
        have ea : a' = a := (nI_eq (by omega) (by omega)).mp (z.symm.trans h3)
        subst ea
        exact H _ _ _ k' hx hy hr' hk'
      · intro post H
        refine zy_bytes hM hac hop (fun z => absurd z h) (fun _ z => absurd (z.symm.trans h3) (zp_m1n (by omega))) (fun _ a' ha' z => ?_)
        have ea : a' = a := (nI_eq (by omega) (by omega)).mp (z.symm.trans h3)
        subst ea
        exact H
end
end
section
/-! shifts, as numbers -/
def zp_it {α : Type} (f : α → α) : Nat → α → α
  | 0, a => a
  | n + 1, a => zp_it f n (f a)
theorem zp_itS {α : Type} (f : α → α) (n : Nat) (a : α) : zp_it f (n + 1) a = f (zp_it f n a) := by
  induction n generalizing a with
  | zero => rfl
  | succ n ih => exact ih (f a)
theorem zp_itA {α : Type} (f : α → α) (m n : Nat) (a : α) : zp_it f (m + n) a = zp_it f n (zp_it f m a) := by
  induction m generalizing a with
  | zero => rw [Nat.zero_add]; rfl
  | succ m ih => rw [show m + 1 + n = (m + n) + 1 by omega]; exact ih (f a)
theorem zp_itF {α : Type} (f : α → α) (n : Nat) (a : α) (h : f a = a) : zp_it f n a = a := by
  induction n with
  | zero => rfl
  | succ n ih => rw [zp_itS, ih, h]
/-- from a fixed point on, further steps change nothing -/
theorem zp_itC {α : Type} (f : α → α) (m n : Nat) (a : α) (hn : m ≤ n) (h : f (zp_it f m a) = zp_it f m a) : zp_it f n a = zp_it f m a := by
  obtain ⟨c, rfl⟩ : ∃ c, n = m + c := ⟨n - m, by omega⟩
  rw [zp_itA, zp_itF f c _ h]
theorem zp_itI {α : Type} (f : α → α) (P : α → Prop) (hs : ∀ a, P a → P (f a)) (n : Nat) (a : α) (h : P a) : P (zp_it f n a) := by
  induction n with
  | zero => exact h
  | succ n ih => rw [zp_itS]; exact hs _ ih
/-- one word: logical shifts and rotations by one place -/
def zp_ls (w : Nat) : Nat := w * 2 % 68719476736
def zp_rs' (w : Nat) : Nat := w / 2
def zp_rl (w : Nat) : Nat := w * 2 % 68719476736 + w / 34359738368
def zp_rr (w : Nat) : Nat := w % 2 * 34359738368 + w / 2
def zp_al (w : Nat) : Nat := w / 34359738368 * 34359738368 + w * 2 % 34359738368
def zp_ar (w : Nat) : Nat := w / 34359738368 * 34359738368 + w / 2
theorem zp_lsN (n w : Nat) (hw : w < 68719476736) : zp_it zp_ls n w = w * 2 ^ n % 68719476736 := by
  induction n with
  | zero => show w = w * 1 % _; omega
  | succ n ih =>
    rw [zp_itS, ih, Nat.pow_succ, ← Nat.mul_assoc]
    unfold zp_ls
    generalize w * 2 ^ n = z
    omega
theorem zp_rsN (n w : Nat) : zp_it zp_rs' n w = w / 2 ^ n := by
  induction n with
  | zero => show w = w / 1; omega
  | succ n ih =>
    rw [zp_itS, ih]
    unfold zp_rs'
    rw [Nat.div_div_eq_div_mul, Nat.pow_succ]
/-- bits by place -/
theorem zp_tb (w i : Nat) : w.testBit i = decide (w / 2 ^ i % 2 = 1) := Nat.testBit_eq_decide_div_mod_eq
theorem zp_tb2 (w i : Nat) : (w * 2).testBit (i + 1) = w.testBit i := by
  rw [zp_tb, zp_tb, Nat.pow_succ, Nat.mul_comm (2 ^ i) 2, ← Nat.div_div_eq_div_mul, Nat.mul_div_cancel w (by decide)]
theorem zp_tbh (w i : Nat) : (w / 2).testBit i = w.testBit (i + 1) := by
  rw [zp_tb, zp_tb, Nat.pow_succ, Nat.mul_comm (2 ^ i) 2, ← Nat.div_div_eq_div_mul]
theorem zp_tb0 (w : Nat) : w.testBit 0 = decide (w % 2 = 1) := by
  rw [zp_tb]
  congr 2
  show w / 1 % 2 = w % 2
  omega
theorem zp_tbm (w n i : Nat) : (w % 2 ^ n).testBit i = (decide (i < n) && w.testBit i) := Nat.testBit_mod_two_pow w n i
/-- a bit on top of a number of n bits -/
theorem zp_tbt (n b w i : Nat) (hb : b ≤ 1) (hw : w < 2 ^ n) : (b * 2 ^ n + w).testBit i = if i < n then w.testBit i else (decide (i = n) && decide (b = 1)) := by
  have e : b * 2 ^ n + w = 2 ^ n * b + w := by rw [Nat.mul_comm]
  rw [e, Nat.testBit_two_pow_mul_add b hw i]
  by_cases h : i < n
  · rw [if_pos h, if_pos h]
  · rw [if_neg h, if_neg h]
    have hb' : b = 0 ∨ b = 1 := by omega
    rcases hb' with rfl | rfl
    · simp
    · by_cases z : i = n
      · subst z
        simp
      · rw [decide_eq_false z, Bool.false_and]
        exact Nat.testBit_lt_two_pow (Nat.one_lt_two_pow (by omega))
theorem zp_e35 : (2 ^ 35 : Nat) = 34359738368 := rfl
theorem zp_e36 : (2 ^ 36 : Nat) = 68719476736 := rfl
theorem zp_tb35 (w : Nat) : w.testBit 35 = decide (w / 34359738368 % 2 = 1) := by rw [zp_tb, zp_e35]
theorem zp_tbm35 (w i : Nat) : (w % 34359738368).testBit i = (decide (i < 35) && w.testBit i) := by rw [← zp_e35, zp_tbm]
/-- rotations: bit i comes from elsewhere -/
theorem zp_rlB (w i : Nat) (hw : w < 68719476736) (hi : i < 36) : (zp_rl w).testBit i = w.testBit ((i + 35) % 36) := by
  unfold zp_rl
  cases i with
  | zero =>
    have e0 : w * 2 % 68719476736 = w % 34359738368 * 2 := by omega
    have e : (w % 34359738368 * 2 + w / 34359738368) % 2 = w / 34359738368 % 2 := by omega
    rw [zp_tb0, show (0 + 35) % 36 = 35 from rfl, zp_tb35, e0, e]
  | succ i =>
    rw [show (i + 1 + 35) % 36 = i by omega]
    have e0 : w * 2 % 68719476736 = w % 34359738368 * 2 := by omega
    have e : (w % 34359738368 * 2 + w / 34359738368) / 2 = w % 34359738368 := by omega
    rw [← zp_tbh, e0, e, zp_tbm35, decide_eq_true (by omega), Bool.true_and]
theorem zp_rrB (w i : Nat) (hw : w < 68719476736) (hi : i < 36) : (zp_rr w).testBit i = w.testBit ((i + 1) % 36) := by
  unfold zp_rr
  have h := zp_tbt 35 (w % 2) (w / 2) i (by omega) (show w / 2 < 2 ^ 35 by rw [zp_e35]; omega)
  rw [zp_e35] at h
  rw [h]
  by_cases z : i < 35
  · rw [if_pos z, zp_tbh, Nat.mod_eq_of_lt (show i + 1 < 36 by omega)]
  · have ei : i = 35 := by omega
    subst ei
    rw [if_neg z, show decide (35 = 35) = true from rfl, Bool.true_and, show (35 + 1) % 36 = 0 from rfl, zp_tb0]
theorem zp_rl_lt {w : Nat} (hw : w < 68719476736) : zp_rl w < 68719476736 := by unfold zp_rl; omega
theorem zp_rr_lt {w : Nat} (hw : w < 68719476736) : zp_rr w < 68719476736 := by unfold zp_rr; omega
theorem zp_ls_lt (w : Nat) : zp_ls w < 68719476736 := Nat.mod_lt _ (by decide)
theorem zp_rs_lt {w : Nat} (hw : w < 68719476736) : zp_rs' w < 68719476736 := by unfold zp_rs'; omega
theorem zp_al_lt {w : Nat} (hw : w < 68719476736) : zp_al w < 68719476736 := by unfold zp_al; omega
theorem zp_ar_lt {w : Nat} (hw : w < 68719476736) : zp_ar w < 68719476736 := by unfold zp_ar; omega
theorem zp_rlN (n w i : Nat) (hw : w < 68719476736) (hi : i < 36) : (zp_it zp_rl n w).testBit i = w.testBit ((i + n * 35) % 36) := by
  induction n generalizing i with
  | zero =>
    show w.testBit i = _
    rw [Nat.zero_mul, Nat.add_zero, Nat.mod_eq_of_lt hi]
  | succ n ih =>
    have hl : zp_it zp_rl n w < 68719476736 := zp_itI zp_rl (fun w => w < 68719476736) (fun a h => zp_rl_lt h) n w hw
    rw [zp_itS, zp_rlB _ _ hl hi, ih _ (by omega)]
    congr 1
    omega
theorem zp_rrN (n w i : Nat) (hw : w < 68719476736) (hi : i < 36) : (zp_it zp_rr n w).testBit i = w.testBit ((i + n) % 36) := by
  induction n generalizing i with
  | zero =>
    show w.testBit i = _
    rw [Nat.add_zero, Nat.mod_eq_of_lt hi]
  | succ n ih =>
    have hl : zp_it zp_rr n w < 68719476736 := zp_itI zp_rr (fun w => w < 68719476736) (fun a h => zp_rr_lt h) n w hw
    rw [zp_itS, zp_rrB _ _ hl hi, ih _ (by omega)]
    congr 1
    omega
theorem zp_ext {n a b : Nat} (ha : a < 2 ^ n) (hb : b < 2 ^ n) (h : ∀ i, i < n → a.testBit i = b.testBit i) : a = b := by
  apply Nat.eq_of_testBit_eq
  intro i
  by_cases hi : i < n
  · exact h i hi
  · rw [Nat.testBit_lt_two_pow (Nat.lt_of_lt_of_le ha (Nat.pow_le_pow_right (n := 2) (i := n) (by decide) (by omega))), Nat.testBit_lt_two_pow (Nat.lt_of_lt_of_le hb (Nat.pow_le_pow_right (n := 2) (i := n) (by decide) (by omega)))]
/-- X's rotation: by m places to the left, m below 36 -/
def zp_rx (m w : Nat) : Nat := (w * 2 ^ m ||| w / 2 ^ (36 - m)) % 68719476736
theorem zp_rxB (m w i : Nat) (hm : m < 36) (hw : w < 68719476736) (hi : i < 36) : (zp_rx m w).testBit i = w.testBit ((i + m * 35) % 36) := by
  unfold zp_rx
  rw [← zp_e36, zp_tbm, decide_eq_true hi, Bool.true_and, Nat.testBit_or, zp_shB, show w / 2 ^ (36 - m) = w >>> (36 - m) from (Nat.shiftRight_eq_div_pow w (36 - m)).symm, Nat.testBit_shiftRight]
  by_cases h : m ≤ i
  · have e : (i + m * 35) % 36 = i - m := by omega
    rw [e, decide_eq_true h, Bool.true_and, Nat.testBit_lt_two_pow (x := w) (i := 36 - m + i) (zp_p36 hw (by omega)), Bool.or_false]
  · have e : (i + m * 35) % 36 = 36 - m + i := by omega
    rw [e, decide_eq_false h, Bool.false_and, Bool.false_or]
theorem zp_rx_lt (m w : Nat) : zp_rx m w < 68719476736 := Nat.mod_lt _ (by decide)
theorem zp_rotL (n w : Nat) (hw : w < 68719476736) : zp_rx (n % 36) w = zp_it zp_rl n w := by
  have hl : zp_it zp_rl n w < 68719476736 := zp_itI zp_rl (fun w => w < 68719476736) (fun a h => zp_rl_lt h) n w hw
  refine zp_ext (n := 36) (by rw [zp_e36]; exact zp_rx_lt _ _) (by rw [zp_e36]; exact hl) (fun i hi => ?_)
  rw [zp_rxB _ _ _ (by omega) hw hi, zp_rlN _ _ _ hw hi]
  congr 1
  omega
theorem zp_rotR (n w : Nat) (hw : w < 68719476736) : zp_rx ((36 - n % 36) % 36) w = zp_it zp_rr n w := by
  have hl : zp_it zp_rr n w < 68719476736 := zp_itI zp_rr (fun w => w < 68719476736) (fun a h => zp_rr_lt h) n w hw
  refine zp_ext (n := 36) (by rw [zp_e36]; exact zp_rx_lt _ _) (by rw [zp_e36]; exact hl) (fun i hi => ?_)
  rw [zp_rxB _ _ _ (by omega) hw hi, zp_rrN _ _ _ hw hi]
  congr 1
  omega
end
section
/-! arithmetic shifts -/
/-- arithmetic shifts with the flags -/
def zp_aL (s : Int32 × Nat) : Int32 × Nat := (if s.2 / 17179869184 % 2 = s.2 / 34359738368 then s.1 else s.1 ||| 8, zp_al s.2)
def zp_aR (s : Int32 × Nat) : Int32 × Nat := (s.1, zp_ar s.2)
theorem zp_arN (n w : Nat) (hw : w < 68719476736) : zp_it zp_ar n w = if w < 34359738368 then w / 2 ^ n else 68719476735 - (68719476735 - w) / 2 ^ n := by
  induction n with
  | zero =>
    show w = _
    split
    · show w = w / 1; omega
    · show w = _ - _ / 1; omega
  | succ n ih =>
    rw [zp_itS, ih]
    unfold zp_ar
    by_cases h : w < 34359738368
    · rw [if_pos h, if_pos h, Nat.pow_succ, ← Nat.div_div_eq_div_mul]
      have : w / 2 ^ n ≤ w := Nat.div_le_self _ _
      generalize w / 2 ^ n = z at *
      omega
    · rw [if_neg h, if_neg h, Nat.pow_succ, ← Nat.div_div_eq_div_mul]
      have : (68719476735 - w) / 2 ^ n ≤ 68719476735 - w := Nat.div_le_self _ _
      generalize (68719476735 - w) / 2 ^ n = z at *
      omega
theorem zp_aRN (n : Nat) (s : Int32 × Nat) : zp_it zp_aR n s = (s.1, zp_it zp_ar n s.2) := by
  induction n with
  | zero => rfl
  | succ n ih => rw [zp_itS, ih, zp_itS]; rfl
theorem zp_aR40 (n : Nat) (s : Int32 × Nat) (hw : s.2 < 68719476736) (hn : 40 ≤ n) : zp_it zp_aR n s = zp_it zp_aR 40 s := by
  refine zp_itC zp_aR 40 n s hn ?_
  rw [zp_aRN, zp_arN _ _ hw]
  unfold zp_aR zp_ar
  have e40 : (2 ^ 40 : Nat) = 1099511627776 := rfl
  rw [e40]
  congr 1
  dsimp only
  split <;> omega
/-- to the left: after 35 steps nothing is left below the sign -/
theorem zp_alN (n w : Nat) (hw : w < 68719476736) : zp_it zp_al n w = w / 34359738368 * 34359738368 + w * 2 ^ n % 34359738368 := by
  induction n with
  | zero =>
    show w = _ + w * 1 % _
    omega
  | succ n ih =>
    rw [zp_itS, ih, Nat.pow_succ, ← Nat.mul_assoc]
    unfold zp_al
    generalize w * 2 ^ n = z
    omega
theorem zp_aLN (n : Nat) (s : Int32 × Nat) : (zp_it zp_aL n s).2 = zp_it zp_al n s.2 := by
  induction n with
  | zero => rfl
  | succ n ih => rw [zp_itS, zp_itS, ← ih]; rfl
theorem zp_or88 (F : Int32) : (F ||| 8) ||| 8 = F ||| 8 := by
  rw [Int32.or_assoc]
  rfl
theorem zp_aL40 (n : Nat) (s : Int32 × Nat) (hw : s.2 < 68719476736) (hn : 40 ≤ n) : zp_it zp_aL n s = zp_it zp_aL 40 s := by
  refine zp_itC zp_aL 40 n s hn ?_
  have h39 : (zp_it zp_aL 39 s).2 = s.2 / 34359738368 * 34359738368 := by
    rw [zp_aLN, zp_alN _ _ hw]
    have e39 : (2 ^ 39 : Nat) = 549755813888 := rfl
    rw [e39]
    omega
  rw [zp_itS]
  generalize zp_it zp_aL 39 s = t at *
  obtain ⟨G, v⟩ := t
  dsimp only at h39
  subst h39
  unfold zp_aL zp_al
  dsimp only
  have hb : s.2 / 34359738368 = 0 ∨ s.2 / 34359738368 = 1 := by omega
  rcases hb with hb | hb
  · rw [hb]
    simp
  · rw [hb]
    have e1 : (1 * 34359738368 / 34359738368 * 34359738368 + 1 * 34359738368 * 2 % 34359738368) = 34359738368 := rfl
    rw [e1, if_neg (by decide), if_neg (by decide), zp_or88]
end
section
/-! two words -/
theorem zp_e71 : (2 ^ 71 : Nat) = 2361183241434822606848 := rfl
theorem zp_e72 : (2 ^ 72 : Nat) = 4722366482869645213696 := rfl
theorem zp_tb71 (w : Nat) : w.testBit 71 = decide (w / 2361183241434822606848 % 2 = 1) := by rw [zp_tb, zp_e71]
theorem zp_tbm71 (w i : Nat) : (w % 2361183241434822606848).testBit i = (decide (i < 71) && w.testBit i) := by rw [← zp_e71, zp_tbm]
/-- two words as one of 72 bits -/
def zp_Lr (v : Nat) : Nat := v * 2 % 4722366482869645213696 + v / 2361183241434822606848
def zp_Rr (v : Nat) : Nat := v % 2 * 2361183241434822606848 + v / 2
def zp_Ls (v : Nat) : Nat := v * 2 % 4722366482869645213696
def zp_Rs (v : Nat) : Nat := v / 2
theorem zp_LrB (w i : Nat) (hw : w < 4722366482869645213696) (hi : i < 72) : (zp_Lr w).testBit i = w.testBit ((i + 71) % 72) := by
  unfold zp_Lr
  cases i with
  | zero =>
    have e0 : w * 2 % 4722366482869645213696 = w % 2361183241434822606848 * 2 := by omega
    have e : (w % 2361183241434822606848 * 2 + w / 2361183241434822606848) % 2 = w / 2361183241434822606848 % 2 := by omega
    rw [zp_tb0, show (0 + 71) % 72 = 71 from rfl, zp_tb71, e0, e]
  | succ i =>
    rw [show (i + 1 + 71) % 72 = i by omega]
    have e0 : w * 2 % 4722366482869645213696 = w % 2361183241434822606848 * 2 := by omega
    have e : (w % 2361183241434822606848 * 2 + w / 2361183241434822606848) / 2 = w % 2361183241434822606848 := by omega
    rw [← zp_tbh, e0, e, zp_tbm71, decide_eq_true (by omega), Bool.true_and]
theorem zp_RrB (w i : Nat) (hw : w < 4722366482869645213696) (hi : i < 72) : (zp_Rr w).testBit i = w.testBit ((i + 1) % 72) := by
  unfold zp_Rr
  have h := zp_tbt 71 (w % 2) (w / 2) i (by omega) (show w / 2 < 2 ^ 71 by rw [zp_e71]; omega)
  rw [zp_e71] at h
  rw [h]
  by_cases z : i < 71
  · rw [if_pos z, zp_tbh, Nat.mod_eq_of_lt (show i + 1 < 72 by omega)]
  · have ei : i = 71 := by omega
    subst ei
    rw [if_neg z, show decide (71 = 71) = true from rfl, Bool.true_and, show (71 + 1) % 72 = 0 from rfl, zp_tb0]
theorem zp_Lr_lt {v : Nat} (h : v < 4722366482869645213696) : zp_Lr v < 4722366482869645213696 := by unfold zp_Lr; omega
theorem zp_Rr_lt {v : Nat} (h : v < 4722366482869645213696) : zp_Rr v < 4722366482869645213696 := by unfold zp_Rr; omega
theorem zp_LrN (n w i : Nat) (hw : w < 4722366482869645213696) (hi : i < 72) : (zp_it zp_Lr n w).testBit i = w.testBit ((i + n * 71) % 72) := by
  induction n generalizing i with
  | zero =>
    show w.testBit i = _
    rw [Nat.zero_mul, Nat.add_zero, Nat.mod_eq_of_lt hi]
  | succ n ih =>
    have hl : zp_it zp_Lr n w < 4722366482869645213696 := zp_itI zp_Lr (fun w => w < 4722366482869645213696) (fun a h => zp_Lr_lt h) n w hw
    rw [zp_itS, zp_LrB _ _ hl hi, ih _ (by omega)]
    congr 1
    omega
theorem zp_RrN (n w i : Nat) (hw : w < 4722366482869645213696) (hi : i < 72) : (zp_it zp_Rr n w).testBit i = w.testBit ((i + n) % 72) := by
  induction n generalizing i with
  | zero =>
    show w.testBit i = _
    rw [Nat.add_zero, Nat.mod_eq_of_lt hi]
  | succ n ih =>
    have hl : zp_it zp_Rr n w < 4722366482869645213696 := zp_itI zp_Rr (fun w => w < 4722366482869645213696) (fun a h => zp_Rr_lt h) n w hw
    rw [zp_itS, zp_RrB _ _ hl hi, ih _ (by omega)]
    congr 1
    omega
theorem zp_Lr72 (n w : Nat) (hw : w < 4722366482869645213696) : zp_it zp_Lr (n % 72) w = zp_it zp_Lr n w := by
  have hl := fun m => zp_itI zp_Lr (fun w => w < 4722366482869645213696) (fun a h => zp_Lr_lt h) m w hw
  refine zp_ext (n := 72) (by rw [zp_e72]; exact hl _) (by rw [zp_e72]; exact hl _) (fun i hi => ?_)
  rw [zp_LrN _ _ _ hw hi, zp_LrN _ _ _ hw hi]
  congr 1
  omega
theorem zp_Rr72 (n w : Nat) (hw : w < 4722366482869645213696) : zp_it zp_Rr (n % 72) w = zp_it zp_Rr n w := by
  have hl := fun m => zp_itI zp_Rr (fun w => w < 4722366482869645213696) (fun a h => zp_Rr_lt h) m w hw
  refine zp_ext (n := 72) (by rw [zp_e72]; exact hl _) (by rw [zp_e72]; exact hl _) (fun i hi => ?_)
  rw [zp_RrN _ _ _ hw hi, zp_RrN _ _ _ hw hi]
  congr 1
  omega
theorem zp_Ls72 (n w : Nat) (hn : 72 ≤ n) : zp_it zp_Ls n w = zp_it zp_Ls 72 w := by
  refine zp_itC zp_Ls 72 n w hn ?_
  have h : ∀ m, zp_it zp_Ls (m + 1) w = w * 2 ^ (m + 1) % 4722366482869645213696 := by
    intro m
    induction m with
    | zero => show zp_Ls w = w * 2 ^ 1 % _; rw [Nat.pow_one]; rfl
    | succ m ih =>
      rw [zp_itS, ih, show w * 2 ^ (m + 1 + 1) = w * 2 ^ (m + 1) * 2 by rw [Nat.pow_succ 2 (m + 1), Nat.mul_assoc]]
      unfold zp_Ls
      generalize w * 2 ^ (m + 1) = z
      omega
  rw [h 71, show 71 + 1 = 72 from rfl, zp_e72, Nat.mul_mod_left]
  rfl
theorem zp_rsN' (w n : Nat) : zp_it zp_Rs n w = w / 2 ^ n := zp_rsN n w
theorem zp_Rs72 (n w : Nat) (hw : w < 4722366482869645213696) (hn : 72 ≤ n) : zp_it zp_Rs n w = zp_it zp_Rs 72 w := by
  refine zp_itC zp_Rs 72 n w hn ?_
  have h : ∀ m, zp_it zp_Rs m w = w / 2 ^ m := zp_rsN' w
  rw [h 72, zp_e72, Nat.div_eq_of_lt hw]
  rfl
end
section
/-! arithmetic shifts: X -/
theorem zn_and17 {h : Nat} (hh : h < 262144) : nI h &&& 131072 = nI (h / 131072 * 131072) := by
  show nI h &&& nI (2 ^ 17) = _
  rw [nx_and, zp_and2p]
  exact congrArg nI (by rw [show (2 ^ 17 : Nat) = 131072 from rfl]; omega)
theorem zp_or17 {a : Nat} (b : Nat) (h : a < 131072) : b * 131072 ||| a = b * 131072 + a := zp_orS 17 a b h
theorem zp_or1 {a : Nat} (b : Nat) (h : a < 2) : b * 2 ||| a = b * 2 + a := by
  have := zp_orS 1 a b (by rw [Nat.pow_one]; exact h)
  rw [Nat.pow_one] at this
  exact this
theorem zn_arL {r : Nat} (hr : r < 68719476736) : (nI (r % 262144) >>> ((1 : Int32) &&& 31)) ||| ((nI (r / 262144) &&& 1) <<< ((17 : Int32) &&& 31)) = nI (zp_ar r % 262144) := by
  rw [zn_shr1 (by omega), zn_m1, zn_shl17 (by omega), zn_or, Nat.or_comm, zp_or17 _ (by omega)]
  unfold zp_ar
  exact congrArg nI (by omega)
theorem zn_arH {r : Nat} (hr : r < 68719476736) : (nI (r / 262144) >>> ((1 : Int32) &&& 31)) ||| (nI (r / 262144) &&& 131072) = nI (zp_ar r / 262144) := by
  rw [zn_shr1 (by omega), zn_and17 (by omega), zn_or, Nat.or_comm, zp_or17 _ (by omega)]
  unfold zp_ar
  exact congrArg nI (by omega)
theorem zn_alH {r : Nat} (hr : r < 68719476736) : ((nI (r / 262144) &&& 131072) ||| ((nI (r / 262144) <<< ((1 : Int32) &&& 31)) &&& 131071)) ||| (nI (r % 262144) >>> ((17 : Int32) &&& 31)) = nI (zp_al r / 262144) := by
  rw [zn_and17 (by omega), zn_shl1 (by omega), zn_m17, zn_or, zp_or17 _ (by omega), zn_shr17 (by omega), zn_or]
  have e : r / 262144 / 131072 * 131072 + r / 262144 * 2 % 131072 = (r / 262144 / 131072 * 65536 + r / 262144 % 65536) * 2 := by omega
  rw [e, zp_or1 _ (by omega)]
  unfold zp_al
  exact congrArg nI (by omega)
theorem zn_alL {r : Nat} (hr : r < 68719476736) : (nI (r % 262144) <<< ((1 : Int32) &&& 31)) &&& 262143 = nI (zp_al r % 262144) := by
  rw [zn_shl1 (by omega), zn_m18]
  unfold zp_al
  exact congrArg nI (by omega)
theorem zn_alC {r : Nat} (hr : r < 68719476736) : ((nI (r / 262144) >>> ((16 : Int32) &&& 31)) &&& 1 = nI (r / 262144) >>> ((17 : Int32) &&& 31)) ↔ r / 17179869184 % 2 = r / 34359738368 := by
  rw [zn_shr16 (by omega), zn_m1, zn_shr17 (by omega), nI_eq (by omega) (by omega)]
  omega
section
variable {P F C A E : Int32} {p op ac e x y r m n mm : Nat} {M : Nat → Nat} {k : zx_K} {d : zx_D} {g : zy_D} {q : Int32 × Int32 × Int32} {post : SX → Prop}
theorem zx_arL (hn : n < 256) (h1 : mm ≤ n) (h2 : mm ≤ 40) (h3 : mm = n ∨ mm = 40) : ∀ t j F r, j + t = mm → r < 68719476736 →
    post (zx_G P (zp_it zp_aL t (F, r)).1 C A E x y (zp_it zp_aL t (F, r)).2 M k d) →
    wX_arithmetic_28 post (nI n) 0 P C d.1 d.2.1 d.2.2.1 d.2.2.2.1 A E (nI (x / 262144)) (nI (x % 262144)) (nI (y / 262144)) (nI (y % 262144)) (zp_HI M) (zp_LO M) k.1 k.2.1 k.2.2.1 k.2.2.2.1 k.2.2.2.2 d.2.2.2.2.1 d.2.2.2.2.2.1 d.2.2.2.2.2.2.1 d.2.2.2.2.2.2.2.1 d.2.2.2.2.2.2.2.2 (t + 1) (nI j) F (nI (r / 262144)) (nI (r % 262144)) := by
  intro t
  induction t with
  | zero =>
    intro j F r hj hr H
    exact pk_le n j (fun _ => H) (fun h => pk_le 40 j (fun _ => H) (fun h' => by omega))
  | succ t ih =>
    intro j F r hj hr H
    refine pk_le n j (fun h => by omega) (fun _ => pk_le 40 j (fun h => by omega) (fun _ => br_t rfl ?_))
    have ih' := ih (j + 1) (zp_aL (F, r)).1 (zp_al r) (by omega) (zp_al_lt hr) H
    by_cases hc : r / 17179869184 % 2 = r / 34359738368
    · have e : (zp_aL (F, r)).1 = F := if_pos hc
      rw [e] at ih'
      exact br_t ((zn_alC hr).mpr hc) (nm_r (zn_alH hr) (nm_r (zn_alL hr) (nm_r (nI_1 j) ih')))
    · have e : (zp_aL (F, r)).1 = F ||| 8 := if_neg hc
      rw [e] at ih'
      exact br_f (fun z => hc ((zn_alC hr).mp z)) (nm_e (nm_r (zn_alH hr) (nm_r (zn_alL hr) (nm_r (nI_1 j) ih'))))
theorem zx_arR (hn : n < 256) (h1 : mm ≤ n) (h2 : mm ≤ 40) (h3 : mm = n ∨ mm = 40) : ∀ t j F r, j + t = mm → r < 68719476736 →
    post (zx_G P (zp_it zp_aR t (F, r)).1 C A E x y (zp_it zp_aR t (F, r)).2 M k d) →
    wX_arithmetic_28 post (nI n) 1 P C d.1 d.2.1 d.2.2.1 d.2.2.2.1 A E (nI (x / 262144)) (nI (x % 262144)) (nI (y / 262144)) (nI (y % 262144)) (zp_HI M) (zp_LO M) k.1 k.2.1 k.2.2.1 k.2.2.2.1 k.2.2.2.2 d.2.2.2.2.1 d.2.2.2.2.2.1 d.2.2.2.2.2.2.1 d.2.2.2.2.2.2.2.1 d.2.2.2.2.2.2.2.2 (t + 1) (nI j) F (nI (r / 262144)) (nI (r % 262144)) := by
  intro t
  induction t with
  | zero =>
    intro j F r hj hr H
    exact pk_le n j (fun _ => H) (fun h => pk_le 40 j (fun _ => H) (fun h' => by omega))
  | succ t ih =>
    intro j F r hj hr H
    refine pk_le n j (fun h => by omega) (fun _ => pk_le 40 j (fun h => by omega) (fun _ => br_f (by decide) ?_))
    exact nm_r (zn_arL hr) (nm_r (zn_arH hr) (nm_r (nI_1 j) (ih (j + 1) F (zp_ar r) (by omega) (zp_ar_lt hr) H)))
/-- one step of a shift of one word: op 160, 161, 162; lf: to the left -/
def zp_o1 (op lf : Nat) (s : Int32 × Nat) : Int32 × Nat :=
  if op = 160 then (if lf = 0 then zp_aR s else zp_aL s) else if op = 161 then (s.1, if lf = 0 then zp_rr s.2 else zp_rl s.2) else (s.1, if lf = 0 then zp_rs' s.2 else zp_ls s.2)
theorem zx_arithmetic {lf : Nat} (hn : n < 256) (hac : ac < 16) (hM : zp_MW M) (hlf : lf ≤ 1) {rt : Int32} (hrt : rt = nI (1 - lf))
    (H : post (zx_G P (zp_it (zp_o1 160 lf) n (F, M ac)).1 C (nI ac) E x y (zp_it (zp_o1 160 lf) n (F, M ac)).2 M k d)) :
    wpX_arithmetic post (zx_G P F C (nI ac) E x y r M k d) (nI n) rt := by
  subst hrt
  have hw := hM ac
  refine ⟨zx_iA hac, nm_e ⟨zx_iA hac, nm_e ?_⟩⟩
  rw [zx_cA hac]
  obtain ⟨mm, h1, h2, h3, h4⟩ : ∃ mm, mm ≤ n ∧ mm ≤ 40 ∧ (mm = n ∨ mm = 40) ∧ (mm = n ∨ 40 ≤ n) := by
    by_cases h : n ≤ 40
    · exact ⟨n, by omega, h, Or.inl rfl, Or.inl rfl⟩
    · exact ⟨40, by omega, by omega, Or.inr rfl, Or.inr (by omega)⟩
  have hl : lf = 0 ∨ lf = 1 := by omega
  rcases hl with rfl | rfl
  · have ef : zp_o1 160 0 = zp_aR := rfl
    rw [ef] at H
    have e : zp_it zp_aR n (F, M ac) = zp_it zp_aR mm (F, M ac) := by
      rcases h3 with h3 | h3
      · rw [h3]
      · rw [h3]
        exact zp_aR40 n _ hw (by omega)
    rw [e] at H
    exact ⟨_, zx_arR hn h1 h2 h3 mm 0 F (M ac) (by omega) hw H⟩
  · have ef : zp_o1 160 1 = zp_aL := rfl
    rw [ef] at H
    have e : zp_it zp_aL n (F, M ac) = zp_it zp_aL mm (F, M ac) := by
      rcases h3 with h3 | h3
      · rw [h3]
      · rw [h3]
        exact zp_aL40 n _ hw (by omega)
    rw [e] at H
    exact ⟨_, zx_arL hn h1 h2 h3 mm 0 F (M ac) (by omega) hw H⟩
end
end
section
/-! shifts of one word: Y -/
theorem zp_upup {M : Nat → Nat} {i a b : Nat} : zp_up (zp_up M i a) i b = zp_up M i b := by
  funext j
  unfold zp_up
  by_cases h : j = i
  · rw [if_pos h, if_pos h]
  · rw [if_neg h, if_neg h, if_neg h]
theorem zp_upid {M : Nat → Nat} {i : Nat} : zp_up M i (M i) = M := by
  funext j
  unfold zp_up
  by_cases h : j = i
  · rw [if_pos h, h]
  · rw [if_neg h]
theorem zp_o1_lt {op lf : Nat} {s : Int32 × Nat} (h : s.2 < 68719476736) : (zp_o1 op lf s).2 < 68719476736 := by
  unfold zp_o1
  split
  · split
    · exact zp_ar_lt h
    · exact zp_al_lt h
  · split
    · show (if lf = 0 then zp_rr s.2 else zp_rl s.2) < 68719476736
      split
      · exact zp_rr_lt h
      · exact zp_rl_lt h
    · show (if lf = 0 then zp_rs' s.2 else zp_ls s.2) < 68719476736
      split
      · exact zp_rs_lt h
      · exact zp_ls_lt _
theorem zp_o1_FL {op lf : Nat} {s : Int32 × Nat} (h : zp_FL s.1) : zp_FL (zp_o1 op lf s).1 := by
  unfold zp_o1
  split
  · split
    · exact h
    · show zp_FL (if s.2 / 17179869184 % 2 = s.2 / 34359738368 then s.1 else s.1 ||| 8)
      split
      · exact h
      · exact zp_FL8 h
  · split
    · exact h
    · exact h
/-- the longs of one step -/
theorem zl_and35 {a : Nat} (h : a < 68719476736) : lN a &&& 34359738368 = lN (a / 34359738368 * 34359738368) := by
  have e : (34359738368 : Int64) = lN (2 ^ 35) := rfl
  rw [e, zl_and, zp_and2p, zp_e35]
  exact congrArg lN (by omega)
theorem zp_or35 {a : Nat} (b : Nat) (h : a < 34359738368) : b * 34359738368 ||| a = b * 34359738368 + a := by
  have := zp_orS 35 a b (by rw [zp_e35]; exact h)
  rw [zp_e35] at this
  exact this
theorem zl_al {a : Nat} (h : a < 68719476736) : (lN a &&& 34359738368) ||| ((lN a <<< ((1 : Int32).toInt64 &&& 63)) &&& 34359738367) = lN (zp_al a) := by
  rw [zl_and35 h, zl_shl1, zl_m35, zl_or, zp_or35 _ (by omega)]
  rfl
theorem zl_ar {a : Nat} (h : a < 68719476736) : (lN a &&& 34359738368) ||| (lN a >>> ((1 : Int32).toInt64 &&& 63)) = lN (zp_ar a) := by
  rw [zl_and35 h, zl_shr1 (by omega), zl_or, zp_or35 _ (by omega)]
  rfl
theorem zl_rl {a : Nat} (h : a < 68719476736) : ((lN a <<< ((1 : Int32).toInt64 &&& 63)) &&& 68719476735) ||| (lN a >>> ((35 : Int32).toInt64 &&& 63)) = lN (zp_rl a) := by
  rw [zl_shl1, zl_m36, zl_shr35 (by omega), zl_or]
  have e : a * 2 % 68719476736 = a % 34359738368 * 2 := by omega
  unfold zp_rl
  rw [e, zp_or1 _ (by omega)]
theorem zl_ls {a : Nat} : ((lN a <<< ((1 : Int32).toInt64 &&& 63)) &&& 68719476735) ||| 0 = lN (zp_ls a) := by
  rw [zl_shl1, zl_m36, show (0 : Int64) = lN 0 from rfl, zl_or, Nat.or_zero]
  rfl
theorem zl_rr {a : Nat} (h : a < 68719476736) : (lN a >>> ((1 : Int32).toInt64 &&& 63)) ||| ((lN a &&& 1) <<< ((35 : Int32).toInt64 &&& 63)) = lN (zp_rr a) := by
  rw [zl_shr1 (by omega), zl_m1, zl_shl35, zl_or, Nat.or_comm, zp_or35 _ (by omega)]
  rfl
theorem zl_rs {a : Nat} (h : a < 68719476736) : (lN a >>> ((1 : Int32).toInt64 &&& 63)) ||| 0 = lN (zp_rs' a) := by
  rw [zl_shr1 (by omega), show (0 : Int64) = lN 0 from rfl, zl_or, Nat.or_zero]
  rfl
theorem zl_alC {a : Nat} (h : a < 68719476736) : ((lN a >>> ((34 : Int32).toInt64 &&& 63)) &&& 1 = lN a >>> ((35 : Int32).toInt64 &&& 63)) ↔ a / 17179869184 % 2 = a / 34359738368 := by
  rw [zl_shr34 (by omega), zl_m1, zl_shr35 (by omega), pk_lEQ (by omega) (by omega)]
section
variable {P F C E Wh Dp Mo : Int32} {p op ac e x y r m n lf : Nat} {M : Nat → Nat} {g : zy_D} {post : SY → Prop}
theorem zy_stA {w v : Nat} {z : Int64} (hac : ac < 16) (hz : z = lN v) (H : post (zy_G P F C (nI op) (nI ac) E Wh Dp Mo (zp_up M ac v) g)) :
    vp_in (nI ac) 256 ∧ ∀ a : Nat → Int64, a = vp_updL (zp_ME M) (nI ac).toNatClampNeg z → post (P, F, C, g.1, g.2.1, g.2.2.1, nI op, nI ac, E, Wh, Dp, Mo, a, g.2.2.2.1, g.2.2.2.2.1, g.2.2.2.2.2) := by
  subst hz
  exact ⟨zx_iA hac, nm_r (zy_updA hac) H⟩
theorem zy_one (hac : ac < 16) (hM : zp_MW M) (hop : op = 160 ∨ op = 161 ∨ op = 162) (hlf : lf ≤ 1)
    (H : post (zy_G P (zp_o1 op lf (F, M ac)).1 C (nI op) (nI ac) E Wh Dp Mo (zp_up M ac (zp_o1 op lf (F, M ac)).2) g)) :
    wpY_one post (zy_G P F C (nI op) (nI ac) E Wh Dp Mo M g) (nI lf) := by
  have hw := hM ac
  unfold wpY_one
  refine zy_accumulator hac ?_
  refine nm_e ?_
  have hl : lf = 0 ∨ lf = 1 := by omega
  unfold zp_o1 at H
  rcases hop with rfl | rfl | rfl
  · rw [if_pos rfl] at H
    refine br_t rfl ?_
    rcases hl with rfl | rfl
    · rw [if_pos rfl] at H
      exact br_t rfl (br_t rfl (zy_stA (op := 160) (w := M ac) hac (zl_ar hw) H))
    · rw [if_neg (by decide)] at H
      refine br_f (by decide) ?_
      by_cases hc : M ac / 17179869184 % 2 = M ac / 34359738368
      · have e : (zp_aL (F, M ac)).1 = F := if_pos hc
        rw [e] at H
        exact br_t ((zl_alC hw).mpr hc) (br_f (by decide) (zy_stA (op := 160) (w := M ac) hac (zl_al hw) H))
      · have e : (zp_aL (F, M ac)).1 = F ||| 8 := if_neg hc
        rw [e] at H
        exact br_f (fun z => hc ((zl_alC hw).mp z)) (nm_e (br_f (by decide) (zy_stA (op := 160) (w := M ac) hac (zl_al hw) H)))
  · rw [if_neg (by decide), if_pos rfl] at H
    refine br_f (by decide) ?_
    rcases hl with rfl | rfl
    · exact br_t rfl (br_t rfl (nm_r (zl_rr hw) (zy_stA (op := 161) (w := M ac) hac rfl H)))
    · exact br_f (by decide) (br_t rfl (nm_r (zl_rl hw) (zy_stA (op := 161) (w := M ac) hac rfl H)))
  · rw [if_neg (by decide), if_neg (by decide)] at H
    refine br_f (by decide) ?_
    rcases hl with rfl | rfl
    · exact br_t rfl (br_f (by decide) (nm_r (zl_rs hw) (zy_stA (op := 162) (w := M ac) hac rfl H)))
    · exact br_f (by decide) (br_f (by decide) (nm_r zl_ls (zy_stA (op := 162) (w := M ac) hac rfl H)))
theorem zy_sh1 {x1 : Int32} (hac : ac < 16) (hop : op = 160 ∨ op = 161 ∨ op = 162) (hn : n < 256) (hx1 : (lf = 0 ∧ x1 ≤ 0) ∨ (lf = 1 ∧ ¬ x1 ≤ 0)) : ∀ t j F M, zp_MW M → j + t = n →
    post (zy_G P (zp_it (zp_o1 op lf) t (F, M ac)).1 C (nI op) (nI ac) E Wh Dp Mo (zp_up M ac (zp_it (zp_o1 op lf) t (F, M ac)).2) g) →
    wY_shift_56 post x1 (nI n) (t + 1) (nI j) P F C g.1 g.2.1 g.2.2.1 (nI op) (nI ac) E Wh Dp Mo (zp_ME M) g.2.2.2.1 g.2.2.2.2.1 g.2.2.2.2.2 := by
  intro t
  induction t with
  | zero =>
    intro j F M hM hj H
    have H' : post (zy_G P F C (nI op) (nI ac) E Wh Dp Mo (zp_up M ac (M ac)) g) := H
    rw [zp_upid] at H'
    exact pk_le n j (fun _ => H') (fun h => by omega)
  | succ t ih =>
    intro j F M hM hj H
    have hw' : (zp_o1 op lf (F, M ac)).2 < 68719476736 := zp_o1_lt (s := (F, M ac)) (hM ac)
    have ih' := ih (j + 1) (zp_o1 op lf (F, M ac)).1 (zp_up M ac (zp_o1 op lf (F, M ac)).2) (zp_MWu hM hw') (by omega)
    rw [zp_upS, zp_upup] at ih'
    have ih2 := ih' H
    refine pk_le n j (fun h => by omega) (fun _ => pk_le 163 op (fun h => by omega) (fun _ => ?_))
    rcases hx1 with ⟨rfl, hx⟩ | ⟨rfl, hx⟩
    · refine br_t hx ?_
      unfold wY_shift_81
      exact zy_one (lf := 0) hac hM hop (by decide) (nm_r (nI_1 j) ih2)
    · refine br_f hx ?_
      unfold wY_shift_81
      exact zy_one (lf := 1) hac hM hop (by decide) (nm_r (nI_1 j) ih2)
end
end
section
/-! shifts of two words -/
def zp_d2 (rd lf : Nat) (s : Nat × Nat) : Nat × Nat :=
  if lf = 0 then ((if rd = 0 then 0 else s.2 % 2 * 34359738368) + s.1 / 2, s.1 % 2 * 34359738368 + s.2 / 2)
  else (s.1 * 2 % 68719476736 + s.2 / 34359738368, s.2 * 2 % 68719476736 + (if rd = 0 then 0 else s.1 / 34359738368))
def zp_v2 (s : Nat × Nat) : Nat := s.1 * 68719476736 + s.2
def zp_W2 (s : Nat × Nat) : Prop := s.1 < 68719476736 ∧ s.2 < 68719476736
theorem zp_d2W (rd lf : Nat) (s : Nat × Nat) (h : zp_W2 s) : zp_W2 (zp_d2 rd lf s) := by
  obtain ⟨a, b⟩ := s
  obtain ⟨h1, h2⟩ := h
  dsimp only at h1 h2
  unfold zp_d2 zp_W2
  by_cases hl : lf = 0
  · rw [if_pos hl]
    dsimp only
    by_cases hr : rd = 0
    · rw [if_pos hr]
      omega
    · rw [if_neg hr]
      omega
  · rw [if_neg hl]
    dsimp only
    by_cases hr : rd = 0
    · rw [if_pos hr]
      omega
    · rw [if_neg hr]
      omega
def zp_V2 (rd lf : Nat) (v : Nat) : Nat := if lf = 0 then (if rd = 0 then zp_Rs v else zp_Rr v) else (if rd = 0 then zp_Ls v else zp_Lr v)
theorem zp_d2V (rd lf : Nat) (s : Nat × Nat) (h : zp_W2 s) : zp_v2 (zp_d2 rd lf s) = zp_V2 rd lf (zp_v2 s) := by
  obtain ⟨a, b⟩ := s
  obtain ⟨h1, h2⟩ := h
  dsimp only at h1 h2
  unfold zp_d2 zp_V2 zp_v2
  by_cases hl : lf = 0
  · rw [if_pos hl, if_pos hl]
    dsimp only
    by_cases hr : rd = 0
    · rw [if_pos hr, if_pos hr]
      unfold zp_Rs
      omega
    · rw [if_neg hr, if_neg hr]
      unfold zp_Rr
      omega
  · rw [if_neg hl, if_neg hl]
    dsimp only
    have e1 : a * 2 % 68719476736 = a % 34359738368 * 2 := by omega
    have e2 : b * 2 % 68719476736 = b % 34359738368 * 2 := by omega
    have e3 : (a * 68719476736 + b) * 2 % 4722366482869645213696 = (a % 34359738368 * 68719476736 + b) * 2 := by omega
    have e4 : (a * 68719476736 + b) / 2361183241434822606848 = a / 34359738368 := by omega
    rw [e1, e2]
    by_cases hr : rd = 0
    · rw [if_pos hr, if_pos hr]
      unfold zp_Ls
      rw [e3]
      omega
    · rw [if_neg hr, if_neg hr]
      unfold zp_Lr
      rw [e3, e4]
      omega
theorem zp_v2i {s t : Nat × Nat} (hs : zp_W2 s) (ht : zp_W2 t) (h : zp_v2 s = zp_v2 t) : s = t := by
  obtain ⟨a, b⟩ := s
  obtain ⟨a', b'⟩ := t
  obtain ⟨h1, h2⟩ := hs
  obtain ⟨h3, h4⟩ := ht
  unfold zp_v2 at h
  dsimp only at h1 h2 h3 h4 h
  have e1 : a = a' := by omega
  have e2 : b = b' := by omega
  rw [e1, e2]
theorem zp_itW (rd lf n : Nat) (s : Nat × Nat) (h : zp_W2 s) : zp_W2 (zp_it (zp_d2 rd lf) n s) := zp_itI (zp_d2 rd lf) zp_W2 (fun a h => zp_d2W rd lf a h) n s h
theorem zp_itV (rd lf n : Nat) (s : Nat × Nat) (h : zp_W2 s) : zp_v2 (zp_it (zp_d2 rd lf) n s) = zp_it (zp_V2 rd lf) n (zp_v2 s) := by
  induction n with
  | zero => rfl
  | succ n ih => rw [zp_itS, zp_itS, zp_d2V _ _ _ (zp_itW rd lf n s h), ih]
theorem zp_v2_lt {s : Nat × Nat} (h : zp_W2 s) : zp_v2 s < 4722366482869645213696 := by
  obtain ⟨a, b⟩ := s
  obtain ⟨h1, h2⟩ := h
  unfold zp_v2
  dsimp only at h1 h2 ⊢
  omega
/-- X's count of steps does as well -/
theorem zp_it72 (rd lf n m : Nat) (s : Nat × Nat) (h : zp_W2 s) (hm : m = if rd = 0 then (if n ≤ 72 then n else 72) else n % 72) : zp_it (zp_d2 rd lf) m s = zp_it (zp_d2 rd lf) n s := by
  refine zp_v2i (zp_itW _ _ _ _ h) (zp_itW _ _ _ _ h) ?_
  rw [zp_itV _ _ _ _ h, zp_itV _ _ _ _ h]
  have hv := zp_v2_lt h
  generalize zp_v2 s = v at *
  by_cases hr : rd = 0
  · rw [if_pos hr] at hm
    by_cases hn : n ≤ 72
    · rw [if_pos hn] at hm
      rw [hm]
    · rw [if_neg hn] at hm
      rw [hm]
      by_cases hl : lf = 0
      · have e : zp_V2 rd lf = zp_Rs := by funext v; unfold zp_V2; rw [if_pos hl, if_pos hr]
        rw [e]
        exact (zp_Rs72 n v hv (by omega)).symm
      · have e : zp_V2 rd lf = zp_Ls := by funext v; unfold zp_V2; rw [if_neg hl, if_pos hr]
        rw [e]
        exact (zp_Ls72 n v (by omega)).symm
  · rw [if_neg hr] at hm
    rw [hm]
    by_cases hl : lf = 0
    · have e : zp_V2 rd lf = zp_Rr := by funext v; unfold zp_V2; rw [if_pos hl, if_neg hr]
      rw [e]
      exact zp_Rr72 n v hv
    · have e : zp_V2 rd lf = zp_Lr := by funext v; unfold zp_V2; rw [if_neg hl, if_neg hr]
      rw [e]
      exact zp_Lr72 n v hv
/-- the longs of a step: X's unsigned shifts -/
theorem zl_u1 {a : Nat} (h : a < 68719476736) : ((lN a).toUInt64 >>> ((1 : Int32).toInt64.toUInt64 &&& Int64.toUInt64 63)).toInt64 = lN (a / 2) := wb_shr (k := 1) (by omega) (by decide)
theorem zl_u35 {a : Nat} (h : a < 68719476736) : ((lN a).toUInt64 >>> ((35 : Int32).toInt64.toUInt64 &&& Int64.toUInt64 63)).toInt64 = lN (a / 34359738368) := wb_shr (k := 35) (by omega) (by decide)
theorem zp_orB {a b : Nat} (ha : a < 68719476736) (hb : b < 68719476736) : a * 2 % 68719476736 ||| b / 34359738368 = a * 2 % 68719476736 + b / 34359738368 := by
  have e : a * 2 % 68719476736 = a % 34359738368 * 2 := by omega
  rw [e, zp_or1 _ (by omega)]
section
variable {P F C A E : Int32} {p op ac e x y r m n mm rd lf : Nat} {M : Nat → Nat} {k : zx_K} {d : zx_D} {g : zy_D} {q : Int32 × Int32 × Int32} {post : SX → Prop}
/-- memory behind a shift of two words -/
def zp_2M (M : Nat → Nat) (ac : Nat) (s : Nat × Nat) : Nat → Nat := zp_up (zp_up M ac s.1) ((ac + 1) % 16) s.2
theorem zp_d200 (a b : Nat) : zp_d2 0 0 (a, b) = (0 + a / 2, a % 2 * 34359738368 + b / 2) := by
  unfold zp_d2
  rw [if_pos rfl, if_pos rfl]
theorem zp_d210 (a b : Nat) : zp_d2 1 0 (a, b) = (b % 2 * 34359738368 + a / 2, a % 2 * 34359738368 + b / 2) := by
  unfold zp_d2
  rw [if_pos rfl, if_neg (by decide)]
theorem zp_d201 (a b : Nat) : zp_d2 0 1 (a, b) = (a * 2 % 68719476736 + b / 34359738368, b * 2 % 68719476736 + 0) := by
  unfold zp_d2
  rw [if_neg (by decide), if_pos rfl]
theorem zp_d211 (a b : Nat) : zp_d2 1 1 (a, b) = (a * 2 % 68719476736 + b / 34359738368, b * 2 % 68719476736 + a / 34359738368) := by
  unfold zp_d2
  rw [if_neg (by decide), if_neg (by decide)]
theorem zx_d38z {a b : Nat} (hac : ac < 16) (hk : zp_CV M k) (ha : a < 68719476736) (hb : b < 68719476736)
    (H : ∀ r' k', r' < 68719476736 → zp_CV (zp_up (zp_up M ac a) ((ac + 1) % 16) b) k' → post (zx_G P F C (nI ac) (nI e) x y r' (zp_up (zp_up M ac a) ((ac + 1) % 16) b) k' d)) :
    wpX_result (fun u => wpX_write (fun u => wpX_result (fun u => wpX_write (fun u => post u) u ((u.2.2.2.2.2.2.2.1 + 1) &&& 15) u.2.2.2.2.2.2.2.2.2.2.2.2.2.1 u.2.2.2.2.2.2.2.2.2.2.2.2.2.2.1) u (lN b)) u u.2.2.2.2.2.2.2.1 u.2.2.2.2.2.2.2.2.2.2.2.2.2.1 u.2.2.2.2.2.2.2.2.2.2.2.2.2.2.1) (zx_G P F C (nI ac) (nI e) x y r M k d) (lN a) := by
  refine zx_result ?_
  refine zx_writeA hk hac a ?_ ?_ (fun k1 hk1 => ?_)
  · show nI (zp_wd (lN a) / 262144) = _
    rw [zp_wdN, Nat.mod_eq_of_lt ha]
  · show nI (zp_wd (lN a) % 262144) = _
    rw [zp_wdN, Nat.mod_eq_of_lt ha]
  · refine zx_result ?_
    refine zx_write hk1 ((ac + 1) % 16) b (zn_nx ac) ?_ ?_ ?_
    · show nI (zp_wd (lN b) / 262144) = _
      rw [zp_wdN, Nat.mod_eq_of_lt hb]
    · show nI (zp_wd (lN b) % 262144) = _
      rw [zp_wdN, Nat.mod_eq_of_lt hb]
    · rw [Nat.mod_eq_of_lt (show (ac + 1) % 16 < 256 by omega)]
      exact fun k' hk' => H _ k' (zp_wd_lt _) hk'
theorem zx_d38 (hac : ac < 16) (hk : zp_CV M k) (hm : mm < 256) (hrd : rd ≤ 1) (hlf : lf ≤ 1) : ∀ t j a b, j + t = mm → a < 68719476736 → b < 68719476736 →
    (∀ r' k', r' < 68719476736 → zp_CV (zp_2M M ac (zp_it (zp_d2 rd lf) t (a, b))) k' → post (zx_G P F C (nI ac) (nI e) x y r' (zp_2M M ac (zp_it (zp_d2 rd lf) t (a, b))) k' d)) →
    wX_double72_38 post (nI (1 - lf)) (nI rd) (nI mm) P F C d.1 d.2.1 d.2.2.1 d.2.2.2.1 (nI ac) (nI e) (nI (x / 262144)) (nI (x % 262144)) (nI (y / 262144)) (nI (y % 262144)) (nI (r / 262144)) (nI (r % 262144)) (zp_HI M) (zp_LO M) k.1 k.2.1 k.2.2.1 k.2.2.2.1 k.2.2.2.2 d.2.2.2.2.1 d.2.2.2.2.2.1 d.2.2.2.2.2.2.1 d.2.2.2.2.2.2.2.1 d.2.2.2.2.2.2.2.2 (t + 1) (lN a) (lN b) (nI j) := by
  intro t
  induction t with
  | zero =>
    intro j a b hj ha hb H
    have H' : ∀ r' k', r' < 68719476736 → zp_CV (zp_up (zp_up M ac a) ((ac + 1) % 16) b) k' → post (zx_G P F C (nI ac) (nI e) x y r' (zp_up (zp_up M ac a) ((ac + 1) % 16) b) k' d) := H
    refine pk_le mm j (fun _ => ?_) (fun h => by omega)
    exact zx_d38z hac hk ha hb H'
  | succ t ih =>
    intro j a b hj ha hb H
    have hW := zp_d2W rd lf (a, b) ⟨ha, hb⟩
    have hit : zp_it (zp_d2 rd lf) (t + 1) (a, b) = zp_it (zp_d2 rd lf) t (zp_d2 rd lf (a, b)) := rfl
    obtain ⟨a', b', e'⟩ : ∃ a' b', zp_d2 rd lf (a, b) = (a', b') := ⟨_, _, rfl⟩
    rw [hit, e'] at H
    rw [e'] at hW
    have ih' := ih (j + 1) a' b' (by omega) hW.1 hW.2 H
    clear ih H hW hit
    have h1 : lf = 0 ∨ lf = 1 := by omega
    have h2 : rd = 0 ∨ rd = 1 := by omega
    refine pk_le mm j (fun h => by omega) (fun _ => ?_)
    rcases h1 with rfl | rfl
    · refine br_f (by decide) ?_
      rcases h2 with rfl | rfl
      · obtain ⟨rfl, rfl⟩ := Prod.mk.inj (e'.symm.trans (zp_d200 a b))
        refine br_t rfl (nm_r (e' := lN (a % 2 * 34359738368 + b / 2)) ?_ (nm_r (e' := lN (0 + a / 2)) ?_ (nm_r (nI_1 j) ih')))
        · rw [zl_u1 hb, zl_m1, zl_shl35, zl_or, Nat.or_comm, zp_or35 _ (by omega)]
        · rw [zl_u1 ha, show (0 : Int64) = lN 0 from rfl, zl_shl35, zl_or, Nat.zero_mul, Nat.or_zero, Nat.zero_add]
      · obtain ⟨rfl, rfl⟩ := Prod.mk.inj (e'.symm.trans (zp_d210 a b))
        refine br_f (by decide) (nm_r (e' := lN (a % 2 * 34359738368 + b / 2)) ?_ (nm_r (e' := lN (b % 2 * 34359738368 + a / 2)) ?_ (nm_r (nI_1 j) ih')))
        · rw [zl_u1 hb, zl_m1, zl_shl35, zl_or, Nat.or_comm, zp_or35 _ (by omega)]
        · rw [zl_u1 ha, zl_m1, zl_shl35, zl_or, Nat.or_comm, zp_or35 _ (by omega)]
    · refine br_t rfl ?_
      rcases h2 with rfl | rfl
      · obtain ⟨rfl, rfl⟩ := Prod.mk.inj (e'.symm.trans (zp_d201 a b))
        refine br_t rfl (nm_r (e' := lN (a * 2 % 68719476736 + b / 34359738368)) ?_ (nm_r (e' := lN (b * 2 % 68719476736 + 0)) ?_ (nm_r (nI_1 j) ih')))
        · rw [zl_u35 hb, zl_shl1, zl_m36, zl_or, zp_orB ha hb]
        · rw [zl_shl1, zl_m36, show (0 : Int64) = lN 0 from rfl, zl_or, Nat.or_zero, Nat.add_zero]
      · obtain ⟨rfl, rfl⟩ := Prod.mk.inj (e'.symm.trans (zp_d211 a b))
        refine br_f (by decide) (nm_r (e' := lN (a * 2 % 68719476736 + b / 34359738368)) ?_ (nm_r (e' := lN (b * 2 % 68719476736 + a / 34359738368)) ?_ (nm_r (nI_1 j) ih')))
        · rw [zl_u35 hb, zl_shl1, zl_m36, zl_or, zp_orB ha hb]
        · rw [zl_u35 ha, zl_shl1, zl_m36, zl_or, zp_orB hb ha]
theorem zx_double72 (hac : ac < 16) (hk : zp_CV M k) (hM : zp_MW M) (hn : n < 256) (hrd : rd ≤ 1) (hlf : lf ≤ 1) {rt : Int32} (hrt : rt = nI (1 - lf)) {rn : Int32} (hrn : rn = nI rd)
    (H : ∀ r' k', r' < 68719476736 → zp_CV (zp_2M M ac (zp_it (zp_d2 rd lf) n (M ac, M ((ac + 1) % 16)))) k' → post (zx_G P F C (nI ac) (nI e) x y r' (zp_2M M ac (zp_it (zp_d2 rd lf) n (M ac, M ((ac + 1) % 16)))) k' d)) :
    wpX_double72 post (zx_G P F C (nI ac) (nI e) x y r M k d) (lN (M ac)) (lN (M ((ac + 1) % 16))) (nI n) rt rn := by
  subst hrt hrn
  have K : ∀ mm, mm < 256 → (mm = if rd = 0 then (if n ≤ 72 then n else 72) else n % 72) → wX_double72_38 post (nI (1 - lf)) (nI rd) (nI mm) P F C d.1 d.2.1 d.2.2.1 d.2.2.2.1 (nI ac) (nI e) (nI (x / 262144)) (nI (x % 262144)) (nI (y / 262144)) (nI (y % 262144)) (nI (r / 262144)) (nI (r % 262144)) (zp_HI M) (zp_LO M) k.1 k.2.1 k.2.2.1 k.2.2.2.1 k.2.2.2.2 d.2.2.2.2.1 d.2.2.2.2.2.1 d.2.2.2.2.2.2.1 d.2.2.2.2.2.2.2.1 d.2.2.2.2.2.2.2.2 (mm + 1) (lN (M ac)) (lN (M ((ac + 1) % 16))) (nI 0) := by
    intro mm h1 h2
    rw [← zp_it72 rd lf n mm _ ⟨hM ac, hM ((ac + 1) % 16)⟩ h2] at H
    exact zx_d38 hac hk h1 hrd hlf mm 0 _ _ (by omega) (hM _) (hM _) H
  refine pk_eq rd 0 (fun h => pk_le n 72 (fun h2 => ⟨_, K n hn ?_⟩) (fun h2 => ⟨_, K 72 (by decide) ?_⟩)) (fun h => ⟨by decide, nm_r (e' := nI (n % 72)) ?_ ⟨_, K (n % 72) (by omega) ?_⟩⟩)
  · rw [if_pos h, if_pos h2]
  · rw [if_pos h, if_neg (by omega)]
  · exact pk_rem (d := 72) (by omega) (by decide) (by decide)
  · rw [if_neg h]
end
section
variable {P F C E Wh Dp Mo : Int32} {p op ac e x y r m n lf rd : Nat} {M : Nat → Nat} {g : zy_D} {post : SY → Prop}
theorem zy_two93 {x2 x7 : Int32} {x3 x5 z0 : Int64} {a b : Nat} (hac : ac < 16) (hx2 : x2 = nI ((ac + 1) % 16)) (hz : z0 = lN a)
    (hl : lf ≤ 1) (hrd : rd ≤ 1) (h7 : x7 = nI rd)
    (hr : lf = 0 → (x5 >>> ((1 : Int32).toInt64 &&& 63)) ||| ((x3 &&& 1) <<< ((35 : Int32).toInt64 &&& 63)) = lN b)
    (h0 : lf = 1 → rd = 0 → ((x5 <<< ((1 : Int32).toInt64 &&& 63)) &&& 68719476735) ||| 0 = lN b)
    (h1 : lf = 1 → rd = 1 → ((x5 <<< ((1 : Int32).toInt64 &&& 63)) &&& 68719476735) ||| (x3 >>> ((35 : Int32).toInt64 &&& 63)) = lN b)
    (H : post (zy_G P F C (nI op) (nI ac) E Wh Dp Mo (zp_2M M ac (a, b)) g)) :
    wY_two_93 post (nI lf) x2 x3 x5 x7 z0 (nI ac) P F C g.1 g.2.1 g.2.2.1 (nI op) (nI ac) E Wh Dp Mo (zp_ME M) g.2.2.2.1 g.2.2.2.2.1 g.2.2.2.2.2 := by
  subst hx2 hz h7
  have i2 : vp_in (nI ((ac + 1) % 16)) 256 := vp_in_nI (by omega) (by decide)
  have u2 : vp_updL (zp_ME (zp_up M ac a)) (nI ((ac + 1) % 16)).toNatClampNeg (lN b) = zp_ME (zp_2M M ac (a, b)) := by
    rw [nI_clamp (by omega), zp_MEu]
    rfl
  refine ⟨zx_iA hac, nm_r (zy_updA hac) ?_⟩
  refine pk_eq lf 0 (fun h => ⟨i2, ?_⟩) (fun h => pk_eq rd 0 (fun h2 => ⟨i2, ?_⟩) (fun h2 => ⟨i2, ?_⟩))
  · rw [hr h]
    exact nm_r u2 H
  · rw [h0 (by omega) h2]
    exact nm_r u2 H
  · rw [h1 (by omega) (by omega)]
    exact nm_r u2 H
theorem zy_two (hac : ac < 16) (hM : zp_MW M) (hop : op < 512) (hrd : rd = if op = 165 then 1 else 0) (hlf : lf ≤ 1)
    (H : post (zy_G P F C (nI op) (nI ac) E Wh Dp Mo (zp_2M M ac (zp_d2 rd lf (M ac, M ((ac + 1) % 16)))) g)) :
    wpY_two post (zy_G P F C (nI op) (nI ac) E Wh Dp Mo M g) (nI lf) := by
  have ha := hM ac
  have hb := hM ((ac + 1) % 16)
  have i2 : vp_in (nI ((ac + 1) % 16)) 256 := vp_in_nI (by omega) (by decide)
  refine nm_r (zn_nx ac) ⟨zx_iA hac, ?_⟩
  rw [zx_cA hac]
  refine nm_e ⟨i2, ?_⟩
  rw [nI_clamp (n := (ac + 1) % 16) (by omega)]
  refine nm_e ?_
  have hrl : rd ≤ 1 := by rw [hrd]; split <;> decide
  have K : wY_two_43 post (nI lf) (nI ((ac + 1) % 16)) (zp_ME M ac) (zp_ME M ((ac + 1) % 16)) (nI rd) P F C g.1 g.2.1 g.2.2.1 (nI op) (nI ac) E Wh Dp Mo (zp_ME M) g.2.2.2.1 g.2.2.2.2.1 g.2.2.2.2.2 := by
    have ea : zp_ME M ac = lN (M ac) := rfl
    have eb : zp_ME M ((ac + 1) % 16) = lN (M ((ac + 1) % 16)) := rfl
    rw [ea, eb]
    generalize M ac = a at *
    generalize M ((ac + 1) % 16) = b at *
    unfold zp_d2 at H
    refine pk_eq lf 0 (fun h => pk_eq rd 0 (fun h2 => ?_) (fun h2 => ?_)) (fun h => ?_)
    · rw [if_pos h, if_pos h2] at H
      refine zy_two93 hac rfl ?_ hlf hrl rfl ?_ (fun z => by omega) (fun z => by omega) H
      · rw [zl_shr1 (by omega), show (0 : Int64) = lN 0 from rfl, zl_or, Nat.or_zero, Nat.zero_add]
      · intro _
        rw [zl_shr1 (by omega), zl_m1, zl_shl35, zl_or, Nat.or_comm, zp_or35 _ (by omega)]
    · rw [if_pos h, if_neg h2] at H
      refine zy_two93 hac rfl ?_ hlf hrl rfl ?_ (fun z => by omega) (fun z => by omega) H
      · rw [zl_shr1 (by omega), zl_m1, zl_shl35, zl_or, Nat.or_comm, zp_or35 _ (by omega)]
      · intro _
        rw [zl_shr1 (by omega), zl_m1, zl_shl35, zl_or, Nat.or_comm, zp_or35 _ (by omega)]
    · rw [if_neg h] at H
      refine zy_two93 hac rfl ?_ hlf hrl rfl (fun z => by omega) ?_ ?_ H
      · rw [zl_shl1, zl_m36, zl_shr35 (by omega), zl_or, zp_orB ha hb]
      · intro _ h2
        rw [if_pos h2, zl_shl1, zl_m36, show (0 : Int64) = lN 0 from rfl, zl_or, Nat.or_zero, Nat.add_zero]
      · intro _ h2
        rw [if_neg (by omega), zl_shl1, zl_m36, zl_shr35 (by omega), zl_or, zp_orB hb ha]
  by_cases h : op = 165
  · rw [if_pos h] at hrd
    rw [hrd] at K
    exact br_t (by rw [h]; rfl) K
  · rw [if_neg h] at hrd
    rw [hrd] at K
    exact br_f (by rw [show (165 : Int32) = nI 165 from rfl, nI_eq (by omega) (by omega)]; exact h) K
theorem zp_2M1 {M : Nat → Nat} {ac : Nat} {s : Nat × Nat} (hac : ac < 16) : zp_2M M ac s ac = s.1 := by
  unfold zp_2M
  rw [zp_upN (by omega), zp_upS]
theorem zp_2M2 {M : Nat → Nat} {ac : Nat} {s : Nat × Nat} : zp_2M M ac s ((ac + 1) % 16) = s.2 := zp_upS
theorem zp_2M3 {M : Nat → Nat} {ac : Nat} {s t : Nat × Nat} (hac : ac < 16) : zp_2M (zp_2M M ac s) ac t = zp_2M M ac t := by
  funext j
  unfold zp_2M zp_up
  by_cases h : j = (ac + 1) % 16
  · simp [h]
  · by_cases h2 : j = ac
    · simp only [if_neg h, if_pos h2]
    · simp only [if_neg h, if_neg h2]
theorem zp_2Mi {M : Nat → Nat} {ac : Nat} : zp_2M M ac (M ac, M ((ac + 1) % 16)) = M := by
  unfold zp_2M
  dsimp only
  rw [zp_upid, zp_upid]
theorem zp_2MW {M : Nat → Nat} {ac : Nat} {s : Nat × Nat} (hM : zp_MW M) (h : zp_W2 s) : zp_MW (zp_2M M ac s) := zp_MWu (zp_MWu hM h.1) h.2
theorem zy_sh2 {x1 : Int32} (hac : ac < 16) (hop : op < 512) (hop2 : 163 ≤ op) (hrd : rd = if op = 165 then 1 else 0) (hn : n < 256) (hx1 : (lf = 0 ∧ x1 ≤ 0) ∨ (lf = 1 ∧ ¬ x1 ≤ 0)) : ∀ t j M, zp_MW M → j + t = n →
    post (zy_G P F C (nI op) (nI ac) E Wh Dp Mo (zp_2M M ac (zp_it (zp_d2 rd lf) t (M ac, M ((ac + 1) % 16)))) g) →
    wY_shift_56 post x1 (nI n) (t + 1) (nI j) P F C g.1 g.2.1 g.2.2.1 (nI op) (nI ac) E Wh Dp Mo (zp_ME M) g.2.2.2.1 g.2.2.2.2.1 g.2.2.2.2.2 := by
  intro t
  induction t with
  | zero =>
    intro j M hM hj H
    have H' : post (zy_G P F C (nI op) (nI ac) E Wh Dp Mo (zp_2M M ac (M ac, M ((ac + 1) % 16))) g) := H
    rw [zp_2Mi] at H'
    exact pk_le n j (fun _ => H') (fun h => by omega)
  | succ t ih =>
    intro j M hM hj H
    have hW := zp_d2W rd lf (M ac, M ((ac + 1) % 16)) ⟨hM _, hM _⟩
    have ih' := ih (j + 1) (zp_2M M ac (zp_d2 rd lf (M ac, M ((ac + 1) % 16)))) (zp_2MW hM hW) (by omega)
    rw [zp_2M1 hac, zp_2M2, zp_2M3 hac] at ih'
    have ih2 := ih' H
    refine pk_le n j (fun h => by omega) (fun _ => pk_le 163 op (fun _ => ?_) (fun h => by omega))
    rcases hx1 with ⟨rfl, hx⟩ | ⟨rfl, hx⟩
    · refine br_t hx ?_
      unfold wY_shift_97
      exact zy_two (lf := 0) hac hM hop hrd (by decide) (nm_r (nI_1 j) ih2)
    · refine br_f hx ?_
      unfold wY_shift_97
      exact zy_two (lf := 1) hac hM hop hrd (by decide) (nm_r (nI_1 j) ih2)
end
end
section
/-! the first one -/
theorem zp_bt17 (x : Int32) : (x &&& 131072) = 0 ↔ bt x 17 = false := by
  have h17 : ∀ i, i < 32 → bt 131072 i = decide (i = 17) := by decide +kernel
  constructor
  · intro h
    have t := b_and x 131072 17
    rw [h, b_0, h17 17 (by decide), show decide (17 = 17) = true from rfl, Bool.and_true] at t
    exact t.symm
  · intro h
    apply b_ext
    intro i hi
    rw [b_and, b_0, h17 i hi]
    by_cases z : i = 17
    · rw [z, h]
      rfl
    · rw [decide_eq_false z, Bool.and_false]
theorem zp_btN (h i : Nat) (hi : i < 32) : bt (nI h) i = h.testBit i := by
  show (BitVec.ofNat 32 h).getLsbD i = _
  rw [BitVec.getLsbD_ofNat, decide_eq_true hi, Bool.true_and]
theorem zp_jb (h j : Nat) (hj : j < 18) : ((nI h <<< (nI j &&& 31)) &&& 131072) = 0 ↔ h.testBit (17 - j) = false := by
  rw [zp_bt17, b_shl j (by omega) _ (by decide), decide_eq_true (by omega), Bool.true_and, zp_btN _ _ (by omega)]
theorem zp_fst {w : Nat} (hw : w < 68719476736) (h0 : w ≠ 0) : ∃ z, z < 36 ∧ w.testBit (35 - z) = true ∧ ∀ j, j < z → w.testBit (35 - j) = false := by
  have he : ∃ k, k < 36 ∧ w.testBit (35 - k) = true := by
    by_cases hc : ∃ k, k < 36 ∧ w.testBit (35 - k) = true
    · exact hc
    · exfalso
      apply h0
      refine zp_ext (n := 36) (by rw [zp_e36]; exact hw) (by decide) (fun i hi => ?_)
      rw [Nat.zero_testBit]
      cases hb : w.testBit i with
      | false => rfl
      | true => exact absurd ⟨35 - i, by omega, by rw [show 35 - (35 - i) = i by omega]; exact hb⟩ hc
  obtain ⟨z, ⟨hz, hb⟩, hm⟩ := pk_least (fun k => k < 36 ∧ w.testBit (35 - k) = true) he
  refine ⟨z, hz, hb, fun j hj => ?_⟩
  cases hb2 : w.testBit (35 - j) with
  | false => rfl
  | true => exact absurd ⟨by omega, hb2⟩ (hm j hj)
section
variable {P F C A E : Int32} {p op ac e x y r m n z w : Nat} {M : Nat → Nat} {k : zx_K} {d : zx_D} {g : zy_D} {q : Int32 × Int32 × Int32} {post : SX → Prop}
theorem zx_jf109 (hac : ac < 16) (hk : zp_CV M k) (hz : z < 36) (H : ∀ k', zp_CV (zp_up M ((ac + 1) % 16) z) k' → post (zx_G P F C (nI ac) E x y r (zp_up M ((ac + 1) % 16) z) k' d)) :
    wX_jumpFirst_109 post (nI z) P F C d.1 d.2.1 d.2.2.1 d.2.2.2.1 (nI ac) E (nI (x / 262144)) (nI (x % 262144)) (nI (y / 262144)) (nI (y % 262144)) (nI (r / 262144)) (nI (r % 262144)) (zp_HI M) (zp_LO M) k.1 k.2.1 k.2.2.1 k.2.2.2.1 k.2.2.2.2 d.2.2.2.2.1 d.2.2.2.2.2.1 d.2.2.2.2.2.2.1 d.2.2.2.2.2.2.2.1 d.2.2.2.2.2.2.2.2 := by
  refine zx_write hk ((ac + 1) % 16) z (zn_nx ac) ?_ ?_ ?_
  · rw [Nat.div_eq_of_lt (by omega)]
    rfl
  · rw [Nat.mod_eq_of_lt (by omega)]
  · rw [Nat.mod_eq_of_lt (show (ac + 1) % 16 < 256 by omega)]
    exact H
theorem zx_jf97 (hac : ac < 16) (hk : zp_CV M k) (hz : z < 36) (H : ∀ k', zp_CV (zp_up M ((ac + 1) % 16) z) k' → post (zx_G (nI e) F C (nI ac) (nI e) x y r (zp_up M ((ac + 1) % 16) z) k' d)) :
    wX_jumpFirst_97 post (nI z) 1 P F C d.1 d.2.1 d.2.2.1 d.2.2.2.1 (nI ac) (nI e) (nI (x / 262144)) (nI (x % 262144)) (nI (y / 262144)) (nI (y % 262144)) (nI (r / 262144)) (nI (r % 262144)) (zp_HI M) (zp_LO M) k.1 k.2.1 k.2.2.1 k.2.2.2.1 k.2.2.2.2 d.2.2.2.2.1 d.2.2.2.2.2.1 d.2.2.2.2.2.2.1 d.2.2.2.2.2.2.2.1 d.2.2.2.2.2.2.2.2 := br_f (by decide) (zx_jf109 hac hk hz H)
theorem zx_jf71 (hac : ac < 16) (hk : zp_CV M k) (hz : z < 36) (hb : (M ac).testBit (35 - z) = true) (hm : ∀ j, j < z → (M ac).testBit (35 - j) = false)
    (H : ∀ k', zp_CV (zp_up M ((ac + 1) % 16) z) k' → post (zx_G (nI e) F C (nI ac) (nI e) x y r (zp_up M ((ac + 1) % 16) z) k' d)) : ∀ t j, 18 ≤ j → j + t = z →
    wX_jumpFirst_71 post 1 P F C d.1 d.2.1 d.2.2.1 d.2.2.2.1 (nI ac) (nI e) (nI (x / 262144)) (nI (x % 262144)) (nI (y / 262144)) (nI (y % 262144)) (nI (r / 262144)) (nI (r % 262144)) (zp_HI M) (zp_LO M) k.1 k.2.1 k.2.2.1 k.2.2.2.1 k.2.2.2.2 d.2.2.2.2.1 d.2.2.2.2.2.1 d.2.2.2.2.2.2.1 d.2.2.2.2.2.2.2.1 d.2.2.2.2.2.2.2.2 (t + 1) (nI j) := by
  have el : zp_LO M ac = nI (M ac % 262144) := rfl
  have hbit : ∀ j, 18 ≤ j → j < 36 → (((nI (M ac % 262144) <<< ((nI j - 18) &&& 31)) &&& 131072) = 0 ↔ (M ac).testBit (35 - j) = false) := by
    intro j h1 h2
    have e : nI j - 18 = nI (j - 18) := pk_sub (b := 18) h1
    rw [e, zp_jb _ _ (by omega), zp_loB, decide_eq_true (by omega), Bool.true_and, show 17 - (j - 18) = 35 - j by omega]
  intro t
  induction t with
  | zero =>
    intro j h1 h2
    have ej : j = z := by omega
    subst ej
    refine ⟨zx_iA hac, ?_⟩
    rw [zx_cA hac, el]
    exact br_f (fun c => by rw [(hbit _ h1 hz).mp c] at hb; exact absurd hb (by decide)) (zx_jf97 hac hk hz H)
  | succ t ih =>
    intro j h1 h2
    refine ⟨zx_iA hac, ?_⟩
    rw [zx_cA hac, el]
    exact br_t ((hbit j h1 (by omega)).mpr (hm j (by omega))) (nm_r (nI_1 j) (ih (j + 1) (by omega) (by omega)))
theorem zx_jf65 (hac : ac < 16) (hk : zp_CV M k) (hz : z < 36) (hb : (M ac).testBit (35 - z) = true) (hm : ∀ j, j < z → (M ac).testBit (35 - j) = false)
    (H : ∀ k', zp_CV (zp_up M ((ac + 1) % 16) z) k' → post (zx_G (nI e) F C (nI ac) (nI e) x y r (zp_up M ((ac + 1) % 16) z) k' d)) {j : Nat} (hj : j = if z < 18 then z else 18) :
    wX_jumpFirst_65 post (nI j) 1 P F C d.1 d.2.1 d.2.2.1 d.2.2.2.1 (nI ac) (nI e) (nI (x / 262144)) (nI (x % 262144)) (nI (y / 262144)) (nI (y % 262144)) (nI (r / 262144)) (nI (r % 262144)) (zp_HI M) (zp_LO M) k.1 k.2.1 k.2.2.1 k.2.2.2.1 k.2.2.2.2 d.2.2.2.2.1 d.2.2.2.2.2.1 d.2.2.2.2.2.2.1 d.2.2.2.2.2.2.2.1 d.2.2.2.2.2.2.2.2 := by
  by_cases h : z < 18
  · rw [if_pos h] at hj
    subst hj
    exact pk_eq j 18 (fun c => by omega) (fun _ => zx_jf97 hac hk hz H)
  · rw [if_neg h] at hj
    subst hj
    exact br_t rfl ⟨_, zx_jf71 hac hk hz hb hm H (z - 18) 18 (by omega) (by omega)⟩
theorem zx_jf32 (hac : ac < 16) (hk : zp_CV M k) (hz : z < 36) (hb : (M ac).testBit (35 - z) = true) (hm : ∀ j, j < z → (M ac).testBit (35 - j) = false)
    (H : ∀ k', zp_CV (zp_up M ((ac + 1) % 16) z) k' → post (zx_G (nI e) F C (nI ac) (nI e) x y r (zp_up M ((ac + 1) % 16) z) k' d)) (s : Nat) (hs : s = if z < 18 then z else 18) : ∀ t j, j + t = s →
    wX_jumpFirst_32 post 1 P F C d.1 d.2.1 d.2.2.1 d.2.2.2.1 (nI ac) (nI e) (nI (x / 262144)) (nI (x % 262144)) (nI (y / 262144)) (nI (y % 262144)) (nI (r / 262144)) (nI (r % 262144)) (zp_HI M) (zp_LO M) k.1 k.2.1 k.2.2.1 k.2.2.2.1 k.2.2.2.2 d.2.2.2.2.1 d.2.2.2.2.2.1 d.2.2.2.2.2.2.1 d.2.2.2.2.2.2.2.1 d.2.2.2.2.2.2.2.2 (t + 1) (nI j) := by
  have eh : zp_HI M ac = nI (M ac / 262144) := rfl
  have hbit : ∀ j, j < 18 → (((nI (M ac / 262144) <<< (nI j &&& 31)) &&& 131072) = 0 ↔ (M ac).testBit (35 - j) = false) := by
    intro j h1
    rw [zp_jb _ _ h1, zp_hiB, show 18 + (17 - j) = 35 - j by omega]
  have hs1 : s ≤ 18 ∧ s ≤ z ∧ (s < 18 → s = z) := by
    by_cases h : z < 18
    · rw [if_pos h] at hs; omega
    · rw [if_neg h] at hs; omega
  intro t
  induction t with
  | zero =>
    intro j h2
    have ej : j = s := by omega
    subst ej
    refine br_f (by decide) (pk_le 18 j (fun h => zx_jf65 hac hk hz hb hm H hs) (fun h => ⟨zx_iA hac, ?_⟩))
    rw [zx_cA hac, eh]
    have ez : j = z := hs1.2.2 h
    exact br_f (fun c => by rw [← ez, (hbit _ h).mp c] at hb; exact absurd hb (by decide)) (zx_jf65 hac hk hz hb hm H hs)
  | succ t ih =>
    intro j h2
    refine br_f (by decide) (pk_le 18 j (fun h => by omega) (fun h => ⟨zx_iA hac, ?_⟩))
    rw [zx_cA hac, eh]
    exact br_t ((hbit j h).mpr (hm j (by omega))) (nm_r (nI_1 j) (ih (j + 1) (by omega)))
theorem zx_jumpFirst (hac : ac < 16) (hk : zp_CV M k) (hM : zp_MW M)
    (H0 : M ac = 0 → ∀ k', zp_CV (zp_up M ((ac + 1) % 16) 0) k' → post (zx_G P F C (nI ac) (nI e) x y r (zp_up M ((ac + 1) % 16) 0) k' d))
    (H : M ac ≠ 0 → ∀ z, z < 36 → (M ac).testBit (35 - z) = true → (∀ j, j < z → (M ac).testBit (35 - j) = false) → ∀ k', zp_CV (zp_up M ((ac + 1) % 16) z) k' → post (zx_G (nI e) F C (nI ac) (nI e) x y r (zp_up M ((ac + 1) % 16) z) k' d)) :
    wpX_jumpFirst post (zx_G P F C (nI ac) (nI e) x y r M k d) := by
  have hw := hM ac
  have K : M ac ≠ 0 → ∃ n, wX_jumpFirst_32 post 1 P F C d.1 d.2.1 d.2.2.1 d.2.2.2.1 (nI ac) (nI e) (nI (x / 262144)) (nI (x % 262144)) (nI (y / 262144)) (nI (y % 262144)) (nI (r / 262144)) (nI (r % 262144)) (zp_HI M) (zp_LO M) k.1 k.2.1 k.2.2.1 k.2.2.2.1 k.2.2.2.2 d.2.2.2.2.1 d.2.2.2.2.2.1 d.2.2.2.2.2.2.1 d.2.2.2.2.2.2.2.1 d.2.2.2.2.2.2.2.2 n (nI 0) := by
    intro h0
    obtain ⟨z, hz, hb, hm⟩ := zp_fst hw h0
    exact ⟨_, zx_jf32 hac hk hz hb hm (H h0 z hz hb hm) _ rfl (if z < 18 then z else 18) 0 (by omega)⟩
  refine ⟨zx_iA hac, ?_⟩
  rw [zx_cA hac]
  refine pk_eq (M ac / 262144) 0 (fun h => ⟨zx_iA hac, pk_eq (M ac % 262144) 0 (fun h2 => ⟨1, ?_⟩) (fun h2 => K (by omega))⟩) (fun h => K (by omega))
  refine br_t rfl (br_f (by decide) (br_t rfl ?_))
  exact zx_jf109 (z := 0) hac hk (by decide) (H0 (by omega))
end
section
variable {P F C Wh Dp Mo : Int32} {p op ac e x y r m n z w : Nat} {M : Nat → Nat} {g : zy_D} {post : SY → Prop}
theorem zy_fd57 (hac : ac < 16) {v i : Nat} {x3 : Int32} {z0 : Int64} (h0 : z0 = lN v) (hi : i ≤ 36) (hx : x3 = nI i)
    (Ha : i = 36 → post (zy_G P F C (nI op) (nI ac) (nI e) Wh Dp Mo (zp_up M ((ac + 1) % 16) v) g)) (Hb : i ≠ 36 → post (zy_G (nI e) F C (nI op) (nI ac) (nI e) Wh Dp Mo (zp_up M ((ac + 1) % 16) v) g)) :
    wY_find_57 post x3 z0 ((nI ac + 1) &&& 15) P F C g.1 g.2.1 g.2.2.1 (nI op) (nI ac) (nI e) Wh Dp Mo (zp_ME M) g.2.2.2.1 g.2.2.2.2.1 g.2.2.2.2.2 := by
  subst h0 hx
  have K : vp_updL (zp_ME M) ((nI ac + 1) &&& 15).toNatClampNeg (lN v) = zp_ME (zp_up M ((ac + 1) % 16) v) := by
    rw [zn_nx, nI_clamp (by omega), zp_MEu]
  refine ⟨by rw [zn_nx]; exact vp_in_nI (by omega) (by decide), nm_r K (pk_le 36 i (fun h => ?_) (fun h => ?_))⟩
  · unfold wY_find_70
    exact zy_jump0 (Ha (by omega))
  · unfold wY_find_70
    exact zy_jump1 (Hb (by omega))
theorem zy_fd7 (hac : ac < 16) (hw : w < 68719476736) (hb : z < 36 → w.testBit (35 - z) = true) (hz : z ≤ 36) (hm : ∀ j, j < z → w.testBit (35 - j) = false)
    (Ha : z = 36 → post (zy_G P F C (nI op) (nI ac) (nI e) Wh Dp Mo (zp_up M ((ac + 1) % 16) 0) g)) (Hb : z ≠ 36 → post (zy_G (nI e) F C (nI op) (nI ac) (nI e) Wh Dp Mo (zp_up M ((ac + 1) % 16) z) g)) : ∀ t j, j + t = z →
    wY_find_7 post (lN w) P F C g.1 g.2.1 g.2.2.1 (nI op) (nI ac) (nI e) Wh Dp Mo (zp_ME M) g.2.2.2.1 g.2.2.2.2.1 g.2.2.2.2.2 (t + 1) (nI j) := by
  have hbit : ∀ j, j < 36 → ((lN w >>> (((35 : Int32) - nI j).toInt64 &&& 63)) &&& 1 = 0 ↔ w.testBit (35 - j) = false) := by
    intro j h1
    have e : (35 : Int32) - nI j = nI (35 - j) := pk_sub (a := 35) (by omega)
    rw [e, zl_shr (35 - j) (zl_cnt _ (by omega)) (by omega), zl_m1, show (0 : Int64) = lN 0 from rfl, pk_lEQ (by omega) (by decide), zp_tb, decide_eq_false_iff_not]
    omega
  have K : wY_find_32 post (nI z) P F C g.1 g.2.1 g.2.2.1 (nI op) (nI ac) (nI e) Wh Dp Mo (zp_ME M) g.2.2.2.1 g.2.2.2.2.1 g.2.2.2.2.2 := by
    refine pk_eq z 36 (fun h => ?_) (fun h => ?_)
    · exact zy_fd57 (v := 0) (i := 36) hac rfl (by decide) (by rw [h]) (fun _ => Ha h) (fun c => absurd rfl c)
    · exact zy_fd57 (v := z) (i := z) hac (nI_l (by omega)) hz rfl (fun c => absurd c h) (fun _ => Hb h)
  intro t
  induction t with
  | zero =>
    intro j h2
    have ej : j = z := by omega
    subst ej
    refine pk_le 36 j (fun h => K) (fun h => ?_)
    exact br_f (fun c => by have := hb h; rw [(hbit _ h).mp c] at this; exact absurd this (by decide)) K
  | succ t ih =>
    intro j h2
    refine pk_le 36 j (fun h => by omega) (fun h => ?_)
    exact br_t ((hbit j h).mpr (hm j (by omega))) (nm_r (nI_1 j) (ih (j + 1) (by omega)))
theorem zy_find (hac : ac < 16) (hM : zp_MW M)
    (H0 : M ac = 0 → post (zy_G P F C (nI op) (nI ac) (nI e) Wh Dp Mo (zp_up M ((ac + 1) % 16) 0) g))
    (H : M ac ≠ 0 → ∀ z, z < 36 → (M ac).testBit (35 - z) = true → (∀ j, j < z → (M ac).testBit (35 - j) = false) → post (zy_G (nI e) F C (nI op) (nI ac) (nI e) Wh Dp Mo (zp_up M ((ac + 1) % 16) z) g)) :
    wpY_find post (zy_G P F C (nI op) (nI ac) (nI e) Wh Dp Mo M g) := by
  unfold wpY_find
  refine zy_accumulator hac ?_
  by_cases h0 : M ac = 0
  · refine ⟨_, zy_fd7 (z := 36) hac (hM ac) (fun h => by omega) (by decide) (fun j _ => ?_) (fun _ => H0 h0) (fun c => absurd rfl c) 36 0 rfl⟩
    rw [h0, Nat.zero_testBit]
  · obtain ⟨z, hz, hb, hm⟩ := zp_fst (hM ac) h0
    exact ⟨_, zy_fd7 (z := z) hac (hM ac) (fun _ => hb) (by omega) hm (fun c => by omega) (fun _ => H h0 z hz hb hm) z 0 (by omega)⟩
end
end
section
/-! shifts: both -/
def zp_slf (e : Nat) : Nat := if e < 131072 then 1 else 0
def zp_sn (e : Nat) : Nat := (if e < 131072 then e else 262144 - e) % 256
theorem zp_o1_rot (lf n : Nat) (F : Int32) (w : Nat) : zp_it (zp_o1 161 lf) n (F, w) = (F, zp_it (if lf = 0 then zp_rr else zp_rl) n w) := by
  induction n with
  | zero => rfl
  | succ n ih =>
    rw [zp_itS, ih, zp_itS]
    unfold zp_o1
    rw [if_neg (by decide), if_pos rfl]
    dsimp only
    by_cases h : lf = 0
    · rw [if_pos h, if_pos h]
    · rw [if_neg h, if_neg h]
theorem zp_o1_lsh (lf n : Nat) (F : Int32) (w : Nat) : zp_it (zp_o1 162 lf) n (F, w) = (F, zp_it (if lf = 0 then zp_rs' else zp_ls) n w) := by
  induction n with
  | zero => rfl
  | succ n ih =>
    rw [zp_itS, ih, zp_itS]
    unfold zp_o1
    rw [if_neg (by decide), if_neg (by decide)]
    dsimp only
    by_cases h : lf = 0
    · rw [if_pos h, if_pos h]
    · rw [if_neg h, if_neg h]
section
variable {P F C A E : Int32} {p op ac e x y r m n lf : Nat} {M : Nat → Nat} {k : zx_K} {d : zx_D} {g : zy_D} {q : Int32 × Int32 × Int32} {post : Int32 → SX → Prop}
theorem zx_sh182 (hac : ac < 16) (hk : zp_CV M k) (hm : m < 36) {w : Nat} (hw : w < 68719476736) (H : ∀ k', zp_CV (zp_up M ac (zp_rx m w)) k' → post (-1) (zx_G P F C (nI ac) E x y (zp_rx m w) (zp_up M ac (zp_rx m w)) k' d)) :
    wX_shift_182 post (lN w) (nI m) P F C d.1 d.2.1 d.2.2.1 d.2.2.2.1 (nI ac) E (nI (x / 262144)) (nI (x % 262144)) (nI (y / 262144)) (nI (y % 262144)) (nI (r / 262144)) (nI (r % 262144)) (zp_HI M) (zp_LO M) k.1 k.2.1 k.2.2.1 k.2.2.2.1 k.2.2.2.2 d.2.2.2.2.1 d.2.2.2.2.2.1 d.2.2.2.2.2.2.1 d.2.2.2.2.2.2.2.1 d.2.2.2.2.2.2.2.2 := by
  have e1 : (36 : Int32) - nI m = nI (36 - m) := pk_sub (a := 36) (by omega)
  have e2 : zp_wd ((lN w <<< ((nI m).toInt64 &&& 63)) ||| ((lN w).toUInt64 >>> (((36 : Int32) - nI m).toInt64.toUInt64 &&& Int64.toUInt64 63)).toInt64) = zp_rx m w := by
    rw [e1, wb_shl _ (by omega), wb_shr (by omega) (by omega), zl_or, zp_wdN]
    rfl
  unfold wX_shift_182
  refine zx_result ?_
  rw [e2]
  exact zx_writeA hk hac _ rfl rfl H
theorem zx_sh228 (hac : ac < 16) (hk : zp_CV M k) {v : Nat} {z0 : Int64} (hv : zp_wd z0 = v) (H : ∀ k', zp_CV (zp_up M ac v) k' → post (-1) (zx_G P F C (nI ac) E x y v (zp_up M ac v) k' d)) :
    wX_shift_228 post z0 P F C d.1 d.2.1 d.2.2.1 d.2.2.2.1 (nI ac) E (nI (x / 262144)) (nI (x % 262144)) (nI (y / 262144)) (nI (y % 262144)) (nI (r / 262144)) (nI (r % 262144)) (zp_HI M) (zp_LO M) k.1 k.2.1 k.2.2.1 k.2.2.2.1 k.2.2.2.2 d.2.2.2.2.1 d.2.2.2.2.2.1 d.2.2.2.2.2.2.1 d.2.2.2.2.2.2.2.1 d.2.2.2.2.2.2.2.2 := by
  unfold wX_shift_228
  refine zx_result ?_
  rw [hv]
  exact zx_writeA hk hac _ rfl rfl H
theorem zx_sh60 {kd : Nat} (hkd : kd = 0 ∨ kd = 1 ∨ kd = 2) (hac : ac < 16) (hk : zp_CV M k) (hM : zp_MW M) (hn : n < 256) (hlf : lf ≤ 1) {rt z0 : Int32} (hrt : rt = nI (1 - lf)) (hz : z0 &&& 255 = nI n)
    (H : ∀ k', zp_CV (zp_up M ac (zp_it (zp_o1 (160 + kd) lf) n (F, M ac)).2) k' → post (-1) (zx_G P (zp_it (zp_o1 (160 + kd) lf) n (F, M ac)).1 C (nI ac) (nI e) x y (zp_it (zp_o1 (160 + kd) lf) n (F, M ac)).2 (zp_up M ac (zp_it (zp_o1 (160 + kd) lf) n (F, M ac)).2) k' d)) :
    wX_shift_60 post (nI kd) rt z0 P F C d.1 d.2.1 d.2.2.1 d.2.2.2.1 (nI ac) (nI e) (nI (x / 262144)) (nI (x % 262144)) (nI (y / 262144)) (nI (y % 262144)) (nI (r / 262144)) (nI (r % 262144)) (zp_HI M) (zp_LO M) k.1 k.2.1 k.2.2.1 k.2.2.2.1 k.2.2.2.2 d.2.2.2.2.1 d.2.2.2.2.2.1 d.2.2.2.2.2.2.1 d.2.2.2.2.2.2.2.1 d.2.2.2.2.2.2.2.2 := by
  have hw := hM ac
  have hw2 := hM ((ac + 1) % 16)
  have i2 : vp_in (nI ((ac + 1) % 16)) 256 := vp_in_nI (by omega) (by decide)
  have e1 : ((zp_HI M ac).toInt64 <<< ((18 : Int32).toInt64 &&& 63)) ||| (zp_LO M ac).toInt64 = lN (M ac) := zl_wordN _ (by omega)
  refine nm_r hz (nm_r (zn_nx ac) ⟨zx_iA hac, zx_iA hac, ?_⟩)
  rw [zx_cA hac]
  refine nm_r e1 ⟨i2, i2, nm_e ?_⟩
  rcases hkd with rfl | rfl | rfl
  · refine br_f (by decide) (br_f (by decide) (br_t rfl ?_))
    refine zx_arithmetic (lf := lf) hn hac hM hlf hrt ?_
    exact zx_writeA hk hac _ rfl rfl H
  · refine br_f (by decide) (br_f (by decide) (br_f (by decide) (br_t rfl ?_)))
    rw [show 160 + 1 = 161 from rfl, zp_o1_rot] at H
    dsimp only at H
    subst hrt
    have h01 : lf = 0 ∨ lf = 1 := by omega
    rcases h01 with rfl | rfl
    · rw [if_pos rfl, ← zp_rotR n _ hw] at H
      have e2 : nI n - nI n / 36 * 36 = nI (n % 36) := pk_rem (d := 36) (by omega) (by decide) (by decide)
      have e3 : (36 - (nI n - nI n / 36 * 36)) - (36 - (nI n - nI n / 36 * 36)) / 36 * 36 = nI ((36 - n % 36) % 36) := by
        rw [e2, show (36 : Int32) - nI (n % 36) = nI (36 - n % 36) from pk_sub (a := 36) (by omega)]
        exact pk_rem (d := 36) (by omega) (by decide) (by decide)
      refine br_f (by decide) ⟨by decide, by decide, ?_⟩
      rw [e3]
      exact zx_sh182 hac hk (by omega) hw H
    · rw [if_neg (by decide), ← zp_rotL n _ hw] at H
      have e2 : nI n - nI n / 36 * 36 = nI (n % 36) := pk_rem (d := 36) (by omega) (by decide) (by decide)
      refine br_t rfl ⟨by decide, ?_⟩
      rw [e2]
      exact zx_sh182 hac hk (by omega) hw H
  · refine br_f (by decide) (br_f (by decide) (br_f (by decide) (br_f (by decide) (br_t rfl ?_))))
    rw [show 160 + 2 = 162 from rfl, zp_o1_lsh] at H
    dsimp only at H
    subst hrt
    have h01 : lf = 0 ∨ lf = 1 := by omega
    rcases h01 with rfl | rfl
    · rw [if_pos rfl, zp_rsN] at H
      refine pk_le n 35 (fun h => br_f (by decide) (zx_sh228 hac hk ?_ H)) (fun h => zx_sh228 hac hk ?_ H)
      · rw [wb_shr (by omega) (by omega), zp_wdN, Nat.mod_eq_of_lt (Nat.lt_of_le_of_lt (Nat.div_le_self _ _) hw)]
      · rw [Nat.div_eq_of_lt (zp_p36 hw (by omega))]
        rfl
    · rw [if_neg (by decide), zp_lsN _ _ hw] at H
      refine pk_le n 35 (fun h => br_t rfl (zx_sh228 hac hk ?_ H)) (fun h => zx_sh228 hac hk ?_ H)
      · rw [wb_shl _ (by omega), zp_wdN]
      · obtain ⟨c, hc⟩ : ∃ c, n = 36 + c := ⟨n - 36, by omega⟩
        rw [hc, Nat.pow_add, zp_e36, Nat.mul_comm 68719476736, ← Nat.mul_assoc, Nat.mul_mod_left]
        rfl
theorem zx_sh60d {kd rd : Nat} (hkd : kd = 5 ∨ kd = 6) (hrd : rd = if kd = 5 then 1 else 0) (hac : ac < 16) (hk : zp_CV M k) (hM : zp_MW M) (hn : n < 256) (hlf : lf ≤ 1) {rt z0 : Int32} (hrt : rt = nI (1 - lf)) (hz : z0 &&& 255 = nI n)
    (H : ∀ r' k', r' < 68719476736 → zp_CV (zp_2M M ac (zp_it (zp_d2 rd lf) n (M ac, M ((ac + 1) % 16)))) k' → post (-1) (zx_G P F C (nI ac) (nI e) x y r' (zp_2M M ac (zp_it (zp_d2 rd lf) n (M ac, M ((ac + 1) % 16)))) k' d)) :
    wX_shift_60 post (nI kd) rt z0 P F C d.1 d.2.1 d.2.2.1 d.2.2.2.1 (nI ac) (nI e) (nI (x / 262144)) (nI (x % 262144)) (nI (y / 262144)) (nI (y % 262144)) (nI (r / 262144)) (nI (r % 262144)) (zp_HI M) (zp_LO M) k.1 k.2.1 k.2.2.1 k.2.2.2.1 k.2.2.2.2 d.2.2.2.2.1 d.2.2.2.2.2.1 d.2.2.2.2.2.2.1 d.2.2.2.2.2.2.2.1 d.2.2.2.2.2.2.2.2 := by
  have hw := hM ac
  have hw2 := hM ((ac + 1) % 16)
  have i2 : vp_in (nI ((ac + 1) % 16)) 256 := vp_in_nI (by omega) (by decide)
  have e1 : ((zp_HI M ac).toInt64 <<< ((18 : Int32).toInt64 &&& 63)) ||| (zp_LO M ac).toInt64 = lN (M ac) := zl_wordN _ (by omega)
  have e2 : ((zp_HI M ((ac + 1) % 16)).toInt64 <<< ((18 : Int32).toInt64 &&& 63)) ||| (zp_LO M ((ac + 1) % 16)).toInt64 = lN (M ((ac + 1) % 16)) := zl_wordN _ (by omega)
  refine nm_r hz (nm_r (zn_nx ac) ⟨zx_iA hac, zx_iA hac, ?_⟩)
  rw [zx_cA hac]
  refine nm_r e1 ⟨i2, i2, ?_⟩
  rw [nI_clamp (n := (ac + 1) % 16) (by omega)]
  refine nm_r e2 ?_
  have hrl : rd ≤ 1 := by rw [hrd]; split <;> decide
  rcases hkd with rfl | rfl
  · refine br_f (by decide) (br_t (by decide) (br_t rfl ?_))
    rw [if_pos rfl] at hrd
    unfold wX_shift_251
    exact zx_double72 (rd := rd) (lf := lf) hac hk hM hn hrl hlf hrt (by rw [hrd]; rfl) H
  · refine br_f (by decide) (br_t (by decide) (br_f (by decide) ?_))
    rw [if_neg (by decide)] at hrd
    unfold wX_shift_251
    exact zx_double72 (rd := rd) (lf := lf) hac hk hM hn hrl hlf hrt (by rw [hrd]; rfl) H
theorem zx_sh41 (he : e < 262144) {kd : Nat} (hkd : kd ≠ 4 ∧ kd ≠ 7 ∧ kd ≠ 3) (hk8 : kd < 8)
    (H : ∀ rt z0 : Int32, rt = nI (1 - zp_slf e) → z0 &&& 255 = nI (zp_sn e) → wX_shift_60 post (nI kd) rt z0 P F C d.1 d.2.1 d.2.2.1 d.2.2.2.1 (nI ac) (nI e) (nI (x / 262144)) (nI (x % 262144)) (nI (y / 262144)) (nI (y % 262144)) (nI (r / 262144)) (nI (r % 262144)) (zp_HI M) (zp_LO M) k.1 k.2.1 k.2.2.1 k.2.2.2.1 k.2.2.2.2 d.2.2.2.2.1 d.2.2.2.2.2.1 d.2.2.2.2.2.2.1 d.2.2.2.2.2.2.2.1 d.2.2.2.2.2.2.2.2) :
    wpX_shift post (zx_G P F C (nI ac) (nI e) x y r M k d) (nI kd) := by
  unfold zp_slf zp_sn at H
  refine pk_eq kd 4 (fun h => by omega) (fun _ => pk_eq kd 7 (fun h => by omega) (fun _ => pk_eq kd 3 (fun h => by omega) (fun _ => pk_lt e 131072 (fun h => br_t rfl (H 0 _ ?_ ?_)) (fun h => br_f (by decide) (H 1 _ ?_ ?_)))))
  · rw [if_pos h]; rfl
  · rw [if_pos h]; exact zn_m8 e
  · rw [if_neg (by omega)]; rfl
  · rw [if_neg (by omega), show (262144 : Int32) - nI e = nI (262144 - e) from pk_sub (a := 262144) (by omega)]
    exact zn_m8 _
end
section
variable {P F C Wh Dp Mo : Int32} {p op ac e x y r m n lf rd : Nat} {M : Nat → Nat} {k : zx_K} {d : zx_D} {g : zy_D} {q : Int32 × Int32 × Int32} {post : SY → Prop}
theorem zy_sh38 (he : e < 262144) (hop : op < 512) (h3 : op ≠ 163)
    (H : ∀ (lf : Nat) (x1 : Int32), lf ≤ 1 → (zp_sn e = 0 ∨ lf = zp_slf e) → ((lf = 0 ∧ x1 ≤ 0) ∨ (lf = 1 ∧ ¬ x1 ≤ 0)) → ∃ n, wY_shift_56 post x1 (nI (zp_sn e)) n (nI 0) P F C g.1 g.2.1 g.2.2.1 (nI op) (nI ac) (nI e) Wh Dp Mo (zp_ME M) g.2.2.2.1 g.2.2.2.2.1 g.2.2.2.2.2) :
    wpY_shift post (zy_G P F C (nI op) (nI ac) (nI e) Wh Dp Mo M g) := by
  unfold zp_slf zp_sn at H
  refine pk_eq op 163 (fun h => absurd h h3) (fun _ => pk_le e 131071 (fun h => ?_) (fun h => ?_))
  · rw [if_pos (by omega), if_pos (by omega)] at H
    refine br_t (nI_pos' (by omega)) (nm_r (zn_m8 e) ?_)
    by_cases h0 : e = 0
    · subst h0
      exact H 0 (nI 0) (by decide) (Or.inl rfl) (Or.inl ⟨rfl, by decide⟩)
    · exact H 1 (nI e) (by decide) (Or.inr rfl) (Or.inr ⟨rfl, nI_nle (by omega) (by omega)⟩)
  · rw [if_neg (by omega), if_neg (by omega)] at H
    have ht : (nI e - 262144).toInt = (e : Int) - 262144 := pk_sub_toInt (b := 262144) (by omega) (by decide)
    have e0 : (0 : Int32).toInt = 0 := by decide
    have hneg : ¬ 0 ≤ nI e - 262144 := by rw [Int32.le_iff_toInt_le, ht, e0]; omega
    have hle : nI e - 262144 ≤ 0 := by rw [Int32.le_iff_toInt_le, ht, e0]; omega
    have en : -(nI e - 262144) = nI (262144 - e) := by
      apply Int32.toInt_inj.mp
      rw [Int32.toInt_neg, ht, nI_toInt (by omega)]
      exact (Int.bmod_eq_of_le (by omega) (by omega)).trans (by omega)
    refine br_f hneg (nm_r (e' := nI ((262144 - e) % 256)) (by rw [en, zn_m8]) ?_)
    exact H 0 _ (by decide) (Or.inr rfl) (Or.inl ⟨rfl, hle⟩)
theorem zp_sn_lt (e : Nat) : zp_sn e < 256 := Nat.mod_lt _ (by decide)
theorem zp_slf_le (e : Nat) : zp_slf e ≤ 1 := by
  unfold zp_slf
  split <;> decide
theorem zo_shift1 (c : zo_ctx p F op ac e M) (ho : op = 160 ∨ op = 161 ∨ op = 162) :
    zo_good M (fun x y r k post => wpX_shift post (zx_S p F C ac e x y r M k d) (nI (op - 160))) (fun post => wpY_shift post (zy_S p F C op ac e q M g)) C op ac e q d g := by
  obtain ⟨hp, hF, hop, hac, he, hM⟩ := c
  have hs : (zp_it (zp_o1 op (zp_slf e)) (zp_sn e) (F, M ac)).2 < 68719476736 := zp_itI (zp_o1 op (zp_slf e)) (fun s => s.2 < 68719476736) (fun a h => zp_o1_lt h) _ _ (hM ac)
  have hf : zp_FL (zp_it (zp_o1 op (zp_slf e)) (zp_sn e) (F, M ac)).1 := zp_itI (zp_o1 op (zp_slf e)) (fun s => zp_FL s.1) (fun a h => zp_o1_FL h) _ _ hF
  refine ⟨p, (zp_it (zp_o1 op (zp_slf e)) (zp_sn e) (F, M ac)).1, zp_up M ac (zp_it (zp_o1 op (zp_slf e)) (zp_sn e) (F, M ac)).2, hp, hf, zp_MWu hM hs, ?_, ?_⟩
  · intro x y r k hx hy hr hk post H
    refine zx_sh41 he (by omega) (by omega) (fun rt z0 hrt hz => ?_)
    refine zx_sh60 (lf := zp_slf e) (by omega) hac hk hM (zp_sn_lt e) (zp_slf_le e) hrt hz ?_
    rw [show 160 + (op - 160) = op by omega]
    exact fun k' hk' => H _ _ _ k' hx hy hs hk'
  · intro post H
    refine zy_sh38 he hop (by omega) (fun lf x1 hl h1 h2 => ⟨_, zy_sh1 (lf := lf) hac ho (zp_sn_lt e) h2 (zp_sn e) 0 F M hM (by omega) ?_⟩)
    rcases h1 with h1 | h1
    · have H' : post (zy_G (nI p) (zp_it (zp_o1 op (zp_slf e)) (zp_sn e) (F, M ac)).1 C (nI op) (nI ac) (nI e) q.1 q.2.1 q.2.2 (zp_up M ac (zp_it (zp_o1 op (zp_slf e)) (zp_sn e) (F, M ac)).2) g) := H
      rw [h1] at H' ⊢
      exact H'
    · rw [h1]
      exact H
theorem zo_shift2 (c : zo_ctx p F op ac e M) (ho : op = 165 ∨ op = 166) :
    zo_good M (fun x y r k post => wpX_shift post (zx_S p F C ac e x y r M k d) (nI (op - 160))) (fun post => wpY_shift post (zy_S p F C op ac e q M g)) C op ac e q d g := by
  obtain ⟨hp, hF, hop, hac, he, hM⟩ := c
  obtain ⟨rd, hrd⟩ : ∃ rd, rd = if op = 165 then 1 else 0 := ⟨_, rfl⟩
  have hrd2 : rd = if op - 160 = 5 then 1 else 0 := by
    rcases ho with rfl | rfl
    · exact hrd
    · exact hrd
  have hW := zp_itW rd (zp_slf e) (zp_sn e) (M ac, M ((ac + 1) % 16)) ⟨hM _, hM _⟩
  refine ⟨p, F, zp_2M M ac (zp_it (zp_d2 rd (zp_slf e)) (zp_sn e) (M ac, M ((ac + 1) % 16))), hp, hF, zp_2MW hM hW, ?_, ?_⟩
  · intro x y r k hx hy hr hk post H
    refine zx_sh41 he (by omega) (by omega) (fun rt z0 hrt hz => ?_)
    exact zx_sh60d (lf := zp_slf e) (by omega) hrd2 hac hk hM (zp_sn_lt e) (zp_slf_le e) hrt hz (fun r' k' hr' hk' => H _ _ _ k' hx hy hr' hk')
  · intro post H
    refine zy_sh38 he hop (by omega) (fun lf x1 hl h1 h2 => ⟨_, zy_sh2 (lf := lf) hac hop (by omega) hrd (zp_sn_lt e) h2 (zp_sn e) 0 M hM (by omega) ?_⟩)
    rcases h1 with h1 | h1
    · have H' : post (zy_G (nI p) F C (nI op) (nI ac) (nI e) q.1 q.2.1 q.2.2 (zp_2M M ac (zp_it (zp_d2 rd (zp_slf e)) (zp_sn e) (M ac, M ((ac + 1) % 16)))) g) := H
      rw [h1] at H' ⊢
      exact H'
    · rw [h1]
      exact H
theorem zo_jff (c : zo_ctx p F op ac e M) (ho : op = 163) :
    zo_good M (fun x y r k post => wpX_shift post (zx_S p F C ac e x y r M k d) (nI (op - 160))) (fun post => wpY_shift post (zy_S p F C op ac e q M g)) C op ac e q d g := by
  obtain ⟨hp, hF, hop, hac, he, hM⟩ := c
  subst ho
  by_cases h0 : M ac = 0
  · refine ⟨p, F, zp_up M ((ac + 1) % 16) 0, hp, hF, zp_MWu hM (by decide), ?_, ?_⟩
    · intro x y r k hx hy hr hk post H
      exact br_f (by decide) (br_f (by decide) (br_t rfl (zx_jumpFirst hac hk hM (fun _ k' hk' => H _ _ _ k' hx hy hr hk') (fun z => absurd h0 z))))
    · intro post H
      exact br_t rfl (zy_find (op := 163) hac hM (fun _ => H) (fun z => absurd h0 z))
  · obtain ⟨z, hz, hb, hm⟩ := zp_fst (hM ac) h0
    have uq : ∀ z', z' < 36 → (M ac).testBit (35 - z') = true → (∀ j, j < z' → (M ac).testBit (35 - j) = false) → z' = z := by
      intro z' h1 h2 h3
      rcases Nat.lt_trichotomy z' z with h | h | h
      · rw [hm z' h] at h2; exact absurd h2 (by decide)
      · exact h
      · rw [h3 z h] at hb; exact absurd hb (by decide)
    refine ⟨e, F, zp_up M ((ac + 1) % 16) z, he, hF, zp_MWu hM (by omega), ?_, ?_⟩
    · intro x y r k hx hy hr hk post H
      refine br_f (by decide) (br_f (by decide) (br_t rfl (zx_jumpFirst hac hk hM (fun z => absurd z h0) (fun _ z' h1 h2 h3 k' hk' => ?_))))
      have ez := uq z' h1 h2 h3
      subst ez
      exact H _ _ _ k' hx hy hr hk'
    · intro post H
      refine br_t rfl (zy_find (op := 163) hac hM (fun z => absurd z h0) (fun _ z' h1 h2 h3 => ?_))
      have ez := uq z' h1 h2 h3
      subst ez
      exact H
end
end
section
/-! exchange, blocks, halves that grow, jumps -/
def zp_gw (w b : Nat) : Nat := (w / 262144 + b) % 262144 * 262144 + (w % 262144 + b) % 262144
theorem zp_gw_lt (w b : Nat) : zp_gw w b < 68719476736 := by unfold zp_gw; omega
theorem zp_gwH (w b : Nat) : zp_gw w b / 262144 = (w / 262144 + b) % 262144 := by unfold zp_gw; omega
theorem zp_gwL (w b : Nat) : zp_gw w b % 262144 = (w % 262144 + b) % 262144 := by unfold zp_gw; omega
section
variable {P F C A E : Int32} {p op ac e x y r m n b : Nat} {M : Nat → Nat} {k : zx_K} {d : zx_D} {g : zy_D} {q : Int32 × Int32 × Int32}
theorem zx_grow {post : SX → Prop} (hac : ac < 16) (hk : zp_CV M k) {b' : Int32} (hb : b' = nI b)
    (H : ∀ k', zp_CV (zp_up M ac (zp_gw (M ac) b)) k' → post (zx_G P F C (nI ac) E x y r (zp_up M ac (zp_gw (M ac) b)) k' d)) : wpX_grow post (zx_G P F C (nI ac) E x y r M k d) b' := by
  subst hb
  refine ⟨zx_iA hac, zx_iA hac, ?_⟩
  rw [zx_cA hac]
  refine zx_writeA hk hac (zp_gw (M ac) b) ?_ ?_ H
  · show (nI (M ac / 262144) + nI b) &&& 262143 = _
    rw [nI_add, zn_m18, zp_gwH]
  · show (nI (M ac % 262144) + nI b) &&& 262143 = _
    rw [nI_add, zn_m18, zp_gwL]
theorem zl_pair {a c : Nat} : ((lN a &&& 262143) <<< ((18 : Int32).toInt64 &&& 63)) ||| (lN c &&& 262143) = lN (a % 262144 * 262144 + c % 262144) := by
  rw [zl_m18, zl_m18, zl_shl18, zl_or, zp_or18 _ (by omega)]
theorem zy_both {post : Int64 → Prop} {w : Nat} (hw : w < 68719476736) {b' : Int32} (hb : (b' = 1 ∧ b = 1) ∨ (b' = -1 ∧ b = 4294967295)) (H : post (lN (zp_gw w b))) : wpY_both post (lN w) b' := by
  refine nm_r (zl_shr18 (by omega)) (nm_r (zl_m18 w) ?_)
  have e : ∀ a : Nat, ∃ c : Nat, lN a + b'.toInt64 = lN c ∧ c % 262144 = (a + b) % 262144 := by
    intro a
    rcases hb with ⟨rfl, rfl⟩ | ⟨rfl, rfl⟩
    · exact ⟨a + 1, lN_1 a, rfl⟩
    · refine ⟨a + 18446744073709551615, ?_, by omega⟩
      rw [show ((-1 : Int32).toInt64) = lN 18446744073709551615 from by decide, lN_add]
  obtain ⟨c1, h1, h2⟩ := e (w / 262144)
  obtain ⟨c2, h3, h4⟩ := e (w % 262144)
  unfold wpY_pair
  rw [h1, h3, zl_pair, h2, h4]
  exact H
theorem zo_exch (c : zo_ctx p F op ac e M) (ho : op = 168) :
    zo_good M (fun x y r k post => wpX_special post (zx_S p F C ac e x y r M k d) (nI (op - 168))) (fun post => wpY_others post (zy_S p F C op ac e q M g)) C op ac e q d g := by
  obtain ⟨hp, hF, hop, hac, he, hM⟩ := c
  subst ho
  refine ⟨p, F, zp_up (zp_up M (e % 256) (M ac)) ac (M (e % 256)), hp, hF, zp_MWu (zp_MWu hM (hM _)) (hM _), ?_, ?_⟩
  · intro x y r k hx hy hr hk post H
    refine br_f (by decide) (br_f (by decide) (br_t rfl ?_))
    refine zx_operands (m := 0) hac he (by decide) ?_
    exact zx_write hk e (M ac) rfl rfl rfl (fun k1 hk1 => zx_writeA hk1 hac (M (e % 256)) rfl rfl (fun k' hk' => H _ _ _ k' (hM _) (hM _) hr hk'))
  · intro post H
    unfold wpY_others
    refine zy_accumulator hac ?_
    refine br_f (by decide) (br_f (by decide) (br_t rfl ?_))
    refine zy_there ?_
    exact ⟨zn_i8 e, nm_r zy_updE ⟨zx_iA hac, nm_r (zy_updA hac) H⟩⟩
/-- a block's moves, from move i on, n of them at most -/
def zp_bl (f t e : Nat) : Nat → Nat → (Nat → Nat) → (Nat → Nat)
  | 0, _, M => M
  | n + 1, i, M => if e < t + i + 1 then zp_up M ((t + i) % 256) (M ((f + i) % 256)) else if i + 1 < 256 then zp_bl f t e n (i + 1) (zp_up M ((t + i) % 256) (M ((f + i) % 256))) else zp_up M ((t + i) % 256) (M ((f + i) % 256))
theorem zp_blW {f t e : Nat} : ∀ n i M, zp_MW M → zp_MW (zp_bl f t e n i M) := by
  intro n
  induction n with
  | zero => exact fun i M h => h
  | succ n ih =>
    intro i M h
    have h1 : zp_MW (zp_up M ((t + i) % 256) (M ((f + i) % 256))) := zp_MWu h (h _)
    show zp_MW (if e < t + i + 1 then _ else if i + 1 < 256 then zp_bl f t e n (i + 1) _ else _)
    split
    · exact h1
    · split
      · exact ih _ _ h1
      · exact h1
theorem zx_bl22 {post : SX → Prop} {f t : Nat} (hf : f < 262144) (ht : t < 262144) (he : e < 262144) : ∀ n i M k, i + n + 1 = 256 → zp_CV M k →
    (∀ k', zp_CV (zp_bl f t e (n + 1) i M) k' → post (zx_G P F C A (nI e) x y r (zp_bl f t e (n + 1) i M) k' d)) → wX_block_22 post (n + 1) (nI (f + i)) (nI (t + i)) (nI i) P F C d.1 d.2.1 d.2.2.1 d.2.2.2.1 A (nI e) (nI (x / 262144)) (nI (x % 262144)) (nI (y / 262144)) (nI (y % 262144)) (nI (r / 262144)) (nI (r % 262144)) (zp_HI M) (zp_LO M) k.1 k.2.1 k.2.2.1 k.2.2.2.1 k.2.2.2.2 d.2.2.2.2.1 d.2.2.2.2.2.1 d.2.2.2.2.2.2.1 d.2.2.2.2.2.2.2.1 d.2.2.2.2.2.2.2.2 := by
  intro n
  induction n with
  | zero =>
    intro i M k hi hk H
    have H' : ∀ k', zp_CV (if e < t + i + 1 then zp_up M ((t + i) % 256) (M ((f + i) % 256)) else if i + 1 < 256 then zp_bl f t e 0 (i + 1) (zp_up M ((t + i) % 256) (M ((f + i) % 256))) else zp_up M ((t + i) % 256) (M ((f + i) % 256))) k' → post (zx_G P F C A (nI e) x y r (if e < t + i + 1 then zp_up M ((t + i) % 256) (M ((f + i) % 256)) else if i + 1 < 256 then zp_bl f t e 0 (i + 1) (zp_up M ((t + i) % 256) (M ((f + i) % 256))) else zp_up M ((t + i) % 256) (M ((f + i) % 256))) k' d) := H
    refine ⟨zn_i8 _, zn_i8 _, ?_⟩
    rw [zn_c8]
    refine zx_write hk (t + i) (M ((f + i) % 256)) rfl rfl rfl (fun k1 hk1 => ?_)
    refine nm_r (nI_1 _) (nm_r (nI_1 _) (nm_r (nI_1 _) (pk_lt e (t + i + 1) (fun h => ?_) (fun h => pk_lt (i + 1) 256 (fun h2 => by omega) (fun h2 => ?_)))))
    · rw [if_pos h] at H'
      exact H' k1 hk1
    · rw [if_neg (by omega), if_neg (by omega)] at H'
      exact H' k1 hk1
  | succ n ih =>
    intro i M k hi hk H
    have H' : ∀ k', zp_CV (if e < t + i + 1 then zp_up M ((t + i) % 256) (M ((f + i) % 256)) else if i + 1 < 256 then zp_bl f t e (n + 1) (i + 1) (zp_up M ((t + i) % 256) (M ((f + i) % 256))) else zp_up M ((t + i) % 256) (M ((f + i) % 256))) k' → post (zx_G P F C A (nI e) x y r (if e < t + i + 1 then zp_up M ((t + i) % 256) (M ((f + i) % 256)) else if i + 1 < 256 then zp_bl f t e (n + 1) (i + 1) (zp_up M ((t + i) % 256) (M ((f + i) % 256))) else zp_up M ((t + i) % 256) (M ((f + i) % 256))) k' d) := H
    refine ⟨zn_i8 _, zn_i8 _, ?_⟩
    rw [zn_c8]
    refine zx_write hk (t + i) (M ((f + i) % 256)) rfl rfl rfl (fun k1 hk1 => ?_)
    refine nm_r (nI_1 _) (nm_r (nI_1 _) (nm_r (nI_1 _) (pk_lt e (t + i + 1) (fun h => ?_) (fun h => pk_lt (i + 1) 256 (fun h2 => ?_) (fun h2 => ?_)))))
    · rw [if_pos h] at H'
      exact H' k1 hk1
    · rw [if_neg (by omega), if_pos h2] at H'
      exact ih (i + 1) _ k1 (by omega) hk1 H'
    · rw [if_neg (by omega), if_neg (by omega)] at H'
      exact H' k1 hk1
theorem zy_bl20 {post : SY → Prop} {f t : Nat} {O Wh Dp Mo : Int32} (hf : f < 262144) (ht : t < 262144) (he : e < 262144) : ∀ n i M, i + n + 1 = 256 → post (zy_G P F C O A (nI e) Wh Dp Mo (zp_bl f t e (n + 1) i M) g) →
    wY_blocks_20 post (nI f) (nI t) P F C g.1 g.2.1 g.2.2.1 O A (nI e) Wh Dp Mo (n + 2) 1 (nI i) (zp_ME M) g.2.2.2.1 g.2.2.2.2.1 g.2.2.2.2.2 := by
  intro n
  have step : ∀ (J : Int32 → Int32 → (Nat → Int64) → (Nat → Int64) → (Nat → Int64) → (Nat → Int32) → Prop) (i : Nat) (M : Nat → Nat), i < 256 →
      (e < t + i + 1 → J 0 (nI (i + 1)) (zp_ME (zp_up M ((t + i) % 256) (M ((f + i) % 256)))) g.2.2.2.1 g.2.2.2.2.1 g.2.2.2.2.2) →
      (¬ e < t + i + 1 → J 1 (nI (i + 1)) (zp_ME (zp_up M ((t + i) % 256) (M ((f + i) % 256)))) g.2.2.2.1 g.2.2.2.2.1 g.2.2.2.2.2) →
      (vp_in ((nI f + nI i) &&& 255) 256 ∧ (vp_in ((nI t + nI i) &&& 255) 256 ∧ ∀ a : Nat → Int64, a = vp_updL (zp_ME M) ((nI t + nI i) &&& 255).toNatClampNeg (zp_ME M ((nI f + nI i) &&& 255).toNatClampNeg) → ((nI e < nI t + nI i + 1 → ∀ c : Int32, c = nI i + 1 → J 0 c a g.2.2.2.1 g.2.2.2.2.1 g.2.2.2.2.2) ∧ (¬ nI e < nI t + nI i + 1 → ∀ c : Int32, c = nI i + 1 → J 1 c a g.2.2.2.1 g.2.2.2.2.1 g.2.2.2.2.2)))) := by
    intro J i M hi h1 h2
    rw [nI_add, nI_add]
    refine ⟨zn_i8 _, zn_i8 _, ?_⟩
    rw [zn_c8, zn_c8, nI_1]
    exact nm_r zp_MEu (pk_lt e (t + i + 1) (fun h => nm_r (nI_1 i) (h1 h)) (fun h => nm_r (nI_1 i) (h2 (by omega))))
  induction n with
  | zero =>
    intro i M hi H
    have H' : post (zy_G P F C O A (nI e) Wh Dp Mo (if e < t + i + 1 then zp_up M ((t + i) % 256) (M ((f + i) % 256)) else if i + 1 < 256 then zp_bl f t e 0 (i + 1) (zp_up M ((t + i) % 256) (M ((f + i) % 256))) else zp_up M ((t + i) % 256) (M ((f + i) % 256))) g) := H
    refine pk_le 256 i (fun h => by omega) (fun _ => br_f (by decide) ?_)
    refine step (wY_blocks_20 post (nI f) (nI t) P F C g.1 g.2.1 g.2.2.1 O A (nI e) Wh Dp Mo 1) i M (by omega) (fun h => ?_) (fun h => ?_)
    · rw [if_pos h] at H'
      exact pk_le 256 (i + 1) (fun _ => H') (fun h2 => by omega)
    · rw [if_neg h, if_neg (by omega)] at H'
      exact pk_le 256 (i + 1) (fun _ => H') (fun h2 => by omega)
  | succ n ih =>
    intro i M hi H
    have H' : post (zy_G P F C O A (nI e) Wh Dp Mo (if e < t + i + 1 then zp_up M ((t + i) % 256) (M ((f + i) % 256)) else if i + 1 < 256 then zp_bl f t e (n + 1) (i + 1) (zp_up M ((t + i) % 256) (M ((f + i) % 256))) else zp_up M ((t + i) % 256) (M ((f + i) % 256))) g) := H
    refine pk_le 256 i (fun h => by omega) (fun _ => br_f (by decide) ?_)
    refine step (wY_blocks_20 post (nI f) (nI t) P F C g.1 g.2.1 g.2.2.1 O A (nI e) Wh Dp Mo (n + 2)) i M (by omega) (fun h => ?_) (fun h => ?_)
    · rw [if_pos h] at H'
      exact pk_le 256 (i + 1) (fun _ => H') (fun h2 => br_t rfl H')
    · rw [if_neg h, if_pos (by omega)] at H'
      exact ih (i + 1) _ (by omega) H'
theorem zo_block (c : zo_ctx p F op ac e M) (ho : op = 169) :
    zo_good M (fun x y r k post => wpX_special post (zx_S p F C ac e x y r M k d) (nI (op - 168))) (fun post => wpY_others post (zy_S p F C op ac e q M g)) C op ac e q d g := by
  obtain ⟨hp, hF, hop, hac, he, hM⟩ := c
  subst ho
  have hw := hM ac
  refine ⟨p, F, zp_bl (M ac / 262144) (M ac % 262144) e 256 0 M, hp, hF, zp_blW _ _ _ hM, ?_, ?_⟩
  · intro x y r k hx hy hr hk post H
    refine br_f (by decide) (br_f (by decide) (br_f (by decide) (br_t rfl ?_)))
    refine ⟨zx_iA hac, ?_⟩
    rw [zx_cA hac]
    exact nm_e ⟨zx_iA hac, nm_e ⟨256, zx_bl22 (f := M ac / 262144) (t := M ac % 262144) (by omega) (by omega) he 255 0 M k rfl hk (fun k' hk' => H _ _ _ k' hx hy hr hk')⟩⟩
  · intro post H
    unfold wpY_others
    refine zy_accumulator hac ?_
    refine br_f (by decide) (br_f (by decide) (br_f (by decide) (br_t rfl ?_)))
    refine nm_r (e' := nI (M ac / 262144)) (by rw [zl_shr18 (by omega), lN_i]) (nm_r (e' := nI (M ac % 262144)) (by rw [zl_m18, lN_i]) ?_)
    exact ⟨257, zy_bl20 (f := M ac / 262144) (t := M ac % 262144) (O := 169) (by omega) (by omega) he 255 0 M rfl H⟩
theorem zo_aobj (c : zo_ctx p F op ac e M) (ho : op = 170 ∨ op = 171) :
    zo_good M (fun x y r k post => wpX_special post (zx_S p F C ac e x y r M k d) (nI (op - 168))) (fun post => wpY_others post (zy_S p F C op ac e q M g)) C op ac e q d g := by
  obtain ⟨hp, hF, hop, hac, he, hM⟩ := c
  have hg := zp_gw_lt (M ac) 1
  have hlt : ∀ v, v < 68719476736 → ((lN v < 34359738368) ↔ v < 34359738368) := fun v hv => pk_lLT (b := 34359738368) (by omega) (by decide)
  refine ⟨if (34359738368 ≤ zp_gw (M ac) 1 ↔ op = 171) then e else p, F, zp_up M ac (zp_gw (M ac) 1), ?_, hF, zp_MWu hM hg, ?_, ?_⟩
  · split
    · exact he
    · exact hp
  · intro x y r k hx hy hr hk post H
    have K : ∀ kd, op - 168 = kd → wX_special_91 post (nI kd) (nI p) F C d.1 d.2.1 d.2.2.1 d.2.2.2.1 (nI ac) (nI e) (nI (x / 262144)) (nI (x % 262144)) (nI (y / 262144)) (nI (y % 262144)) (nI (r / 262144)) (nI (r % 262144)) (zp_HI M) (zp_LO M) k.1 k.2.1 k.2.2.1 k.2.2.2.1 k.2.2.2.2 d.2.2.2.2.1 d.2.2.2.2.2.1 d.2.2.2.2.2.2.1 d.2.2.2.2.2.2.2.1 d.2.2.2.2.2.2.2.2 := by
      intro kd hkd
      unfold wX_special_91
      refine zx_grow (b := 1) hac hk rfl (fun k1 hk1 => ⟨zx_iA hac, ?_⟩)
      rw [zx_cA hac]
      have eh : zp_HI (zp_up M ac (zp_gw (M ac) 1)) ac = nI (zp_gw (M ac) 1 / 262144) := by
        show nI (zp_up M ac (zp_gw (M ac) 1) ac / 262144) = _
        rw [zp_upS]
      rw [eh]
      have H1 := H _ _ _ k1 hx hy hr hk1
      refine pk_lt (zp_gw (M ac) 1 / 262144) 131072 (fun h => pk_eq kd 3 (fun h3 => ?_) (fun h3 => ?_)) (fun h => pk_eq kd 3 (fun h3 => ?_) (fun h3 => ?_))
      · rw [if_neg (by omega)] at H1
        exact br_f (by decide) H1
      · rw [if_pos (by omega)] at H1
        exact br_t rfl H1
      · rw [if_pos (by omega)] at H1
        exact br_t rfl H1
      · rw [if_neg (by omega)] at H1
        exact br_f (by decide) H1
    rcases ho with rfl | rfl
    · exact br_f (by decide) (br_f (by decide) (br_f (by decide) (br_f (by decide) (br_t rfl (K 2 rfl)))))
    · exact br_f (by decide) (br_f (by decide) (br_f (by decide) (br_f (by decide) (br_f (by decide) (br_t rfl (K 3 rfl))))))
  · intro post H
    have K : wY_others_88 post (lN (M ac)) (nI p) F C g.1 g.2.1 g.2.2.1 (nI op) (nI ac) (nI e) q.1 q.2.1 q.2.2 (zp_ME M) g.2.2.2.1 g.2.2.2.2.1 g.2.2.2.2.2 := by
      unfold wY_others_88
      refine zy_both (b := 1) (hM ac) (Or.inl ⟨rfl, rfl⟩) ⟨zx_iA hac, nm_r (zy_updA hac) ?_⟩
      by_cases h : zp_gw (M ac) 1 < 34359738368
      · refine br_t ((hlt _ hg).mpr h) (pk_eq op 171 (fun h3 => ?_) (fun h3 => ?_))
        · rw [if_neg (by omega)] at H
          exact br_f (by decide) (by unfold wY_others_144; exact zy_jump0 H)
        · rw [if_pos (by omega)] at H
          exact br_t rfl (by unfold wY_others_144; exact zy_jump1 H)
      · refine br_f (fun z => h ((hlt _ hg).mp z)) (pk_eq op 171 (fun h3 => ?_) (fun h3 => ?_))
        · rw [if_pos (by omega)] at H
          exact br_t rfl (by unfold wY_others_144; exact zy_jump1 H)
        · rw [if_neg (by omega)] at H
          exact br_f (by decide) (by unfold wY_others_144; exact zy_jump0 H)
    unfold wpY_others
    refine zy_accumulator hac ?_
    rcases ho with rfl | rfl
    · exact br_f (by decide) (br_f (by decide) (br_f (by decide) (br_f (by decide) (br_t rfl K))))
    · exact br_f (by decide) (br_f (by decide) (br_f (by decide) (br_f (by decide) (br_f (by decide) (br_t rfl K)))))
theorem zp_FLand {F : Int32} (h : zp_FL F) (v : Int32) : zp_FL (F &&& v) := by
  obtain ⟨n, hn, rfl⟩ := h
  obtain ⟨m, hm, rfl⟩ := wb_of32 v
  rw [nx_and]
  exact ⟨n &&& m, Nat.lt_of_le_of_lt Nat.and_le_left hn, rfl⟩
theorem zo_jfcl (c : zo_ctx p F op ac e M) (ho : op = 173) :
    zo_good M (fun x y r k post => wpX_special post (zx_S p F C ac e x y r M k d) (nI (op - 168))) (fun post => wpY_others post (zy_S p F C op ac e q M g)) C op ac e q d g := by
  obtain ⟨hp, hF, hop, hac, he, hM⟩ := c
  subst ho
  by_cases h : F &&& nI ac = 0
  · refine ⟨p, F &&& (nI ac ^^^ (-1)), M, hp, zp_FLand hF _, hM, ?_, ?_⟩
    · intro x y r k hx hy hr hk post H
      exact br_f (by decide) (br_f (by decide) (br_f (by decide) (br_f (by decide) (br_f (by decide) (br_f (by decide) (br_f (by decide) (br_t rfl (br_t h (nm_e (H _ _ _ k hx hy hr hk))))))))))
    · intro post H
      unfold wpY_others
      refine zy_accumulator hac ?_
      refine br_f (by decide) (br_f (by decide) (br_f (by decide) (br_f (by decide) (br_f (by decide) (br_f (by decide) (br_f (by decide) (br_t rfl (br_t h ?_))))))))
      unfold wY_others_192
      exact zy_jump0 (nm_e H)
  · refine ⟨e, F &&& (nI ac ^^^ (-1)), M, he, zp_FLand hF _, hM, ?_, ?_⟩
    · intro x y r k hx hy hr hk post H
      exact br_f (by decide) (br_f (by decide) (br_f (by decide) (br_f (by decide) (br_f (by decide) (br_f (by decide) (br_f (by decide) (br_t rfl (br_f h (nm_e (H _ _ _ k hx hy hr hk))))))))))
    · intro post H
      unfold wpY_others
      refine zy_accumulator hac ?_
      refine br_f (by decide) (br_f (by decide) (br_f (by decide) (br_f (by decide) (br_f (by decide) (br_f (by decide) (br_f (by decide) (br_t rfl (br_f h ?_))))))))
      unfold wY_others_192
      exact zy_jump1 (nm_e H)
end
end
section
/-! stacks and calls -/
theorem zn_dec (h : Nat) : (nI h - 1) &&& 262143 = nI ((h + 4294967295) % 262144) := by
  have e : nI h - 1 = nI (h + 4294967295) := by
    rw [← nI_add, ← zn_m1e, Int32.sub_eq_add_neg]
  rw [e, zn_m18]
theorem zn_fl14 {f : Nat} (hf : f < 16) : nI f <<< ((14 : Int32) &&& 31) = nI (f * 16384) := zn_shl14 (by omega)
def zp_lw (f p : Nat) : Nat := f * 16384 * 262144 + p
theorem zp_lw_lt {f p : Nat} (hf : f < 16) (hp : p < 262144) : zp_lw f p < 68719476736 := by unfold zp_lw; omega
theorem zp_lwH {f p : Nat} (hp : p < 262144) : nI (f * 16384) = nI (zp_lw f p / 262144) := congrArg nI (by unfold zp_lw; omega)
theorem zp_lwL {f p : Nat} (hp : p < 262144) : nI p = nI (zp_lw f p % 262144) := congrArg nI (by unfold zp_lw; omega)
theorem zy_pairW {post : Int64 → Prop} {f p : Nat} (hf : f < 16) (hp : p < 262144) (H : post (lN (zp_lw f p))) : wpY_pair post ((nI f <<< ((14 : Int32) &&& 31)).toInt64) (nI p).toInt64 := by
  unfold wpY_pair
  rw [zn_fl14 hf, nI_l (by omega), nI_l (by omega), zl_pair, show f * 16384 % 262144 * 262144 + p % 262144 = zp_lw f p by unfold zp_lw; omega]
  exact H
section
variable {P F C A E : Int32} {p op ac e x y r m n b : Nat} {M : Nat → Nat} {k : zx_K} {d : zx_D} {g : zy_D} {q : Int32 × Int32 × Int32}
theorem zo_pushj (c : zo_ctx p F op ac e M) (ho : op = 176) :
    zo_good M (fun x y r k post => wpX_stack (fun u => post (-1) u) (zx_S p F C ac e x y r M k d) (nI (op - 176))) (fun post => wpY_stacks post (zy_S p F C op ac e q M g)) C op ac e q d g := by
  obtain ⟨hp, hF, hop, hac, he, hM⟩ := c
  obtain ⟨f, hf, rfl⟩ := hF
  subst ho
  have hF : zp_FL (nI f) := ⟨f, hf, rfl⟩
  have ha := hM ac
  have hW := zp_lw_lt hf hp
  refine ⟨e, nI f, zp_up (zp_up M ac (zp_gw (M ac) 1)) ((zp_gw (M ac) 1) % 256) (zp_lw f p), he, hF, zp_MWu (zp_MWu hM (zp_gw_lt _ _)) hW, ?_, ?_⟩
  · intro x y r k hx hy hr hk post H
    unfold wpX_stack
    refine zx_operands (m := 0) hac he (by decide) ?_
    refine nm_r (zn_fl14 hf) (br_f (by decide) (br_f (by decide) (br_t rfl (?_))))
    refine zx_grow (b := 1) hac hk rfl (fun k1 hk1 => ⟨zx_iA hac, ?_⟩)
    rw [zx_cA hac]
    have el : zp_LO (zp_up M ac (zp_gw (M ac) 1)) ac = nI ((zp_gw (M ac) 1) % 262144) := by
      show nI (zp_up M ac (zp_gw (M ac) 1) ac % 262144) = _
      rw [zp_upS]
    rw [el]
    refine zx_write hk1 ((zp_gw (M ac) 1) % 262144) (zp_lw f p) rfl (zp_lwH hp) (zp_lwL hp) ?_
    rw [show (zp_gw (M ac) 1) % 262144 % 256 = (zp_gw (M ac) 1) % 256 by omega]
    exact fun k' hk' => H _ _ _ k' ha (hM _) hr hk'
  · intro post H
    unfold wpY_stacks
    refine zy_accumulator hac ?_
    refine zy_there ?_
    refine zy_pairW hf hp ?_
    refine zy_both (b := 1) ha (Or.inl ⟨rfl, rfl⟩) ?_
    refine zy_both (b := 4294967295) ha (Or.inr ⟨rfl, rfl⟩) ?_
    rw [lN_i]
    refine ⟨zn_i8 _, ?_⟩
    rw [zn_c8]
    refine nm_e (br_f (by decide) (br_f (by decide) (br_t rfl (?_))))
    refine ⟨zx_iA hac, nm_r (zy_updA hac) (br_t rfl ?_)⟩
    have K : vp_updL (zp_ME (zp_up M ac (zp_gw (M ac) 1))) ((lN (zp_gw (M ac) 1)).toInt32 &&& 255).toNatClampNeg (lN (zp_lw f p)) = zp_ME (zp_up (zp_up M ac (zp_gw (M ac) 1)) ((zp_gw (M ac) 1) % 256) (zp_lw f p)) := by
      rw [lN_i, zn_c8, zp_MEu]
    refine ⟨by rw [lN_i]; exact zn_i8 _, nm_r K (br_t rfl ?_)⟩
    unfold wY_stacks_155
    exact zy_jump1 H
theorem zo_push (c : zo_ctx p F op ac e M) (ho : op = 177) :
    zo_good M (fun x y r k post => wpX_stack (fun u => post (-1) u) (zx_S p F C ac e x y r M k d) (nI (op - 176))) (fun post => wpY_stacks post (zy_S p F C op ac e q M g)) C op ac e q d g := by
  obtain ⟨hp, hF, hop, hac, he, hM⟩ := c
  obtain ⟨f, hf, rfl⟩ := hF
  subst ho
  have hF : zp_FL (nI f) := ⟨f, hf, rfl⟩
  have ha := hM ac
  have hW := zp_lw_lt hf hp
  refine ⟨p, nI f, zp_up (zp_up M ac (zp_gw (M ac) 1)) ((zp_gw (M ac) 1) % 256) (M (e % 256)), hp, hF, zp_MWu (zp_MWu hM (zp_gw_lt _ _)) (hM _), ?_, ?_⟩
  · intro x y r k hx hy hr hk post H
    unfold wpX_stack
    refine zx_operands (m := 0) hac he (by decide) ?_
    refine nm_r (zn_fl14 hf) (br_f (by decide) (br_f (by decide) (br_f (by decide) (br_t rfl (?_)))))
    refine zx_grow (b := 1) hac hk rfl (fun k1 hk1 => ⟨zx_iA hac, ?_⟩)
    rw [zx_cA hac]
    have el : zp_LO (zp_up M ac (zp_gw (M ac) 1)) ac = nI ((zp_gw (M ac) 1) % 262144) := by
      show nI (zp_up M ac (zp_gw (M ac) 1) ac % 262144) = _
      rw [zp_upS]
    rw [el]
    refine zx_write hk1 ((zp_gw (M ac) 1) % 262144) (M (e % 256)) rfl rfl rfl ?_
    rw [show (zp_gw (M ac) 1) % 262144 % 256 = (zp_gw (M ac) 1) % 256 by omega]
    exact fun k' hk' => H _ _ _ k' ha (hM _) hr hk'
  · intro post H
    unfold wpY_stacks
    refine zy_accumulator hac ?_
    refine zy_there ?_
    refine zy_pairW hf hp ?_
    refine zy_both (b := 1) ha (Or.inl ⟨rfl, rfl⟩) ?_
    refine zy_both (b := 4294967295) ha (Or.inr ⟨rfl, rfl⟩) ?_
    rw [lN_i]
    refine ⟨zn_i8 _, ?_⟩
    rw [zn_c8]
    refine nm_e (br_f (by decide) (br_f (by decide) (br_f (by decide) (br_t rfl (?_)))))
    refine ⟨zx_iA hac, nm_r (zy_updA hac) (br_f (by decide) ?_)⟩
    have K : vp_updL (zp_ME (zp_up M ac (zp_gw (M ac) 1))) ((lN (zp_gw (M ac) 1)).toInt32 &&& 255).toNatClampNeg (lN (M (e % 256))) = zp_ME (zp_up (zp_up M ac (zp_gw (M ac) 1)) ((zp_gw (M ac) 1) % 256) (M (e % 256))) := by
      rw [lN_i, zn_c8, zp_MEu]
    refine ⟨by rw [lN_i]; exact zn_i8 _, nm_r K (br_f (by decide) ?_)⟩
    unfold wY_stacks_155
    exact zy_jump0 H
theorem zo_pop (c : zo_ctx p F op ac e M) (ho : op = 178) :
    zo_good M (fun x y r k post => wpX_stack (fun u => post (-1) u) (zx_S p F C ac e x y r M k d) (nI (op - 176))) (fun post => wpY_stacks post (zy_S p F C op ac e q M g)) C op ac e q d g := by
  obtain ⟨hp, hF, hop, hac, he, hM⟩ := c
  obtain ⟨f, hf, rfl⟩ := hF
  subst ho
  have hF : zp_FL (nI f) := ⟨f, hf, rfl⟩
  have ha := hM ac
  have hW := zp_lw_lt hf hp
  refine ⟨p, nI f, zp_up (zp_up M (e % 256) (M (M ac % 256))) ac (zp_gw (M ac) 4294967295), hp, hF, zp_MWu (zp_MWu hM (hM _)) (zp_gw_lt _ _), ?_, ?_⟩
  · intro x y r k hx hy hr hk post H
    unfold wpX_stack
    refine zx_operands (m := 0) hac he (by decide) ?_
    refine nm_r (zn_fl14 hf) (br_f (by decide) (br_f (by decide) (br_f (by decide) (br_f (by decide) (br_t rfl (?_))))))
    refine ⟨zn_i8 _, zn_i8 _, ?_⟩
    rw [zn_c8, show M ac % 262144 % 256 = M ac % 256 by omega]
    refine zx_write hk e (M (M ac % 256)) rfl rfl rfl (fun k1 hk1 => zx_writeA hk1 hac (zp_gw (M ac) 4294967295) ?_ ?_ (fun k' hk' => H _ _ _ k' ha (hM _) hr hk'))
    · rw [zn_dec, zp_gwH]
    · rw [zn_dec, zp_gwL]
  · intro post H
    unfold wpY_stacks
    refine zy_accumulator hac ?_
    refine zy_there ?_
    refine zy_pairW hf hp ?_
    refine zy_both (b := 1) ha (Or.inl ⟨rfl, rfl⟩) ?_
    refine zy_both (b := 4294967295) ha (Or.inr ⟨rfl, rfl⟩) ?_
    rw [lN_i]
    refine ⟨zn_i8 _, ?_⟩
    rw [zn_c8]
    refine nm_e (br_f (by decide) (br_f (by decide) (br_f (by decide) (br_f (by decide) (br_t rfl (?_))))))
    exact ⟨zn_i8 e, nm_r zy_updE ⟨zx_iA hac, nm_r (zy_updA hac) H⟩⟩
theorem zo_popj (c : zo_ctx p F op ac e M) (ho : op = 179) :
    zo_good M (fun x y r k post => wpX_stack (fun u => post (-1) u) (zx_S p F C ac e x y r M k d) (nI (op - 176))) (fun post => wpY_stacks post (zy_S p F C op ac e q M g)) C op ac e q d g := by
  obtain ⟨hp, hF, hop, hac, he, hM⟩ := c
  obtain ⟨f, hf, rfl⟩ := hF
  subst ho
  have hF : zp_FL (nI f) := ⟨f, hf, rfl⟩
  have ha := hM ac
  have hW := zp_lw_lt hf hp
  refine ⟨M (M ac % 256) % 262144, nI f, zp_up M ac (zp_gw (M ac) 4294967295), Nat.mod_lt _ (by decide), hF, zp_MWu hM (zp_gw_lt _ _), ?_, ?_⟩
  · intro x y r k hx hy hr hk post H
    unfold wpX_stack
    refine zx_operands (m := 0) hac he (by decide) ?_
    refine nm_r (zn_fl14 hf) (br_f (by decide) (br_f (by decide) (br_f (by decide) (br_f (by decide) (br_f (by decide) (br_t rfl (?_)))))))
    refine ⟨zn_i8 _, ?_⟩
    rw [zn_c8, show M ac % 262144 % 256 = M ac % 256 by omega]
    refine nm_e ?_
    exact zx_grow (b := 4294967295) hac hk zn_m1e (fun k' hk' => H _ _ _ k' ha (hM _) hr hk')
  · intro post H
    unfold wpY_stacks
    refine zy_accumulator hac ?_
    refine zy_there ?_
    refine zy_pairW hf hp ?_
    refine zy_both (b := 1) ha (Or.inl ⟨rfl, rfl⟩) ?_
    refine zy_both (b := 4294967295) ha (Or.inr ⟨rfl, rfl⟩) ?_
    rw [lN_i]
    refine ⟨zn_i8 _, ?_⟩
    rw [zn_c8]
    refine nm_e (br_f (by decide) (br_f (by decide) (br_f (by decide) (br_f (by decide) (br_f (by decide) (br_t rfl (?_)))))))
    have hv := hM (M ac % 256)
    have ep : (zp_ME M (M ac % 256) &&& 262143).toInt32 = nI (M (M ac % 256) % 262144) := by
      show (lN (M (M ac % 256)) &&& 262143).toInt32 = _
      rw [zl_m18, lN_i]
    exact nm_r ep ⟨zx_iA hac, nm_r (zy_updA hac) H⟩
theorem zo_jsr (c : zo_ctx p F op ac e M) (ho : op = 180) :
    zo_good M (fun x y r k post => wpX_stack (fun u => post (-1) u) (zx_S p F C ac e x y r M k d) (nI (op - 176))) (fun post => wpY_stacks post (zy_S p F C op ac e q M g)) C op ac e q d g := by
  obtain ⟨hp, hF, hop, hac, he, hM⟩ := c
  obtain ⟨f, hf, rfl⟩ := hF
  subst ho
  have hF : zp_FL (nI f) := ⟨f, hf, rfl⟩
  have ha := hM ac
  have hW := zp_lw_lt hf hp
  refine ⟨(e + 1) % 262144, nI f, zp_up M (e % 256) (zp_lw f p), Nat.mod_lt _ (by decide), hF, zp_MWu hM hW, ?_, ?_⟩
  · intro x y r k hx hy hr hk post H
    unfold wpX_stack
    refine zx_operands (m := 0) hac he (by decide) ?_
    refine nm_r (zn_fl14 hf) (br_f (by decide) (br_f (by decide) (br_f (by decide) (br_f (by decide) (br_f (by decide) (br_f (by decide) (br_t rfl (?_))))))))
    refine zx_write hk e (zp_lw f p) rfl (zp_lwH hp) (zp_lwL hp) (fun k' hk' => nm_r (e' := nI ((e + 1) % 262144)) (by rw [nI_1, zn_m18]) (H _ _ _ k' ha (hM _) hr hk'))
  · intro post H
    unfold wpY_stacks
    refine zy_accumulator hac ?_
    refine zy_there ?_
    refine zy_pairW hf hp ?_
    refine zy_both (b := 1) ha (Or.inl ⟨rfl, rfl⟩) ?_
    refine zy_both (b := 4294967295) ha (Or.inr ⟨rfl, rfl⟩) ?_
    rw [lN_i]
    refine ⟨zn_i8 _, ?_⟩
    rw [zn_c8]
    refine nm_e (br_f (by decide) (br_f (by decide) (br_f (by decide) (br_f (by decide) (br_f (by decide) (br_f (by decide) (br_t rfl (?_))))))))
    exact ⟨zn_i8 e, nm_r zy_updE (nm_r (e' := nI ((e + 1) % 262144)) (by rw [nI_1, zn_m18]) H)⟩
theorem zo_jsp (c : zo_ctx p F op ac e M) (ho : op = 181) :
    zo_good M (fun x y r k post => wpX_stack (fun u => post (-1) u) (zx_S p F C ac e x y r M k d) (nI (op - 176))) (fun post => wpY_stacks post (zy_S p F C op ac e q M g)) C op ac e q d g := by
  obtain ⟨hp, hF, hop, hac, he, hM⟩ := c
  obtain ⟨f, hf, rfl⟩ := hF
  subst ho
  have hF : zp_FL (nI f) := ⟨f, hf, rfl⟩
  have ha := hM ac
  have hW := zp_lw_lt hf hp
  refine ⟨e, nI f, zp_up M ac (zp_lw f p), he, hF, zp_MWu hM hW, ?_, ?_⟩
  · intro x y r k hx hy hr hk post H
    unfold wpX_stack
    refine zx_operands (m := 0) hac he (by decide) ?_
    refine nm_r (zn_fl14 hf) (br_f (by decide) (br_f (by decide) (br_f (by decide) (br_f (by decide) (br_f (by decide) (br_f (by decide) (br_f (by decide) (br_t rfl (?_)))))))))
    exact zx_writeA hk hac (zp_lw f p) (zp_lwH hp) (zp_lwL hp) (fun k' hk' => H _ _ _ k' ha (hM _) hr hk')
  · intro post H
    unfold wpY_stacks
    refine zy_accumulator hac ?_
    refine zy_there ?_
    refine zy_pairW hf hp ?_
    refine zy_both (b := 1) ha (Or.inl ⟨rfl, rfl⟩) ?_
    refine zy_both (b := 4294967295) ha (Or.inr ⟨rfl, rfl⟩) ?_
    rw [lN_i]
    refine ⟨zn_i8 _, ?_⟩
    rw [zn_c8]
    refine nm_e (br_f (by decide) (br_f (by decide) (br_f (by decide) (br_f (by decide) (br_f (by decide) (br_f (by decide) (br_f (by decide) (br_t rfl (?_)))))))))
    exact ⟨zx_iA hac, nm_r (zy_updA hac) H⟩
theorem zo_jsa (c : zo_ctx p F op ac e M) (ho : op = 182) :
    zo_good M (fun x y r k post => wpX_stack (fun u => post (-1) u) (zx_S p F C ac e x y r M k d) (nI (op - 176))) (fun post => wpY_stacks post (zy_S p F C op ac e q M g)) C op ac e q d g := by
  obtain ⟨hp, hF, hop, hac, he, hM⟩ := c
  obtain ⟨f, hf, rfl⟩ := hF
  subst ho
  have hF : zp_FL (nI f) := ⟨f, hf, rfl⟩
  have ha := hM ac
  have hW := zp_lw_lt hf hp
  refine ⟨(e + 1) % 262144, nI f, zp_up (zp_up M (e % 256) (M ac)) ac (e * 262144 + p), Nat.mod_lt _ (by decide), hF, zp_MWu (zp_MWu hM (hM _)) (by omega), ?_, ?_⟩
  · intro x y r k hx hy hr hk post H
    unfold wpX_stack
    refine zx_operands (m := 0) hac he (by decide) ?_
    refine nm_r (zn_fl14 hf) (br_f (by decide) (br_f (by decide) (br_f (by decide) (br_f (by decide) (br_f (by decide) (br_f (by decide) (br_f (by decide) (br_f (by decide) (br_t rfl (?_))))))))))
    refine zx_write hk e (M ac) rfl rfl rfl (fun k1 hk1 => zx_writeA hk1 hac (e * 262144 + p) ?_ ?_ (fun k' hk' => nm_r (e' := nI ((e + 1) % 262144)) (by rw [nI_1, zn_m18]) (H _ _ _ k' ha (hM _) hr hk')))
    · exact congrArg nI (by omega)
    · exact congrArg nI (by omega)
  · intro post H
    unfold wpY_stacks
    refine zy_accumulator hac ?_
    refine zy_there ?_
    refine zy_pairW hf hp ?_
    refine zy_both (b := 1) ha (Or.inl ⟨rfl, rfl⟩) ?_
    refine zy_both (b := 4294967295) ha (Or.inr ⟨rfl, rfl⟩) ?_
    rw [lN_i]
    refine ⟨zn_i8 _, ?_⟩
    rw [zn_c8]
    refine nm_e (br_f (by decide) (br_f (by decide) (br_f (by decide) (br_f (by decide) (br_f (by decide) (br_f (by decide) (br_f (by decide) (br_f (by decide) (br_t rfl (?_))))))))))
    refine ⟨zn_i8 e, nm_r zy_updE ?_⟩
    have ep : ((((nI e).toInt64 &&& 262143) <<< ((18 : Int32).toInt64 &&& 63)) ||| ((nI p).toInt64 &&& 262143)) = lN (e * 262144 + p) := by
      rw [nI_l (by omega), nI_l (by omega), zl_pair, Nat.mod_eq_of_lt he, Nat.mod_eq_of_lt hp]
    unfold wpY_pair
    rw [ep]
    exact ⟨zx_iA hac, nm_r (zy_updA hac) (nm_r (e' := nI ((e + 1) % 262144)) (by rw [nI_1, zn_m18]) H)⟩
theorem zo_jra (c : zo_ctx p F op ac e M) (ho : op = 183) :
    zo_good M (fun x y r k post => wpX_stack (fun u => post (-1) u) (zx_S p F C ac e x y r M k d) (nI (op - 176))) (fun post => wpY_stacks post (zy_S p F C op ac e q M g)) C op ac e q d g := by
  obtain ⟨hp, hF, hop, hac, he, hM⟩ := c
  obtain ⟨f, hf, rfl⟩ := hF
  subst ho
  have hF : zp_FL (nI f) := ⟨f, hf, rfl⟩
  have ha := hM ac
  have hW := zp_lw_lt hf hp
  refine ⟨e, nI f, zp_up M ac (M (M ac / 262144 % 256)), he, hF, zp_MWu hM (hM _), ?_, ?_⟩
  · intro x y r k hx hy hr hk post H
    unfold wpX_stack
    refine zx_operands (m := 0) hac he (by decide) ?_
    refine nm_r (zn_fl14 hf) (br_f (by decide) (br_t (by decide) (?_)))
    refine ⟨zn_i8 _, zn_i8 _, ?_⟩
    rw [zn_c8]
    exact zx_writeA hk hac (M (M ac / 262144 % 256)) rfl rfl (fun k' hk' => H _ _ _ k' ha (hM _) hr hk')
  · intro post H
    unfold wpY_stacks
    refine zy_accumulator hac ?_
    refine zy_there ?_
    refine zy_pairW hf hp ?_
    refine zy_both (b := 1) ha (Or.inl ⟨rfl, rfl⟩) ?_
    refine zy_both (b := 4294967295) ha (Or.inr ⟨rfl, rfl⟩) ?_
    rw [lN_i]
    refine ⟨zn_i8 _, ?_⟩
    rw [zn_c8]
    refine nm_e (br_f (by decide) (br_t (by decide) (?_)))
    rw [zl_shr18 (by omega), lN_i]
    refine ⟨zn_i8 _, zx_iA hac, ?_⟩
    rw [zn_c8]
    exact nm_r (zy_updA hac) H
end
end
section
/-! input and output -/
def zp_RD (B : Nat) (d : zx_D) (g : zy_D) : Prop :=
  ∃ (fi wt ou : Nat) (Q G : Nat → Nat), d.1 = nI fi ∧ d.2.1 = nI wt ∧ d.2.2.1 = nI ou ∧ g.1 = nI wt ∧ g.2.1 = nI ou ∧ g.2.2.1 = d.2.2.2.1 ∧ g.2.2.2.2.2 = d.2.2.2.2.2.2.2.2 ∧
    fi < 20 ∧ wt ≤ 20 ∧ ou ≤ B ∧
    (∀ i, i < wt → Q i < 68719476736 ∧ d.2.2.2.2.1 ((fi + i) % 20) = nI (Q i / 262144) ∧ d.2.2.2.2.2.1 ((fi + i) % 20) = nI (Q i % 262144) ∧ g.2.2.2.1 i = lN (Q i)) ∧
    (∀ i, i < 40 → G i < 68719476736 ∧ d.2.2.2.2.2.2.1 i = nI (G i / 262144) ∧ d.2.2.2.2.2.2.2.1 i = nI (G i % 262144) ∧ g.2.2.2.2.1 i = lN (G i))
theorem zp_RDup {B B' : Nat} {d : zx_D} {g : zy_D} (h : zp_RD B d g) (hB : B ≤ B') : zp_RD B' d g := by
  obtain ⟨fi, wt, ou, Q, G, h1, h2, h3, h4, h5, h6, h7, h8, h9, h10, h11, h12⟩ := h
  exact ⟨fi, wt, ou, Q, G, h1, h2, h3, h4, h5, h6, h7, h8, h9, by omega, h11, h12⟩
/-- an instruction's outcome, with the rest of the states -/
def zo_kind (rv CX CY : Int32) (q q' : Int32 × Int32 × Int32) : Prop :=
  (rv = -1 ∧ CY = CX ∧ (CX = 0 ∨ CX = 1) ∧ q' = q) ∨ (rv = -2 ∧ CY = CX ∧ (CX = 2 ∨ CX = 3) ∧ q' = q) ∨
  (∃ t, t < 256 ∧ rv = nI t ∧ CX = 0 ∧ q' = (nI t, q.2.1 + 1, 1) ∧ ((q.2.1 + 1 = 9 ∧ CY = 4) ∨ (¬ q.2.1 + 1 = 9 ∧ CY = 0)))
def zo_res (M0 : Nat → Nat) (WX : Nat → Nat → Nat → zx_K → (Int32 → SX → Prop) → Prop) (WY : (SY → Prop) → Prop) (op ac e : Nat) (q : Int32 × Int32 × Int32) (B : Nat) : Prop :=
  ∃ (rv CX CY : Int32) (p : Nat) (F : Int32) (M : Nat → Nat) (q' : Int32 × Int32 × Int32) (d : zx_D) (g : zy_D),
    p < 262144 ∧ zp_FL F ∧ zp_MW M ∧ zp_RD (B + 1) d g ∧ zo_A M0 WX rv p F CX ac e M d ∧ zo_Y WY p F CY op ac e q' M g ∧ zo_kind rv CX CY q q'
section
variable {P F C A E : Int32} {p op ac e x y r m n b B : Nat} {M : Nat → Nat} {k : zx_K} {d : zx_D} {g : zy_D} {q : Int32 × Int32 × Int32}
theorem zo_ofgood {M0 : Nat → Nat} {WX WX' : Nat → Nat → Nat → zx_K → (Int32 → SX → Prop) → Prop} {WY WY' : (SY → Prop) → Prop} (R : zp_RD B d g) (h : zo_good M0 WX WY 0 op ac e q d g) (hX : ∀ x y r k post, WX x y r k post → WX' x y r k post) (hY : ∀ post, WY post → WY' post) : zo_res M0 WX' WY' op ac e q B := by
  obtain ⟨p, F, M, h1, h2, h3, h4, h5⟩ := h
  exact ⟨-1, 0, 0, p, F, M, q, d, g, h1, h2, h3, zp_RDup R (by omega), fun x y r k hx hy hr hk post H => hX _ _ _ _ _ (h4 x y r k hx hy hr hk post H), fun post H => hY _ (h5 post H), Or.inl ⟨rfl, rfl, Or.inl rfl, rfl⟩⟩
theorem zo_ofgs {M0 : Nat → Nat} {WX WX' : Nat → Nat → Nat → zx_K → (Int32 → SX → Prop) → Prop} {WY WY' : (SY → Prop) → Prop} (R : zp_RD B d g) (h : zo_gs M0 WX WY op ac e q d g) (hX : ∀ x y r k post, WX x y r k post → WX' x y r k post) (hY : ∀ post, WY post → WY' post) : zo_res M0 WX' WY' op ac e q B := by
  obtain ⟨rv, C, p, F, M, h1, h2, h3, h4, h5, h6⟩ := h
  refine ⟨rv, C, C, p, F, M, q, d, g, h1, h2, h3, zp_RDup R (by omega), fun x y r k hx hy hr hk post H => hX _ _ _ _ _ (h4 x y r k hx hy hr hk post H), fun post H => hY _ (h5 post H), ?_⟩
  rcases h6 with ⟨h6, h7⟩ | ⟨h6, h7⟩
  · exact Or.inl ⟨h6, rfl, Or.inl h7, rfl⟩
  · exact Or.inr (Or.inl ⟨h6, rfl, Or.inr h7, rfl⟩)
theorem zo_mono {M0 : Nat → Nat} {WX WX' : Nat → Nat → Nat → zx_K → (Int32 → SX → Prop) → Prop} {WY WY' : (SY → Prop) → Prop} (h : zo_res M0 WX WY op ac e q B) (hX : ∀ x y r k post, WX x y r k post → WX' x y r k post) (hY : ∀ post, WY post → WY' post) : zo_res M0 WX' WY' op ac e q B := by
  obtain ⟨rv, CX, CY, p, F, M, q', d, g, h1, h2, h3, hR, h4, h5, h6⟩ := h
  exact ⟨rv, CX, CY, p, F, M, q', d, g, h1, h2, h3, hR, fun x y r k hx hy hr hk post H => hX _ _ _ _ _ (h4 x y r k hx hy hr hk post H), fun post H => hY _ (h5 post H), h6⟩
theorem zx_con137 {post : SX → Prop} {wt : Nat} (hw : d.2.1 = nI wt) (hwt : wt ≤ 20) (hac : ac < 16) (H0 : ¬ (ac = 2 ∧ 0 < wt) → post (zx_G (nI p) F C (nI ac) (nI e) x y r M k d)) (H1 : ac = 2 ∧ 0 < wt → post (zx_G (nI ((p + 1) % 262144)) F C (nI ac) (nI e) x y r M k d)) :
    wX_console_137 post (nI p) F C d.1 d.2.1 d.2.2.1 d.2.2.2.1 (nI ac) (nI e) (nI (x / 262144)) (nI (x % 262144)) (nI (y / 262144)) (nI (y % 262144)) (nI (r / 262144)) (nI (r % 262144)) (zp_HI M) (zp_LO M) k.1 k.2.1 k.2.2.1 k.2.2.2.1 k.2.2.2.2 d.2.2.2.2.1 d.2.2.2.2.2.1 d.2.2.2.2.2.2.1 d.2.2.2.2.2.2.2.1 d.2.2.2.2.2.2.2.2 := by
  refine pk_eq ac 2 (fun h => pk_le wt 0 (fun h2 => H0 (by omega)) (fun h2 => zx_skip (H1 (by omega))) hw) (fun h => H0 (by omega))
/-- what waits moves on by one place -/
def zp_sh : Nat → Nat → (Nat → Int64) → (Nat → Int64)
  | 0, _, w => w
  | t + 1, j, w => zp_sh t (j + 1) (vp_updL w j (w (j + 1)))
theorem zp_shS (wa : Nat → Int64) (wt : Nat) : ∀ t j w1, j + t = wt → (∀ i, i < j → w1 i = wa (i + 1)) → (∀ i, j ≤ i → w1 i = wa i) → ∀ i, i < wt → zp_sh t j w1 i = wa (i + 1) := by
  intro t
  induction t with
  | zero =>
    intro j w1 hj h1 h2 i hi
    exact h1 i (by omega)
  | succ t ih =>
    intro j w1 hj h1 h2
    refine ih (j + 1) _ (by omega) ?_ ?_
    · intro i hi
      by_cases z : i = j
      · subst z
        rw [pk_uLs]
        exact h2 _ (by omega)
      · rw [pk_uLn z]
        exact h1 i (by omega)
    · intro i hi
      rw [pk_uLn (by omega)]
      exact h2 i (by omega)
theorem zy_dev119 {post : SY → Prop} {P F C O A E Wh Dp Mo g1 g2 : Int32} {ms go : Nat → Int64} {tm : Nat → Int32} {wt : Nat} (hwt : wt < 20) : ∀ t j w1, j + t = wt →
    post (P, F, C, nI wt, g1, g2, O, A, E, Wh, Dp, Mo, ms, zp_sh t j w1, go, tm) → wY_device_119 post P F C (nI wt) g1 g2 O A E Wh Dp Mo (t + 1) (nI j) ms w1 go tm := by
  intro t
  induction t with
  | zero =>
    intro j w1 hj H
    exact pk_le wt j (fun _ => H) (fun h => by omega)
  | succ t ih =>
    intro j w1 hj H
    refine pk_le wt j (fun h => by omega) (fun _ => ?_)
    rw [nI_1]
    refine ⟨vp_in_nI (by omega) (by decide), vp_in_nI (by omega) (by decide), ?_⟩
    rw [nI_clamp (n := j) (by omega), nI_clamp (n := j + 1) (by omega)]
    exact nm_e (nm_e (ih (j + 1) _ (by omega) H))
theorem zo_device (c : zo_ctx p F op ac e M) (R : zp_RD B d g) (hB : B < 1000000000) :
    zo_res M (fun x y r k post => wpX_console (fun u => post (-1) u) (zx_S p F 0 ac e x y r M k d)) (fun post => wpY_device post (zy_S p F 0 op ac e q M g)) op ac e q B := by
  obtain ⟨hp, hF, hop, hac, he, hM⟩ := c
  obtain ⟨fi, wt, ou, Q, G, h1, h2, h3, h4, h5, h6, h7, h8, h9, h10, h11, h12⟩ := R
  by_cases ha0 : ac = 0
  · subst ha0
    by_cases ho : 40 ≤ ou
    · refine ⟨-1, 0, 0, p, F, M, q, (d.1, d.2.1, nI (ou + 1), d.2.2.2.1, d.2.2.2.2.1, d.2.2.2.2.2.1, d.2.2.2.2.2.2.1, d.2.2.2.2.2.2.2.1, d.2.2.2.2.2.2.2.2), (g.1, nI (ou + 1), g.2.2.1, g.2.2.2.1, g.2.2.2.2.1, g.2.2.2.2.2), hp, hF, hM, ?_, ?_, ?_, Or.inl ⟨rfl, rfl, Or.inl rfl, rfl⟩⟩
      · exact ⟨fi, wt, ou + 1, Q, G, h1, h2, rfl, h4, rfl, h6, h7, h8, h9, by omega, h11, h12⟩
      · intro x y r k hx hy hr hk post H
        refine br_t rfl (pk_le 40 ou (fun _ => ?_) (fun h => by omega) rfl h3)
        exact nm_r (by rw [h3, nI_1]) (br_f (by decide) (br_f (by decide) (H _ _ _ k hx hy hr hk)))
      · intro post H
        refine br_t rfl (pk_le 40 ou (fun _ => ?_) (fun h => by omega) rfl h5)
        exact nm_r (by rw [h5, nI_1]) (br_f (by decide) (br_f (by decide) H))
    · have hw := hM (e % 256)
      refine ⟨-1, 0, 0, p, F, M, q, (d.1, d.2.1, nI (ou + 1), d.2.2.2.1, d.2.2.2.2.1, d.2.2.2.2.2.1, upd d.2.2.2.2.2.2.1 ou (nI (M (e % 256) / 262144)), upd d.2.2.2.2.2.2.2.1 ou (nI (M (e % 256) % 262144)), d.2.2.2.2.2.2.2.2), (g.1, nI (ou + 1), g.2.2.1, g.2.2.2.1, vp_updL g.2.2.2.2.1 ou (lN (M (e % 256))), g.2.2.2.2.2), hp, hF, hM, ?_, ?_, ?_, Or.inl ⟨rfl, rfl, Or.inl rfl, rfl⟩⟩
      · refine ⟨fi, wt, ou + 1, Q, zp_up G ou (M (e % 256)), h1, h2, rfl, h4, rfl, h6, h7, h8, h9, by omega, h11, fun i hi => ?_⟩
        by_cases z : i = ou
        · subst z
          rw [zp_upS]
          exact ⟨hw, pk_us, pk_us, pk_uLs⟩
        · rw [zp_upN z]
          obtain ⟨k1, k2, k3, k4⟩ := h12 i hi
          exact ⟨k1, (pk_un z).trans k2, (pk_un z).trans k3, (pk_uLn z).trans k4⟩
      · intro x y r k hx hy hr hk post H
        refine br_t rfl (pk_le 40 ou (fun h => by omega) (fun _ => ⟨zn_i8 e, ?_⟩) rfl h3)
        have iou : vp_in d.2.2.1 40 := by rw [h3]; exact vp_in_nI (by omega) (by decide)
        have cou : (d.2.2.1).toNatClampNeg = ou := by rw [h3]; exact nI_clamp (by omega)
        refine ⟨iou, ?_⟩
        rw [cou, zn_c8]
        exact nm_e ⟨zn_i8 e, iou, nm_e (nm_r (by rw [h3, nI_1]) (br_f (by decide) (br_f (by decide) (H _ _ _ k hx hy hr hk))))⟩
      · intro post H
        refine br_t rfl (pk_le 40 ou (fun h => by omega) (fun _ => ⟨zn_i8 e, ?_⟩) rfl h5)
        have iou : vp_in g.2.1 40 := by rw [h5]; exact vp_in_nI (by omega) (by decide)
        have cou : (g.2.1).toNatClampNeg = ou := by rw [h5]; exact nI_clamp (by omega)
        refine ⟨iou, ?_⟩
        rw [cou, zn_c8]
        exact nm_e (nm_r (by rw [h5, nI_1]) (br_f (by decide) (br_f (by decide) H)))
  · by_cases ha1 : ac = 1 ∧ 0 < wt
    · obtain ⟨rfl, hwt⟩ := ha1
      have hq0 := h11 0 hwt
      have efi : (fi + 0) % 20 = fi := by omega
      rw [efi] at hq0
      have ew : g.1 - 1 = nI (wt - 1) := by rw [h4]; exact pk_sub (b := 1) (by omega)
      have ew2 : d.2.1 - 1 = nI (wt - 1) := by rw [h2]; exact pk_sub (b := 1) (by omega)
      have hwa' := zp_shS g.2.2.2.1 (wt - 1) (wt - 1) 0 g.2.2.2.1 (by omega) (fun i hi => by omega) (fun i _ => rfl)
      refine ⟨-1, 0, 0, p, F, zp_up M (e % 256) (Q 0), q, (nI ((fi + 1) % 20), nI (wt - 1), d.2.2.1, d.2.2.2.1, d.2.2.2.2.1, d.2.2.2.2.2.1, d.2.2.2.2.2.2.1, d.2.2.2.2.2.2.2.1, d.2.2.2.2.2.2.2.2), (nI (wt - 1), g.2.1, g.2.2.1, zp_sh (wt - 1) 0 g.2.2.2.1, g.2.2.2.2.1, g.2.2.2.2.2), hp, hF, zp_MWu hM hq0.1, ?_, ?_, ?_, Or.inl ⟨rfl, rfl, Or.inl rfl, rfl⟩⟩
      · refine ⟨(fi + 1) % 20, wt - 1, ou, fun i => Q (i + 1), G, rfl, rfl, h3, rfl, h5, h6, h7, by omega, by omega, by omega, fun i hi => ?_, h12⟩
        obtain ⟨k1, k2, k3, k4⟩ := h11 (i + 1) (by omega)
        have ei : ((fi + 1) % 20 + i) % 20 = (fi + (i + 1)) % 20 := by omega
        exact ⟨k1, by rw [ei]; exact k2, by rw [ei]; exact k3, (hwa' i hi).trans k4⟩
      · intro x y r k hx hy hr hk post H
        refine br_f (by decide) (br_t rfl (pk_le wt 0 (fun h => by omega) (fun _ => ?_) h2))
        have ifi : vp_in d.1 20 := by rw [h1]; exact vp_in_nI h8 (by decide)
        have cfi : (d.1).toNatClampNeg = fi := by rw [h1]; exact nI_clamp (by omega)
        refine ⟨ifi, ifi, ?_⟩
        rw [cfi]
        refine zx_write hk e (Q 0) rfl hq0.2.1 hq0.2.2.1 (fun k' hk' => ⟨by decide, nm_r (e' := nI ((fi + 1) % 20)) ?_ (nm_r ew2 (H _ _ _ k' hx hy hr hk'))⟩)
        rw [h1, nI_1]
        exact pk_rem (d := 20) (by omega) (by decide) (by decide)
      · intro post H
        refine br_f (by decide) (br_f (by decide) (br_t rfl (pk_eq wt 0 (fun h => by omega) (fun _ => ⟨zn_i8 e, ?_⟩) h4)))
        rw [hq0.2.2.2]
        exact nm_r zy_updE (nm_r ew ⟨_, zy_dev119 (by omega) (wt - 1) 0 _ (by omega) H⟩)
    · by_cases ha2 : ac = 2 ∧ 0 < wt
      · refine ⟨-1, 0, 0, (p + 1) % 262144, F, M, q, d, g, by omega, hF, hM, ⟨fi, wt, ou, Q, G, h1, h2, h3, h4, h5, h6, h7, h8, h9, by omega, h11, h12⟩, ?_, ?_, Or.inl ⟨rfl, rfl, Or.inl rfl, rfl⟩⟩
        · intro x y r k hx hy hr hk post H
          refine pk_eq ac 0 (fun h => by omega) (fun _ => pk_eq ac 1 (fun h => by omega) (fun _ => ?_))
          exact zx_con137 (post := fun u => post (-1) u) h2 h9 hac (fun z => absurd ha2 z) (fun _ => H _ _ _ k hx hy hr hk)
        · intro post H
          refine pk_eq ac 0 (fun h => by omega) (fun _ => pk_eq ac 2 (fun _ => pk_le wt 0 (fun h => by omega) (fun _ => ?_) h4) (fun h => by omega))
          unfold wY_device_69
          refine zy_skip1 ?_
          exact pk_eq ac 1 (fun h => by omega) (fun _ => H)
      · refine ⟨-1, 0, 0, p, F, M, q, d, g, hp, hF, hM, ⟨fi, wt, ou, Q, G, h1, h2, h3, h4, h5, h6, h7, h8, h9, by omega, h11, h12⟩, ?_, ?_, Or.inl ⟨rfl, rfl, Or.inl rfl, rfl⟩⟩
        · intro x y r k hx hy hr hk post H
          have K := zx_con137 (post := fun u => post (-1) u) h2 h9 hac (fun _ => H _ _ _ k hx hy hr hk) (fun z => absurd z ha2)
          exact pk_eq ac 0 (fun h => by omega) (fun _ => pk_eq ac 1 (fun h => pk_le wt 0 (fun _ => K) (fun h' => by omega) h2) (fun _ => K))
        · intro post H
          have K : wY_device_72 post (nI p) F 0 g.1 g.2.1 g.2.2.1 (nI op) (nI ac) (nI e) q.1 q.2.1 q.2.2 (zp_ME M) g.2.2.2.1 g.2.2.2.2.1 g.2.2.2.2.2 := pk_eq ac 1 (fun h => pk_eq wt 0 (fun _ => H) (fun h' => by omega) h4) (fun _ => H)
          refine pk_eq ac 0 (fun h => by omega) (fun _ => pk_eq ac 2 (fun _ => pk_le wt 0 (fun _ => ?_) (fun h => by omega) h4) (fun _ => K))
          unfold wY_device_69
          refine zy_skip0 ?_
          exact K
end
end
section
/-! every instruction -/
section
variable {P F C A E : Int32} {p op ac e x y r m n b B : Nat} {M : Nat → Nat} {k : zx_K} {d : zx_D} {g : zy_D} {q : Int32 × Int32 × Int32}
theorem zd_perform {post : Int32 → SX → Prop} (hop : op < 512)
    (h0 : op = 0 → wpX_illegal post (zx_G P F C A E x y r M k d))
    (h1 : 0 < op ∧ op < 64 → wpX_write (fun u => post 33 u) (zx_G P F C A E x y r M k d) 32 ((nI op <<< ((9 : Int32) &&& 31)) ||| (A <<< ((5 : Int32) &&& 31))) E)
    (h2 : 128 ≤ op ∧ op < 192 → wpX_computes post (zx_G P F C A E x y r M k d) (nI op))
    (h3 : 192 ≤ op ∧ op < 256 → wpX_compare (fun u => post (-1) u) (zx_G P F C A E x y r M k d) (nI op &&& 7) ((nI op >>> ((3 : Int32) &&& 31)) &&& 7))
    (h4 : 256 ≤ op ∧ op < 320 → wpX_operands (fun u => wpX_logic (fun u => wpX_store (fun u => post (-1) u) u (nI op &&& 3)) u ((nI op >>> ((2 : Int32) &&& 31)) &&& 15)) (zx_G P F C A E x y r M k d) (nI op &&& 3))
    (h5 : 320 ≤ op ∧ op < 384 → wpX_half (fun u => post (-1) u) (zx_G P F C A E x y r M k d) (nI op))
    (h6 : 384 ≤ op ∧ op < 448 → wpX_test (fun u => post (-1) u) (zx_G P F C A E x y r M k d) (nI op))
    (h7 : (64 ≤ op ∧ op < 128) ∨ 448 ≤ op → wpX_other post (zx_G P F C A E x y r M k d) (nI op)) :
    wpX_perform post (zx_G P F C A E x y r M k d) (nI op) := by
  refine nm_r (zn_shr6 (by omega)) ?_
  obtain ⟨kk, hk⟩ : ∃ kk, kk = op / 64 := ⟨_, rfl⟩
  rw [← hk]
  refine pk_lt kk 0 (fun h => by omega) (fun _ => pk_lt 6 kk (fun h => h7 (by omega)) (fun _ => ?_))
  refine pk_eq kk 0 (fun h => pk_eq op 0 (fun z => h0 z) (fun z => h1 (by omega))) (fun _ => ?_)
  refine pk_eq kk 1 (fun h => h7 (by omega)) (fun _ => ?_)
  refine pk_eq kk 2 (fun h => h2 (by omega)) (fun _ => ?_)
  refine pk_eq kk 3 (fun h => h3 (by omega)) (fun _ => ?_)
  refine pk_eq kk 4 (fun h => h4 (by omega)) (fun _ => ?_)
  refine pk_eq kk 5 (fun h => h5 (by omega)) (fun _ => ?_)
  exact pk_eq kk 6 (fun h => h6 (by omega)) (fun _ => trivial)
theorem zd_other {post : Int32 → SX → Prop} (hop : op < 512)
    (h0 : op = 448 → wpX_console (fun u => post (-1) u) (zx_G P F C A E x y r M k d))
    (h1 : op ≠ 448 ∧ (op ≤ 90 ∨ 96 ≤ op) → wpX_illegal post (zx_G P F C A E x y r M k d))
    (h2 : 91 ≤ op ∧ op < 96 → wpX_bytes post (zx_G P F C A E x y r M k d) (nI op - 91)) :
    wpX_other post (zx_G P F C A E x y r M k d) (nI op) :=
  pk_eq op 448 (fun h => h0 h) (fun h => pk_le op 90 (fun z => h1 (by omega)) (fun _ => pk_le 96 op (fun z => h1 (by omega)) (fun _ => h2 (by omega))))
end
section
variable {P F C A E Wh Dp Mo : Int32} {p op ac e x y r m n b B : Nat} {M : Nat → Nat} {g : zy_D} {post : SY → Prop}
theorem zd_act (hop : op < 512)
    (h1 : 128 ≤ op ∧ op < 144 → wpY_move post (zy_G P F C (nI op) A E Wh Dp Mo M g))
    (h2 : (144 ≤ op ∧ op < 148) ∨ (184 ≤ op ∧ op < 192) → wpY_reckon post (zy_G P F C (nI op) A E Wh Dp Mo M g))
    (h3 : 152 ≤ op ∧ op < 156 → wpY_divide post (zy_G P F C (nI op) A E Wh Dp Mo M g))
    (h4 : 256 ≤ op ∧ op < 320 → wpY_logic post (zy_G P F C (nI op) A E Wh Dp Mo M g))
    (h5 : 320 ≤ op ∧ op < 384 → wpY_half post (zy_G P F C (nI op) A E Wh Dp Mo M g))
    (h6 : 384 ≤ op ∧ op < 448 → wpY_test post (zy_G P F C (nI op) A E Wh Dp Mo M g))
    (h7 : 192 ≤ op ∧ op < 256 → wpY_compare post (zy_G P F C (nI op) A E Wh Dp Mo M g))
    (h8 : 91 ≤ op ∧ op < 96 → wpY_bytes post (zy_G P F C (nI op) A E Wh Dp Mo M g))
    (h9 : 160 ≤ op ∧ op < 167 ∧ op ≠ 164 → wpY_shift post (zy_G P F C (nI op) A E Wh Dp Mo M g))
    (h10 : 168 ≤ op ∧ op < 175 → wpY_others post (zy_G P F C (nI op) A E Wh Dp Mo M g))
    (h11 : 176 ≤ op ∧ op < 184 → wpY_stacks post (zy_G P F C (nI op) A E Wh Dp Mo M g))
    (h12 : op = 448 → wpY_device post (zy_G P F C (nI op) A E Wh Dp Mo M g))
    (h13 : 0 < op ∧ op < 64 → wpY_trap post (zy_G P F C (nI op) A E Wh Dp Mo M g))
    (h14 : op = 0 ∨ (64 ≤ op ∧ op < 91) ∨ (96 ≤ op ∧ op < 128) ∨ (148 ≤ op ∧ op < 152) ∨ (156 ≤ op ∧ op < 160) ∨ op = 164 ∨ op = 167 ∨ op = 175 ∨ 448 < op → post (zy_G P F 2 (nI op) A E Wh Dp Mo M g)) :
    wpY_act post (zy_G P F C (nI op) A E Wh Dp Mo M g) := by
  have K324 : ¬ (128 ≤ op ∧ op < 144) → ¬ ((144 ≤ op ∧ op < 148) ∨ (184 ≤ op ∧ op < 192)) → ¬ (152 ≤ op ∧ op < 156) → ¬ (256 ≤ op ∧ op < 448) → ¬ (192 ≤ op ∧ op < 256) → ¬ (91 ≤ op ∧ op < 96) → ¬ (160 ≤ op ∧ op < 167 ∧ op ≠ 164) → ¬ (168 ≤ op ∧ op < 175) → ¬ (176 ≤ op ∧ op < 184) → wY_act_324 post P F C g.1 g.2.1 g.2.2.1 (nI op) A E Wh Dp Mo (zp_ME M) g.2.2.2.1 g.2.2.2.2.1 g.2.2.2.2.2 := by
    intros
    exact pk_eq op 448 (fun z => h12 z) (fun z => pk_le op 0 (fun z => h14 (by omega)) (fun _ => pk_le 64 op (fun _ => h14 (by omega)) (fun _ => h13 (by omega))))
  have K297 : ¬ (128 ≤ op ∧ op < 144) → ¬ ((144 ≤ op ∧ op < 148) ∨ (184 ≤ op ∧ op < 192)) → ¬ (152 ≤ op ∧ op < 156) → ¬ (256 ≤ op ∧ op < 448) → ¬ (192 ≤ op ∧ op < 256) → ¬ (91 ≤ op ∧ op < 96) → ¬ (160 ≤ op ∧ op < 167 ∧ op ≠ 164) → ¬ (168 ≤ op ∧ op < 175) → wY_act_297 post P F C g.1 g.2.1 g.2.2.1 (nI op) A E Wh Dp Mo (zp_ME M) g.2.2.2.1 g.2.2.2.2.1 g.2.2.2.2.2 := by
    intro a1 a2 a3 a4 a5 a6 a7 a8
    exact pk_le op 175 (fun _ => K324 a1 a2 a3 a4 a5 a6 a7 a8 (by omega)) (fun _ => pk_le 184 op (fun _ => K324 a1 a2 a3 a4 a5 a6 a7 a8 (by omega)) (fun _ => h11 (by omega)))
  have K270 : ¬ (128 ≤ op ∧ op < 144) → ¬ ((144 ≤ op ∧ op < 148) ∨ (184 ≤ op ∧ op < 192)) → ¬ (152 ≤ op ∧ op < 156) → ¬ (256 ≤ op ∧ op < 448) → ¬ (192 ≤ op ∧ op < 256) → ¬ (91 ≤ op ∧ op < 96) → ¬ (160 ≤ op ∧ op < 167 ∧ op ≠ 164) → wY_act_270 post P F C g.1 g.2.1 g.2.2.1 (nI op) A E Wh Dp Mo (zp_ME M) g.2.2.2.1 g.2.2.2.2.1 g.2.2.2.2.2 := by
    intro a1 a2 a3 a4 a5 a6 a7
    exact pk_le op 167 (fun _ => K297 a1 a2 a3 a4 a5 a6 a7 (by omega)) (fun _ => pk_le 175 op (fun _ => K297 a1 a2 a3 a4 a5 a6 a7 (by omega)) (fun _ => h10 (by omega)))
  have K233 : ¬ (128 ≤ op ∧ op < 144) → ¬ ((144 ≤ op ∧ op < 148) ∨ (184 ≤ op ∧ op < 192)) → ¬ (152 ≤ op ∧ op < 156) → ¬ (256 ≤ op ∧ op < 448) → ¬ (192 ≤ op ∧ op < 256) → ¬ (91 ≤ op ∧ op < 96) → wY_act_233 post P F C g.1 g.2.1 g.2.2.1 (nI op) A E Wh Dp Mo (zp_ME M) g.2.2.2.1 g.2.2.2.2.1 g.2.2.2.2.2 := by
    intro a1 a2 a3 a4 a5 a6
    exact pk_le op 159 (fun _ => K270 a1 a2 a3 a4 a5 a6 (by omega)) (fun _ => pk_le 167 op (fun _ => K270 a1 a2 a3 a4 a5 a6 (by omega)) (fun _ => pk_eq op 164 (fun _ => K270 a1 a2 a3 a4 a5 a6 (by omega)) (fun _ => h9 (by omega))))
  have K208 : ¬ (128 ≤ op ∧ op < 144) → ¬ ((144 ≤ op ∧ op < 148) ∨ (184 ≤ op ∧ op < 192)) → ¬ (152 ≤ op ∧ op < 156) → ¬ (256 ≤ op ∧ op < 448) → ¬ (192 ≤ op ∧ op < 256) → wY_act_208 post P F C g.1 g.2.1 g.2.2.1 (nI op) A E Wh Dp Mo (zp_ME M) g.2.2.2.1 g.2.2.2.2.1 g.2.2.2.2.2 := by
    intro a1 a2 a3 a4 a5
    exact pk_le op 90 (fun _ => K233 a1 a2 a3 a4 a5 (by omega)) (fun _ => pk_le 96 op (fun _ => K233 a1 a2 a3 a4 a5 (by omega)) (fun _ => h8 (by omega)))
  have K181 : ¬ (128 ≤ op ∧ op < 144) → ¬ ((144 ≤ op ∧ op < 148) ∨ (184 ≤ op ∧ op < 192)) → ¬ (152 ≤ op ∧ op < 156) → ¬ (256 ≤ op ∧ op < 448) → wY_act_181 post P F C g.1 g.2.1 g.2.2.1 (nI op) A E Wh Dp Mo (zp_ME M) g.2.2.2.1 g.2.2.2.2.1 g.2.2.2.2.2 := by
    intro a1 a2 a3 a4
    exact pk_le op 191 (fun _ => K208 a1 a2 a3 a4 (by omega)) (fun _ => pk_le 256 op (fun _ => K208 a1 a2 a3 a4 (by omega)) (fun _ => h7 (by omega)))
  have K154 : ¬ (128 ≤ op ∧ op < 144) → ¬ ((144 ≤ op ∧ op < 148) ∨ (184 ≤ op ∧ op < 192)) → ¬ (152 ≤ op ∧ op < 156) → ¬ (256 ≤ op ∧ op < 384) → wY_act_154 post P F C g.1 g.2.1 g.2.2.1 (nI op) A E Wh Dp Mo (zp_ME M) g.2.2.2.1 g.2.2.2.2.1 g.2.2.2.2.2 := by
    intro a1 a2 a3 a4
    exact pk_le op 383 (fun _ => K181 a1 a2 a3 (by omega)) (fun _ => pk_le 448 op (fun _ => K181 a1 a2 a3 (by omega)) (fun _ => h6 (by omega)))
  have K127 : ¬ (128 ≤ op ∧ op < 144) → ¬ ((144 ≤ op ∧ op < 148) ∨ (184 ≤ op ∧ op < 192)) → ¬ (152 ≤ op ∧ op < 156) → ¬ (256 ≤ op ∧ op < 320) → wY_act_127 post P F C g.1 g.2.1 g.2.2.1 (nI op) A E Wh Dp Mo (zp_ME M) g.2.2.2.1 g.2.2.2.2.1 g.2.2.2.2.2 := by
    intro a1 a2 a3 a4
    exact pk_le op 319 (fun _ => K154 a1 a2 a3 (by omega)) (fun _ => pk_le 384 op (fun _ => K154 a1 a2 a3 (by omega)) (fun _ => h5 (by omega)))
  have K100 : ¬ (128 ≤ op ∧ op < 144) → ¬ ((144 ≤ op ∧ op < 148) ∨ (184 ≤ op ∧ op < 192)) → ¬ (152 ≤ op ∧ op < 156) → wY_act_100 post P F C g.1 g.2.1 g.2.2.1 (nI op) A E Wh Dp Mo (zp_ME M) g.2.2.2.1 g.2.2.2.2.1 g.2.2.2.2.2 := by
    intro a1 a2 a3
    exact pk_le op 255 (fun _ => K127 a1 a2 a3 (by omega)) (fun _ => pk_le 320 op (fun _ => K127 a1 a2 a3 (by omega)) (fun _ => h4 (by omega)))
  have K73 : ¬ (128 ≤ op ∧ op < 144) → ¬ ((144 ≤ op ∧ op < 148) ∨ (184 ≤ op ∧ op < 192)) → wY_act_73 post P F C g.1 g.2.1 g.2.2.1 (nI op) A E Wh Dp Mo (zp_ME M) g.2.2.2.1 g.2.2.2.2.1 g.2.2.2.2.2 := by
    intro a1 a2
    exact pk_le op 151 (fun _ => K100 a1 a2 (by omega)) (fun _ => pk_le 156 op (fun _ => K100 a1 a2 (by omega)) (fun _ => h3 (by omega)))
  have K46 : ¬ (128 ≤ op ∧ op < 144) → ¬ (144 ≤ op ∧ op < 148) → wY_act_46 post P F C g.1 g.2.1 g.2.2.1 (nI op) A E Wh Dp Mo (zp_ME M) g.2.2.2.1 g.2.2.2.2.1 g.2.2.2.2.2 := by
    intro a1 a2
    exact pk_le op 183 (fun _ => K73 a1 (by omega)) (fun _ => pk_le 192 op (fun _ => K73 a1 (by omega)) (fun _ => h2 (by omega)))
  have K26 : ¬ (128 ≤ op ∧ op < 144) → wY_act_26 post P F C g.1 g.2.1 g.2.2.1 (nI op) A E Wh Dp Mo (zp_ME M) g.2.2.2.1 g.2.2.2.2.1 g.2.2.2.2.2 := by
    intro a1
    exact pk_le op 143 (fun _ => K46 a1 (by omega)) (fun _ => pk_lt op 148 (fun _ => h2 (by omega)) (fun _ => K46 a1 (by omega)))
  exact pk_le op 127 (fun _ => K26 (by omega)) (fun _ => pk_le 144 op (fun _ => K26 (by omega)) (fun _ => h1 (by omega)))
end
section
variable {P F C A E : Int32} {p op ac e x y r m n b B : Nat} {M : Nat → Nat} {k : zx_K} {d : zx_D} {g : zy_D} {q : Int32 × Int32 × Int32}
theorem zo_illegal (c : zo_ctx p F op ac e M) (R : zp_RD B d g) :
    zo_res M (fun x y r k post => wpX_illegal post (zx_S p F 0 ac e x y r M k d)) (fun post => post (zy_S p F 2 op ac e q M g)) op ac e q B := by
  obtain ⟨hp, hF, hop, hac, he, hM⟩ := c
  exact ⟨-2, 2, 2, p, F, M, q, d, g, hp, hF, hM, zp_RDup R (by omega), fun x y r k hx hy hr hk post H => H _ _ _ k hx hy hr hk, fun post H => H, Or.inr (Or.inl ⟨rfl, rfl, Or.inl rfl, rfl⟩)⟩
theorem zo_jrst (c : zo_ctx p F op ac e M) (R : zp_RD B d g) (ho : op = 172) :
    zo_res M (fun x y r k post => wpX_special post (zx_S p F 0 ac e x y r M k d) (nI (op - 168))) (fun post => wpY_others post (zy_S p F 0 op ac e q M g)) op ac e q B := by
  obtain ⟨hp, hF, hop, hac, he, hM⟩ := c
  subst ho
  by_cases h : ac = 4
  · refine ⟨-1, 1, 1, e, F, M, q, d, g, he, hF, hM, zp_RDup R (by omega), ?_, ?_, Or.inl ⟨rfl, rfl, Or.inr rfl, rfl⟩⟩
    · intro x y r k hx hy hr hk post H
      exact br_f (by decide) (br_f (by decide) (br_f (by decide) (br_f (by decide) (br_f (by decide) (br_f (by decide) (br_t rfl (pk_eq ac 4 (fun _ => H _ _ _ k hx hy hr hk) (fun z => absurd h z))))))))
    · intro post H
      unfold wpY_others
      refine zy_accumulator hac ?_
      exact br_f (by decide) (br_f (by decide) (br_f (by decide) (br_f (by decide) (br_f (by decide) (br_f (by decide) (br_t rfl (pk_eq ac 4 (fun _ => H) (fun z => absurd h z))))))))
  · refine ⟨-1, 0, 0, e, F, M, q, d, g, he, hF, hM, zp_RDup R (by omega), ?_, ?_, Or.inl ⟨rfl, rfl, Or.inl rfl, rfl⟩⟩
    · intro x y r k hx hy hr hk post H
      exact br_f (by decide) (br_f (by decide) (br_f (by decide) (br_f (by decide) (br_f (by decide) (br_f (by decide) (br_t rfl (pk_eq ac 4 (fun z => absurd z h) (fun _ => H _ _ _ k hx hy hr hk))))))))
    · intro post H
      unfold wpY_others
      refine zy_accumulator hac ?_
      exact br_f (by decide) (br_f (by decide) (br_f (by decide) (br_f (by decide) (br_f (by decide) (br_f (by decide) (br_t rfl (pk_eq ac 4 (fun z => absurd z h) (fun _ => H))))))))
/-- another one in its place -/
theorem zy_instead {post : SY → Prop} {F O A E : Int32} {t : Nat} {t' : Int32} (ht : t' = nI t) (H : ∀ CY : Int32, ((q.2.1 + 1 = 9 ∧ CY = 4) ∨ (¬ q.2.1 + 1 = 9 ∧ CY = 0)) → post (zy_G P F CY O A E (nI t) (q.2.1 + 1) 1 M g)) :
    wpY_instead post (zy_G P F 0 O A E q.1 q.2.1 q.2.2 M g) t' := by
  subst ht
  refine nm_e ?_
  by_cases h : q.2.1 + 1 = 9
  · exact br_t h (H 4 (Or.inl ⟨h, rfl⟩))
  · exact br_f h (H 0 (Or.inr ⟨h, rfl⟩))
theorem zo_cy (q : Int32 × Int32 × Int32) : ∃ CY : Int32, (q.2.1 + 1 = 9 ∧ CY = 4) ∨ (¬ q.2.1 + 1 = 9 ∧ CY = 0) := by
  by_cases h : q.2.1 + 1 = 9
  · exact ⟨4, Or.inl ⟨h, rfl⟩⟩
  · exact ⟨0, Or.inr ⟨h, rfl⟩⟩
theorem zo_cyu {q : Int32 × Int32 × Int32} {a b : Int32} (h1 : (q.2.1 + 1 = 9 ∧ a = 4) ∨ (¬ q.2.1 + 1 = 9 ∧ a = 0)) (h2 : (q.2.1 + 1 = 9 ∧ b = 4) ∨ (¬ q.2.1 + 1 = 9 ∧ b = 0)) : b = a := by
  rcases h1 with ⟨h1, rfl⟩ | ⟨h1, rfl⟩ <;> rcases h2 with ⟨h2, rfl⟩ | ⟨h2, rfl⟩
  · rfl
  · exact absurd h1 h2
  · exact absurd h2 h1
  · rfl
theorem zo_xct (c : zo_ctx p F op ac e M) (R : zp_RD B d g) (ho : op = 174) :
    zo_res M (fun x y r k post => wpX_special post (zx_S p F 0 ac e x y r M k d) (nI (op - 168))) (fun post => wpY_others post (zy_S p F 0 op ac e q M g)) op ac e q B := by
  obtain ⟨hp, hF, hop, hac, he, hM⟩ := c
  subst ho
  obtain ⟨CY, hCY⟩ := zo_cy q
  refine ⟨nI (e % 256), 0, CY, p, F, M, (nI (e % 256), q.2.1 + 1, 1), d, g, hp, hF, hM, zp_RDup R (by omega), ?_, ?_, Or.inr (Or.inr ⟨e % 256, by omega, rfl, rfl, rfl, hCY⟩)⟩
  · intro x y r k hx hy hr hk post H
    refine br_f (by decide) (br_f (by decide) (br_f (by decide) (br_f (by decide) (br_f (by decide) (br_f (by decide) (br_f (by decide) (br_f (by decide) (br_t rfl ?_))))))))
    show post (nI e &&& 255) (zx_S p F 0 ac e x y r M k d)
    rw [zn_m8]
    exact H _ _ _ k hx hy hr hk
  · intro post H
    unfold wpY_others
    refine zy_accumulator hac ?_
    refine br_f (by decide) (br_t (by decide) ?_)
    refine zy_instead (t := e % 256) (zn_m8 e) (fun C' hC' => ?_)
    rw [zo_cyu hCY hC']
    exact H
theorem zo_trap (c : zo_ctx p F op ac e M) (R : zp_RD B d g) (ho : op < 64) :
    zo_res M (fun x y r k post => wpX_write (fun u => post 33 u) (zx_S p F 0 ac e x y r M k d) 32 ((nI op <<< ((9 : Int32) &&& 31)) ||| (nI ac <<< ((5 : Int32) &&& 31))) (nI e)) (fun post => wpY_trap post (zy_S p F 0 op ac e q M g)) op ac e q B := by
  obtain ⟨hp, hF, hop, hac, he, hM⟩ := c
  obtain ⟨CY, hCY⟩ := zo_cy q
  have eh : (nI op <<< ((9 : Int32) &&& 31)) ||| (nI ac <<< ((5 : Int32) &&& 31)) = nI (op * 512 + ac * 32) := by
    rw [zn_shl9 (by omega), zn_shl5 (by omega), zn_or]
    have := zp_orS 9 (ac * 32) op (by rw [show (2 ^ 9 : Nat) = 512 from rfl]; omega)
    rw [show (2 ^ 9 : Nat) = 512 from rfl] at this
    rw [this]
  have el : (((nI op).toInt64 <<< ((27 : Int32).toInt64 &&& 63)) ||| ((nI ac).toInt64 <<< ((23 : Int32).toInt64 &&& 63))) ||| (nI e).toInt64 = lN ((op * 512 + ac * 32) * 262144 + e) := by
    rw [nI_l (by omega), nI_l (by omega), nI_l (by omega), zl_shl27, zl_shl23, zl_or, zl_or]
    have e27 : (2 ^ 27 : Nat) = 134217728 := rfl
    have := zp_orS 27 (ac * 8388608) op (by rw [e27]; omega)
    rw [e27] at this
    rw [this, show op * 134217728 + ac * 8388608 = (op * 512 + ac * 32) * 262144 by omega, zp_or18 _ he]
  refine ⟨33, 0, CY, p, F, zp_up M 32 ((op * 512 + ac * 32) * 262144 + e), (nI 33, q.2.1 + 1, 1), d, g, hp, hF, zp_MWu hM (by omega), zp_RDup R (by omega), ?_, ?_, Or.inr (Or.inr ⟨33, by decide, rfl, rfl, rfl, hCY⟩)⟩
  · intro x y r k hx hy hr hk post H
    refine zx_write hk 32 ((op * 512 + ac * 32) * 262144 + e) rfl ?_ ?_ (fun k' hk' => H _ _ _ k' hx hy hr hk')
    · rw [eh]
      exact congrArg nI (by omega)
    · exact congrArg nI (by omega)
  · intro post H
    unfold wpY_trap
    refine nm_r (e' := zp_ME (zp_up M 32 ((op * 512 + ac * 32) * 262144 + e))) (by show vp_updL (zp_ME M) 32 ((((nI op).toInt64 <<< ((27 : Int32).toInt64 &&& 63)) ||| ((nI ac).toInt64 <<< ((23 : Int32).toInt64 &&& 63))) ||| (nI e).toInt64) = _; rw [el, zp_MEu]) ?_
    refine zy_instead (t := 33) rfl (fun C' hC' => ?_)
    rw [zo_cyu hCY hC']
    exact H
end
end
section
/-! every instruction, by its number -/
section
variable {F : Int32} {p op ac e x y r B : Nat} {M : Nat → Nat} {k : zx_K} {d : zx_D} {g : zy_D} {q : Int32 × Int32 × Int32}
theorem zq_move (c : zo_ctx p F op ac e M) (R : zp_RD B d g) (h1 : 128 ≤ op) (h2 : op < 144) : zo_res M (fun x y r k post => wpX_perform post (zx_S p F 0 ac e x y r M k d) (nI op)) (fun post => wpY_act post (zy_S p F 0 op ac e q M g)) op ac e q B := by
  have hop : op < 512 := c.2.2.1
  exact zo_ofgood R (zo_move c) (fun x y r k post h => zd_perform hop (fun z => by omega) (fun z => by omega) (fun _ => zd_computes hop (fun _ => h) (fun z => by omega) (fun z => by omega) (fun z => by omega) (fun z => by omega) (fun z => by omega) (fun z => by omega) (fun z => by omega)) (fun z => by omega) (fun z => by omega) (fun z => by omega) (fun z => by omega) (fun z => by omega)) (fun post h => zd_act hop (fun _ => h) (fun z => by omega) (fun z => by omega) (fun z => by omega) (fun z => by omega) (fun z => by omega) (fun z => by omega) (fun z => by omega) (fun z => by omega) (fun z => by omega) (fun z => by omega) (fun z => by omega) (fun z => by omega) (fun z => by omega))
theorem zq_mul (c : zo_ctx p F op ac e M) (R : zp_RD B d g) (h1 : 144 ≤ op) (h2 : op < 148) : zo_res M (fun x y r k post => wpX_perform post (zx_S p F 0 ac e x y r M k d) (nI op)) (fun post => wpY_act post (zy_S p F 0 op ac e q M g)) op ac e q B := by
  have hop : op < 512 := c.2.2.1
  exact zo_ofgood R (zo_mul c (by omega)) (fun x y r k post h => zd_perform hop (fun z => by omega) (fun z => by omega) (fun _ => zd_computes hop (fun z => by omega) (fun _ => h) (fun z => by omega) (fun z => by omega) (fun z => by omega) (fun z => by omega) (fun z => by omega) (fun z => by omega)) (fun z => by omega) (fun z => by omega) (fun z => by omega) (fun z => by omega) (fun z => by omega)) (fun post h => zd_act hop (fun z => by omega) (fun _ => h) (fun z => by omega) (fun z => by omega) (fun z => by omega) (fun z => by omega) (fun z => by omega) (fun z => by omega) (fun z => by omega) (fun z => by omega) (fun z => by omega) (fun z => by omega) (fun z => by omega) (fun z => by omega))
theorem zq_add (c : zo_ctx p F op ac e M) (R : zp_RD B d g) (h1 : 184 ≤ op) (h2 : op < 192) : zo_res M (fun x y r k post => wpX_perform post (zx_S p F 0 ac e x y r M k d) (nI op)) (fun post => wpY_act post (zy_S p F 0 op ac e q M g)) op ac e q B := by
  have hop : op < 512 := c.2.2.1
  exact zo_ofgood R (zo_addsub c (by omega) (by omega)) (fun x y r k post h => zd_perform hop (fun z => by omega) (fun z => by omega) (fun _ => zd_computes hop (fun z => by omega) (fun z => by omega) (fun z => by omega) (fun z => by omega) (fun z => by omega) (fun z => by omega) (fun z => by omega) (fun _ => h)) (fun z => by omega) (fun z => by omega) (fun z => by omega) (fun z => by omega) (fun z => by omega)) (fun post h => zd_act hop (fun z => by omega) (fun _ => h) (fun z => by omega) (fun z => by omega) (fun z => by omega) (fun z => by omega) (fun z => by omega) (fun z => by omega) (fun z => by omega) (fun z => by omega) (fun z => by omega) (fun z => by omega) (fun z => by omega) (fun z => by omega))
theorem zq_div (c : zo_ctx p F op ac e M) (R : zp_RD B d g) (h1 : 152 ≤ op) (h2 : op < 156) : zo_res M (fun x y r k post => wpX_perform post (zx_S p F 0 ac e x y r M k d) (nI op)) (fun post => wpY_act post (zy_S p F 0 op ac e q M g)) op ac e q B := by
  have hop : op < 512 := c.2.2.1
  exact zo_ofgood R (zo_div c) (fun x y r k post h => zd_perform hop (fun z => by omega) (fun z => by omega) (fun _ => zd_computes hop (fun z => by omega) (fun z => by omega) (fun z => by omega) (fun _ => h) (fun z => by omega) (fun z => by omega) (fun z => by omega) (fun z => by omega)) (fun z => by omega) (fun z => by omega) (fun z => by omega) (fun z => by omega) (fun z => by omega)) (fun post h => zd_act hop (fun z => by omega) (fun z => by omega) (fun _ => h) (fun z => by omega) (fun z => by omega) (fun z => by omega) (fun z => by omega) (fun z => by omega) (fun z => by omega) (fun z => by omega) (fun z => by omega) (fun z => by omega) (fun z => by omega) (fun z => by omega))
theorem zq_logic (c : zo_ctx p F op ac e M) (R : zp_RD B d g) (h1 : 256 ≤ op) (h2 : op < 320) : zo_res M (fun x y r k post => wpX_perform post (zx_S p F 0 ac e x y r M k d) (nI op)) (fun post => wpY_act post (zy_S p F 0 op ac e q M g)) op ac e q B := by
  have hop : op < 512 := c.2.2.1
  exact zo_ofgood R (zo_logic c) (fun x y r k post h => zd_perform hop (fun z => by omega) (fun z => by omega) (fun z => by omega) (fun z => by omega) (fun _ => h) (fun z => by omega) (fun z => by omega) (fun z => by omega)) (fun post h => zd_act hop (fun z => by omega) (fun z => by omega) (fun z => by omega) (fun _ => h) (fun z => by omega) (fun z => by omega) (fun z => by omega) (fun z => by omega) (fun z => by omega) (fun z => by omega) (fun z => by omega) (fun z => by omega) (fun z => by omega) (fun z => by omega))
theorem zq_half (c : zo_ctx p F op ac e M) (R : zp_RD B d g) (h1 : 320 ≤ op) (h2 : op < 384) : zo_res M (fun x y r k post => wpX_perform post (zx_S p F 0 ac e x y r M k d) (nI op)) (fun post => wpY_act post (zy_S p F 0 op ac e q M g)) op ac e q B := by
  have hop : op < 512 := c.2.2.1
  exact zo_ofgood R (zo_half c) (fun x y r k post h => zd_perform hop (fun z => by omega) (fun z => by omega) (fun z => by omega) (fun z => by omega) (fun z => by omega) (fun _ => h) (fun z => by omega) (fun z => by omega)) (fun post h => zd_act hop (fun z => by omega) (fun z => by omega) (fun z => by omega) (fun z => by omega) (fun _ => h) (fun z => by omega) (fun z => by omega) (fun z => by omega) (fun z => by omega) (fun z => by omega) (fun z => by omega) (fun z => by omega) (fun z => by omega) (fun z => by omega))
theorem zq_test (c : zo_ctx p F op ac e M) (R : zp_RD B d g) (h1 : 384 ≤ op) (h2 : op < 448) : zo_res M (fun x y r k post => wpX_perform post (zx_S p F 0 ac e x y r M k d) (nI op)) (fun post => wpY_act post (zy_S p F 0 op ac e q M g)) op ac e q B := by
  have hop : op < 512 := c.2.2.1
  exact zo_ofgood R (zo_test c) (fun x y r k post h => zd_perform hop (fun z => by omega) (fun z => by omega) (fun z => by omega) (fun z => by omega) (fun z => by omega) (fun z => by omega) (fun _ => h) (fun z => by omega)) (fun post h => zd_act hop (fun z => by omega) (fun z => by omega) (fun z => by omega) (fun z => by omega) (fun z => by omega) (fun _ => h) (fun z => by omega) (fun z => by omega) (fun z => by omega) (fun z => by omega) (fun z => by omega) (fun z => by omega) (fun z => by omega) (fun z => by omega))
theorem zq_compare (c : zo_ctx p F op ac e M) (R : zp_RD B d g) (h1 : 192 ≤ op) (h2 : op < 256) : zo_res M (fun x y r k post => wpX_perform post (zx_S p F 0 ac e x y r M k d) (nI op)) (fun post => wpY_act post (zy_S p F 0 op ac e q M g)) op ac e q B := by
  have hop : op < 512 := c.2.2.1
  exact zo_ofgood R (zo_compare c) (fun x y r k post h => zd_perform hop (fun z => by omega) (fun z => by omega) (fun z => by omega) (fun _ => h) (fun z => by omega) (fun z => by omega) (fun z => by omega) (fun z => by omega)) (fun post h => zd_act hop (fun z => by omega) (fun z => by omega) (fun z => by omega) (fun z => by omega) (fun z => by omega) (fun z => by omega) (fun _ => h) (fun z => by omega) (fun z => by omega) (fun z => by omega) (fun z => by omega) (fun z => by omega) (fun z => by omega) (fun z => by omega))
theorem zq_bytes (c : zo_ctx p F op ac e M) (R : zp_RD B d g) (h1 : 91 ≤ op) (h2 : op < 96) : zo_res M (fun x y r k post => wpX_perform post (zx_S p F 0 ac e x y r M k d) (nI op)) (fun post => wpY_act post (zy_S p F 0 op ac e q M g)) op ac e q B := by
  have hop : op < 512 := c.2.2.1
  exact zo_ofgs R (zo_bytes c h1 h2) (fun x y r k post h => zd_perform hop (fun z => by omega) (fun z => by omega) (fun z => by omega) (fun z => by omega) (fun z => by omega) (fun z => by omega) (fun z => by omega) (fun _ => zd_other hop (fun z => by omega) (fun z => by omega) (fun _ => h))) (fun post h => zd_act hop (fun z => by omega) (fun z => by omega) (fun z => by omega) (fun z => by omega) (fun z => by omega) (fun z => by omega) (fun z => by omega) (fun _ => h) (fun z => by omega) (fun z => by omega) (fun z => by omega) (fun z => by omega) (fun z => by omega) (fun z => by omega))
theorem zq_device (c : zo_ctx p F op ac e M) (R : zp_RD B d g) (hB : B < 1000000000) (h1 : op = 448) : zo_res M (fun x y r k post => wpX_perform post (zx_S p F 0 ac e x y r M k d) (nI op)) (fun post => wpY_act post (zy_S p F 0 op ac e q M g)) op ac e q B := by
  have hop : op < 512 := c.2.2.1
  exact zo_mono (zo_device c R hB) (fun x y r k post h => zd_perform hop (fun z => by omega) (fun z => by omega) (fun z => by omega) (fun z => by omega) (fun z => by omega) (fun z => by omega) (fun z => by omega) (fun _ => zd_other hop (fun _ => h) (fun z => by omega) (fun z => by omega))) (fun post h => zd_act hop (fun z => by omega) (fun z => by omega) (fun z => by omega) (fun z => by omega) (fun z => by omega) (fun z => by omega) (fun z => by omega) (fun z => by omega) (fun z => by omega) (fun z => by omega) (fun z => by omega) (fun _ => h) (fun z => by omega) (fun z => by omega))
theorem zq_trap (c : zo_ctx p F op ac e M) (R : zp_RD B d g) (h1 : 0 < op) (h2 : op < 64) : zo_res M (fun x y r k post => wpX_perform post (zx_S p F 0 ac e x y r M k d) (nI op)) (fun post => wpY_act post (zy_S p F 0 op ac e q M g)) op ac e q B := by
  have hop : op < 512 := c.2.2.1
  exact zo_mono (zo_trap c R h2) (fun x y r k post h => zd_perform hop (fun z => by omega) (fun _ => h) (fun z => by omega) (fun z => by omega) (fun z => by omega) (fun z => by omega) (fun z => by omega) (fun z => by omega)) (fun post h => zd_act hop (fun z => by omega) (fun z => by omega) (fun z => by omega) (fun z => by omega) (fun z => by omega) (fun z => by omega) (fun z => by omega) (fun z => by omega) (fun z => by omega) (fun z => by omega) (fun z => by omega) (fun z => by omega) (fun _ => h) (fun z => by omega))
theorem zq_shift1 (c : zo_ctx p F op ac e M) (R : zp_RD B d g) (h1 : op = 160 ∨ op = 161 ∨ op = 162) : zo_res M (fun x y r k post => wpX_perform post (zx_S p F 0 ac e x y r M k d) (nI op)) (fun post => wpY_act post (zy_S p F 0 op ac e q M g)) op ac e q B := by
  have hop : op < 512 := c.2.2.1
  have e7 : nI op &&& 7 = nI (op - 160) := by rw [zn_m3]; exact congrArg nI (by omega)
  exact zo_ofgood R (zo_shift1 c h1) (fun x y r k post h => zd_perform hop (fun z => by omega) (fun z => by omega) (fun _ => zd_computes hop (fun z => by omega) (fun z => by omega) (fun z => by omega) (fun z => by omega) (fun _ => by unfold wX_computes_190; rw [e7]; exact h) (fun z => by omega) (fun z => by omega) (fun z => by omega)) (fun z => by omega) (fun z => by omega) (fun z => by omega) (fun z => by omega) (fun z => by omega)) (fun post h => zd_act hop (fun z => by omega) (fun z => by omega) (fun z => by omega) (fun z => by omega) (fun z => by omega) (fun z => by omega) (fun z => by omega) (fun z => by omega) (fun _ => h) (fun z => by omega) (fun z => by omega) (fun z => by omega) (fun z => by omega) (fun z => by omega))
theorem zq_shift2 (c : zo_ctx p F op ac e M) (R : zp_RD B d g) (h1 : op = 165 ∨ op = 166) : zo_res M (fun x y r k post => wpX_perform post (zx_S p F 0 ac e x y r M k d) (nI op)) (fun post => wpY_act post (zy_S p F 0 op ac e q M g)) op ac e q B := by
  have hop : op < 512 := c.2.2.1
  have e7 : nI op &&& 7 = nI (op - 160) := by rw [zn_m3]; exact congrArg nI (by omega)
  exact zo_ofgood R (zo_shift2 c h1) (fun x y r k post h => zd_perform hop (fun z => by omega) (fun z => by omega) (fun _ => zd_computes hop (fun z => by omega) (fun z => by omega) (fun z => by omega) (fun z => by omega) (fun _ => by unfold wX_computes_190; rw [e7]; exact h) (fun z => by omega) (fun z => by omega) (fun z => by omega)) (fun z => by omega) (fun z => by omega) (fun z => by omega) (fun z => by omega) (fun z => by omega)) (fun post h => zd_act hop (fun z => by omega) (fun z => by omega) (fun z => by omega) (fun z => by omega) (fun z => by omega) (fun z => by omega) (fun z => by omega) (fun z => by omega) (fun _ => h) (fun z => by omega) (fun z => by omega) (fun z => by omega) (fun z => by omega) (fun z => by omega))
theorem zq_jff (c : zo_ctx p F op ac e M) (R : zp_RD B d g) (h1 : op = 163) : zo_res M (fun x y r k post => wpX_perform post (zx_S p F 0 ac e x y r M k d) (nI op)) (fun post => wpY_act post (zy_S p F 0 op ac e q M g)) op ac e q B := by
  have hop : op < 512 := c.2.2.1
  have e7 : nI op &&& 7 = nI (op - 160) := by rw [zn_m3]; exact congrArg nI (by omega)
  exact zo_ofgood R (zo_jff c h1) (fun x y r k post h => zd_perform hop (fun z => by omega) (fun z => by omega) (fun _ => zd_computes hop (fun z => by omega) (fun z => by omega) (fun z => by omega) (fun z => by omega) (fun _ => by unfold wX_computes_190; rw [e7]; exact h) (fun z => by omega) (fun z => by omega) (fun z => by omega)) (fun z => by omega) (fun z => by omega) (fun z => by omega) (fun z => by omega) (fun z => by omega)) (fun post h => zd_act hop (fun z => by omega) (fun z => by omega) (fun z => by omega) (fun z => by omega) (fun z => by omega) (fun z => by omega) (fun z => by omega) (fun z => by omega) (fun _ => h) (fun z => by omega) (fun z => by omega) (fun z => by omega) (fun z => by omega) (fun z => by omega))
theorem zq_exch (c : zo_ctx p F op ac e M) (R : zp_RD B d g) (h1 : op = 168) : zo_res M (fun x y r k post => wpX_perform post (zx_S p F 0 ac e x y r M k d) (nI op)) (fun post => wpY_act post (zy_S p F 0 op ac e q M g)) op ac e q B := by
  have hop : op < 512 := c.2.2.1
  have e7 : nI op &&& 7 = nI (op - 168) := by rw [zn_m3]; exact congrArg nI (by omega)
  exact zo_ofgood R (zo_exch c h1) (fun x y r k post h => zd_perform hop (fun z => by omega) (fun z => by omega) (fun _ => zd_computes hop (fun z => by omega) (fun z => by omega) (fun z => by omega) (fun z => by omega) (fun z => by omega) (fun _ => by unfold wX_computes_199; rw [e7]; exact h) (fun z => by omega) (fun z => by omega)) (fun z => by omega) (fun z => by omega) (fun z => by omega) (fun z => by omega) (fun z => by omega)) (fun post h => zd_act hop (fun z => by omega) (fun z => by omega) (fun z => by omega) (fun z => by omega) (fun z => by omega) (fun z => by omega) (fun z => by omega) (fun z => by omega) (fun z => by omega) (fun _ => h) (fun z => by omega) (fun z => by omega) (fun z => by omega) (fun z => by omega))
theorem zq_block (c : zo_ctx p F op ac e M) (R : zp_RD B d g) (h1 : op = 169) : zo_res M (fun x y r k post => wpX_perform post (zx_S p F 0 ac e x y r M k d) (nI op)) (fun post => wpY_act post (zy_S p F 0 op ac e q M g)) op ac e q B := by
  have hop : op < 512 := c.2.2.1
  have e7 : nI op &&& 7 = nI (op - 168) := by rw [zn_m3]; exact congrArg nI (by omega)
  exact zo_ofgood R (zo_block c h1) (fun x y r k post h => zd_perform hop (fun z => by omega) (fun z => by omega) (fun _ => zd_computes hop (fun z => by omega) (fun z => by omega) (fun z => by omega) (fun z => by omega) (fun z => by omega) (fun _ => by unfold wX_computes_199; rw [e7]; exact h) (fun z => by omega) (fun z => by omega)) (fun z => by omega) (fun z => by omega) (fun z => by omega) (fun z => by omega) (fun z => by omega)) (fun post h => zd_act hop (fun z => by omega) (fun z => by omega) (fun z => by omega) (fun z => by omega) (fun z => by omega) (fun z => by omega) (fun z => by omega) (fun z => by omega) (fun z => by omega) (fun _ => h) (fun z => by omega) (fun z => by omega) (fun z => by omega) (fun z => by omega))
theorem zq_jrst (c : zo_ctx p F op ac e M) (R : zp_RD B d g) (h1 : op = 172) : zo_res M (fun x y r k post => wpX_perform post (zx_S p F 0 ac e x y r M k d) (nI op)) (fun post => wpY_act post (zy_S p F 0 op ac e q M g)) op ac e q B := by
  have hop : op < 512 := c.2.2.1
  have e7 : nI op &&& 7 = nI (op - 168) := by rw [zn_m3]; exact congrArg nI (by omega)
  exact zo_mono (zo_jrst c R h1) (fun x y r k post h => zd_perform hop (fun z => by omega) (fun z => by omega) (fun _ => zd_computes hop (fun z => by omega) (fun z => by omega) (fun z => by omega) (fun z => by omega) (fun z => by omega) (fun _ => by unfold wX_computes_199; rw [e7]; exact h) (fun z => by omega) (fun z => by omega)) (fun z => by omega) (fun z => by omega) (fun z => by omega) (fun z => by omega) (fun z => by omega)) (fun post h => zd_act hop (fun z => by omega) (fun z => by omega) (fun z => by omega) (fun z => by omega) (fun z => by omega) (fun z => by omega) (fun z => by omega) (fun z => by omega) (fun z => by omega) (fun _ => h) (fun z => by omega) (fun z => by omega) (fun z => by omega) (fun z => by omega))
theorem zq_jfcl (c : zo_ctx p F op ac e M) (R : zp_RD B d g) (h1 : op = 173) : zo_res M (fun x y r k post => wpX_perform post (zx_S p F 0 ac e x y r M k d) (nI op)) (fun post => wpY_act post (zy_S p F 0 op ac e q M g)) op ac e q B := by
  have hop : op < 512 := c.2.2.1
  have e7 : nI op &&& 7 = nI (op - 168) := by rw [zn_m3]; exact congrArg nI (by omega)
  exact zo_ofgood R (zo_jfcl c h1) (fun x y r k post h => zd_perform hop (fun z => by omega) (fun z => by omega) (fun _ => zd_computes hop (fun z => by omega) (fun z => by omega) (fun z => by omega) (fun z => by omega) (fun z => by omega) (fun _ => by unfold wX_computes_199; rw [e7]; exact h) (fun z => by omega) (fun z => by omega)) (fun z => by omega) (fun z => by omega) (fun z => by omega) (fun z => by omega) (fun z => by omega)) (fun post h => zd_act hop (fun z => by omega) (fun z => by omega) (fun z => by omega) (fun z => by omega) (fun z => by omega) (fun z => by omega) (fun z => by omega) (fun z => by omega) (fun z => by omega) (fun _ => h) (fun z => by omega) (fun z => by omega) (fun z => by omega) (fun z => by omega))
theorem zq_xct (c : zo_ctx p F op ac e M) (R : zp_RD B d g) (h1 : op = 174) : zo_res M (fun x y r k post => wpX_perform post (zx_S p F 0 ac e x y r M k d) (nI op)) (fun post => wpY_act post (zy_S p F 0 op ac e q M g)) op ac e q B := by
  have hop : op < 512 := c.2.2.1
  have e7 : nI op &&& 7 = nI (op - 168) := by rw [zn_m3]; exact congrArg nI (by omega)
  exact zo_mono (zo_xct c R h1) (fun x y r k post h => zd_perform hop (fun z => by omega) (fun z => by omega) (fun _ => zd_computes hop (fun z => by omega) (fun z => by omega) (fun z => by omega) (fun z => by omega) (fun z => by omega) (fun _ => by unfold wX_computes_199; rw [e7]; exact h) (fun z => by omega) (fun z => by omega)) (fun z => by omega) (fun z => by omega) (fun z => by omega) (fun z => by omega) (fun z => by omega)) (fun post h => zd_act hop (fun z => by omega) (fun z => by omega) (fun z => by omega) (fun z => by omega) (fun z => by omega) (fun z => by omega) (fun z => by omega) (fun z => by omega) (fun z => by omega) (fun _ => h) (fun z => by omega) (fun z => by omega) (fun z => by omega) (fun z => by omega))
theorem zq_aobj (c : zo_ctx p F op ac e M) (R : zp_RD B d g) (h1 : op = 170 ∨ op = 171) : zo_res M (fun x y r k post => wpX_perform post (zx_S p F 0 ac e x y r M k d) (nI op)) (fun post => wpY_act post (zy_S p F 0 op ac e q M g)) op ac e q B := by
  have hop : op < 512 := c.2.2.1
  have e7 : nI op &&& 7 = nI (op - 168) := by rw [zn_m3]; exact congrArg nI (by omega)
  exact zo_ofgood R (zo_aobj c h1) (fun x y r k post h => zd_perform hop (fun z => by omega) (fun z => by omega) (fun _ => zd_computes hop (fun z => by omega) (fun z => by omega) (fun z => by omega) (fun z => by omega) (fun z => by omega) (fun _ => by unfold wX_computes_199; rw [e7]; exact h) (fun z => by omega) (fun z => by omega)) (fun z => by omega) (fun z => by omega) (fun z => by omega) (fun z => by omega) (fun z => by omega)) (fun post h => zd_act hop (fun z => by omega) (fun z => by omega) (fun z => by omega) (fun z => by omega) (fun z => by omega) (fun z => by omega) (fun z => by omega) (fun z => by omega) (fun z => by omega) (fun _ => h) (fun z => by omega) (fun z => by omega) (fun z => by omega) (fun z => by omega))
theorem zq_pushj (c : zo_ctx p F op ac e M) (R : zp_RD B d g) (h1 : op = 176) : zo_res M (fun x y r k post => wpX_perform post (zx_S p F 0 ac e x y r M k d) (nI op)) (fun post => wpY_act post (zy_S p F 0 op ac e q M g)) op ac e q B := by
  have hop : op < 512 := c.2.2.1
  have e7 : nI op &&& 7 = nI (op - 176) := by rw [zn_m3]; exact congrArg nI (by omega)
  exact zo_ofgood R (zo_pushj c h1) (fun x y r k post h => zd_perform hop (fun z => by omega) (fun z => by omega) (fun _ => zd_computes hop (fun z => by omega) (fun z => by omega) (fun z => by omega) (fun z => by omega) (fun z => by omega) (fun z => by omega) (fun _ => by unfold wX_computes_208; rw [e7]; exact h) (fun z => by omega)) (fun z => by omega) (fun z => by omega) (fun z => by omega) (fun z => by omega) (fun z => by omega)) (fun post h => zd_act hop (fun z => by omega) (fun z => by omega) (fun z => by omega) (fun z => by omega) (fun z => by omega) (fun z => by omega) (fun z => by omega) (fun z => by omega) (fun z => by omega) (fun z => by omega) (fun _ => h) (fun z => by omega) (fun z => by omega) (fun z => by omega))
theorem zq_push (c : zo_ctx p F op ac e M) (R : zp_RD B d g) (h1 : op = 177) : zo_res M (fun x y r k post => wpX_perform post (zx_S p F 0 ac e x y r M k d) (nI op)) (fun post => wpY_act post (zy_S p F 0 op ac e q M g)) op ac e q B := by
  have hop : op < 512 := c.2.2.1
  have e7 : nI op &&& 7 = nI (op - 176) := by rw [zn_m3]; exact congrArg nI (by omega)
  exact zo_ofgood R (zo_push c h1) (fun x y r k post h => zd_perform hop (fun z => by omega) (fun z => by omega) (fun _ => zd_computes hop (fun z => by omega) (fun z => by omega) (fun z => by omega) (fun z => by omega) (fun z => by omega) (fun z => by omega) (fun _ => by unfold wX_computes_208; rw [e7]; exact h) (fun z => by omega)) (fun z => by omega) (fun z => by omega) (fun z => by omega) (fun z => by omega) (fun z => by omega)) (fun post h => zd_act hop (fun z => by omega) (fun z => by omega) (fun z => by omega) (fun z => by omega) (fun z => by omega) (fun z => by omega) (fun z => by omega) (fun z => by omega) (fun z => by omega) (fun z => by omega) (fun _ => h) (fun z => by omega) (fun z => by omega) (fun z => by omega))
theorem zq_pop (c : zo_ctx p F op ac e M) (R : zp_RD B d g) (h1 : op = 178) : zo_res M (fun x y r k post => wpX_perform post (zx_S p F 0 ac e x y r M k d) (nI op)) (fun post => wpY_act post (zy_S p F 0 op ac e q M g)) op ac e q B := by
  have hop : op < 512 := c.2.2.1
  have e7 : nI op &&& 7 = nI (op - 176) := by rw [zn_m3]; exact congrArg nI (by omega)
  exact zo_ofgood R (zo_pop c h1) (fun x y r k post h => zd_perform hop (fun z => by omega) (fun z => by omega) (fun _ => zd_computes hop (fun z => by omega) (fun z => by omega) (fun z => by omega) (fun z => by omega) (fun z => by omega) (fun z => by omega) (fun _ => by unfold wX_computes_208; rw [e7]; exact h) (fun z => by omega)) (fun z => by omega) (fun z => by omega) (fun z => by omega) (fun z => by omega) (fun z => by omega)) (fun post h => zd_act hop (fun z => by omega) (fun z => by omega) (fun z => by omega) (fun z => by omega) (fun z => by omega) (fun z => by omega) (fun z => by omega) (fun z => by omega) (fun z => by omega) (fun z => by omega) (fun _ => h) (fun z => by omega) (fun z => by omega) (fun z => by omega))
theorem zq_popj (c : zo_ctx p F op ac e M) (R : zp_RD B d g) (h1 : op = 179) : zo_res M (fun x y r k post => wpX_perform post (zx_S p F 0 ac e x y r M k d) (nI op)) (fun post => wpY_act post (zy_S p F 0 op ac e q M g)) op ac e q B := by
  have hop : op < 512 := c.2.2.1
  have e7 : nI op &&& 7 = nI (op - 176) := by rw [zn_m3]; exact congrArg nI (by omega)
  exact zo_ofgood R (zo_popj c h1) (fun x y r k post h => zd_perform hop (fun z => by omega) (fun z => by omega) (fun _ => zd_computes hop (fun z => by omega) (fun z => by omega) (fun z => by omega) (fun z => by omega) (fun z => by omega) (fun z => by omega) (fun _ => by unfold wX_computes_208; rw [e7]; exact h) (fun z => by omega)) (fun z => by omega) (fun z => by omega) (fun z => by omega) (fun z => by omega) (fun z => by omega)) (fun post h => zd_act hop (fun z => by omega) (fun z => by omega) (fun z => by omega) (fun z => by omega) (fun z => by omega) (fun z => by omega) (fun z => by omega) (fun z => by omega) (fun z => by omega) (fun z => by omega) (fun _ => h) (fun z => by omega) (fun z => by omega) (fun z => by omega))
theorem zq_jsr (c : zo_ctx p F op ac e M) (R : zp_RD B d g) (h1 : op = 180) : zo_res M (fun x y r k post => wpX_perform post (zx_S p F 0 ac e x y r M k d) (nI op)) (fun post => wpY_act post (zy_S p F 0 op ac e q M g)) op ac e q B := by
  have hop : op < 512 := c.2.2.1
  have e7 : nI op &&& 7 = nI (op - 176) := by rw [zn_m3]; exact congrArg nI (by omega)
  exact zo_ofgood R (zo_jsr c h1) (fun x y r k post h => zd_perform hop (fun z => by omega) (fun z => by omega) (fun _ => zd_computes hop (fun z => by omega) (fun z => by omega) (fun z => by omega) (fun z => by omega) (fun z => by omega) (fun z => by omega) (fun _ => by unfold wX_computes_208; rw [e7]; exact h) (fun z => by omega)) (fun z => by omega) (fun z => by omega) (fun z => by omega) (fun z => by omega) (fun z => by omega)) (fun post h => zd_act hop (fun z => by omega) (fun z => by omega) (fun z => by omega) (fun z => by omega) (fun z => by omega) (fun z => by omega) (fun z => by omega) (fun z => by omega) (fun z => by omega) (fun z => by omega) (fun _ => h) (fun z => by omega) (fun z => by omega) (fun z => by omega))
theorem zq_jsp (c : zo_ctx p F op ac e M) (R : zp_RD B d g) (h1 : op = 181) : zo_res M (fun x y r k post => wpX_perform post (zx_S p F 0 ac e x y r M k d) (nI op)) (fun post => wpY_act post (zy_S p F 0 op ac e q M g)) op ac e q B := by
  have hop : op < 512 := c.2.2.1
  have e7 : nI op &&& 7 = nI (op - 176) := by rw [zn_m3]; exact congrArg nI (by omega)
  exact zo_ofgood R (zo_jsp c h1) (fun x y r k post h => zd_perform hop (fun z => by omega) (fun z => by omega) (fun _ => zd_computes hop (fun z => by omega) (fun z => by omega) (fun z => by omega) (fun z => by omega) (fun z => by omega) (fun z => by omega) (fun _ => by unfold wX_computes_208; rw [e7]; exact h) (fun z => by omega)) (fun z => by omega) (fun z => by omega) (fun z => by omega) (fun z => by omega) (fun z => by omega)) (fun post h => zd_act hop (fun z => by omega) (fun z => by omega) (fun z => by omega) (fun z => by omega) (fun z => by omega) (fun z => by omega) (fun z => by omega) (fun z => by omega) (fun z => by omega) (fun z => by omega) (fun _ => h) (fun z => by omega) (fun z => by omega) (fun z => by omega))
theorem zq_jsa (c : zo_ctx p F op ac e M) (R : zp_RD B d g) (h1 : op = 182) : zo_res M (fun x y r k post => wpX_perform post (zx_S p F 0 ac e x y r M k d) (nI op)) (fun post => wpY_act post (zy_S p F 0 op ac e q M g)) op ac e q B := by
  have hop : op < 512 := c.2.2.1
  have e7 : nI op &&& 7 = nI (op - 176) := by rw [zn_m3]; exact congrArg nI (by omega)
  exact zo_ofgood R (zo_jsa c h1) (fun x y r k post h => zd_perform hop (fun z => by omega) (fun z => by omega) (fun _ => zd_computes hop (fun z => by omega) (fun z => by omega) (fun z => by omega) (fun z => by omega) (fun z => by omega) (fun z => by omega) (fun _ => by unfold wX_computes_208; rw [e7]; exact h) (fun z => by omega)) (fun z => by omega) (fun z => by omega) (fun z => by omega) (fun z => by omega) (fun z => by omega)) (fun post h => zd_act hop (fun z => by omega) (fun z => by omega) (fun z => by omega) (fun z => by omega) (fun z => by omega) (fun z => by omega) (fun z => by omega) (fun z => by omega) (fun z => by omega) (fun z => by omega) (fun _ => h) (fun z => by omega) (fun z => by omega) (fun z => by omega))
theorem zq_jra (c : zo_ctx p F op ac e M) (R : zp_RD B d g) (h1 : op = 183) : zo_res M (fun x y r k post => wpX_perform post (zx_S p F 0 ac e x y r M k d) (nI op)) (fun post => wpY_act post (zy_S p F 0 op ac e q M g)) op ac e q B := by
  have hop : op < 512 := c.2.2.1
  have e7 : nI op &&& 7 = nI (op - 176) := by rw [zn_m3]; exact congrArg nI (by omega)
  exact zo_ofgood R (zo_jra c h1) (fun x y r k post h => zd_perform hop (fun z => by omega) (fun z => by omega) (fun _ => zd_computes hop (fun z => by omega) (fun z => by omega) (fun z => by omega) (fun z => by omega) (fun z => by omega) (fun z => by omega) (fun _ => by unfold wX_computes_208; rw [e7]; exact h) (fun z => by omega)) (fun z => by omega) (fun z => by omega) (fun z => by omega) (fun z => by omega) (fun z => by omega)) (fun post h => zd_act hop (fun z => by omega) (fun z => by omega) (fun z => by omega) (fun z => by omega) (fun z => by omega) (fun z => by omega) (fun z => by omega) (fun z => by omega) (fun z => by omega) (fun z => by omega) (fun _ => h) (fun z => by omega) (fun z => by omega) (fun z => by omega))
theorem zq_il0 (c : zo_ctx p F op ac e M) (R : zp_RD B d g) (h1 : op = 0) : zo_res M (fun x y r k post => wpX_perform post (zx_S p F 0 ac e x y r M k d) (nI op)) (fun post => wpY_act post (zy_S p F 0 op ac e q M g)) op ac e q B := by
  have hop : op < 512 := c.2.2.1
  exact zo_mono (zo_illegal c R) (fun x y r k post h => zd_perform hop (fun _ => h) (fun z => by omega) (fun z => by omega) (fun z => by omega) (fun z => by omega) (fun z => by omega) (fun z => by omega) (fun z => by omega)) (fun post h => zd_act hop (fun z => by omega) (fun z => by omega) (fun z => by omega) (fun z => by omega) (fun z => by omega) (fun z => by omega) (fun z => by omega) (fun z => by omega) (fun z => by omega) (fun z => by omega) (fun z => by omega) (fun z => by omega) (fun z => by omega) (fun _ => h))
theorem zq_il1 (c : zo_ctx p F op ac e M) (R : zp_RD B d g) (h1 : (64 ≤ op ∧ op < 91) ∨ (96 ≤ op ∧ op < 128) ∨ 448 < op) : zo_res M (fun x y r k post => wpX_perform post (zx_S p F 0 ac e x y r M k d) (nI op)) (fun post => wpY_act post (zy_S p F 0 op ac e q M g)) op ac e q B := by
  have hop : op < 512 := c.2.2.1
  exact zo_mono (zo_illegal c R) (fun x y r k post h => zd_perform hop (fun z => by omega) (fun z => by omega) (fun z => by omega) (fun z => by omega) (fun z => by omega) (fun z => by omega) (fun z => by omega) (fun _ => zd_other hop (fun z => by omega) (fun _ => h) (fun z => by omega))) (fun post h => zd_act hop (fun z => by omega) (fun z => by omega) (fun z => by omega) (fun z => by omega) (fun z => by omega) (fun z => by omega) (fun z => by omega) (fun z => by omega) (fun z => by omega) (fun z => by omega) (fun z => by omega) (fun z => by omega) (fun z => by omega) (fun _ => h))
theorem zq_il2 (c : zo_ctx p F op ac e M) (R : zp_RD B d g) (h1 : (148 ≤ op ∧ op < 152) ∨ (156 ≤ op ∧ op < 160)) : zo_res M (fun x y r k post => wpX_perform post (zx_S p F 0 ac e x y r M k d) (nI op)) (fun post => wpY_act post (zy_S p F 0 op ac e q M g)) op ac e q B := by
  have hop : op < 512 := c.2.2.1
  exact zo_mono (zo_illegal c R) (fun x y r k post h => zd_perform hop (fun z => by omega) (fun z => by omega) (fun _ => zd_computes hop (fun z => by omega) (fun z => by omega) (fun _ => h) (fun z => by omega) (fun z => by omega) (fun z => by omega) (fun z => by omega) (fun z => by omega)) (fun z => by omega) (fun z => by omega) (fun z => by omega) (fun z => by omega) (fun z => by omega)) (fun post h => zd_act hop (fun z => by omega) (fun z => by omega) (fun z => by omega) (fun z => by omega) (fun z => by omega) (fun z => by omega) (fun z => by omega) (fun z => by omega) (fun z => by omega) (fun z => by omega) (fun z => by omega) (fun z => by omega) (fun z => by omega) (fun _ => h))
theorem zq_il3 (c : zo_ctx p F op ac e M) (R : zp_RD B d g) (h1 : op = 164) : zo_res M (fun x y r k post => wpX_perform post (zx_S p F 0 ac e x y r M k d) (nI op)) (fun post => wpY_act post (zy_S p F 0 op ac e q M g)) op ac e q B := by
  have hop : op < 512 := c.2.2.1
  have e7 : nI op &&& 7 = nI (op - 160) := by rw [zn_m3]; exact congrArg nI (by omega)
  exact zo_mono (zo_illegal c R) (fun x y r k post h => zd_perform hop (fun z => by omega) (fun z => by omega) (fun _ => zd_computes hop (fun z => by omega) (fun z => by omega) (fun z => by omega) (fun z => by omega) (fun _ => by unfold wX_computes_190; rw [e7, h1]; exact br_t rfl h) (fun z => by omega) (fun z => by omega) (fun z => by omega)) (fun z => by omega) (fun z => by omega) (fun z => by omega) (fun z => by omega) (fun z => by omega)) (fun post h => zd_act hop (fun z => by omega) (fun z => by omega) (fun z => by omega) (fun z => by omega) (fun z => by omega) (fun z => by omega) (fun z => by omega) (fun z => by omega) (fun z => by omega) (fun z => by omega) (fun z => by omega) (fun z => by omega) (fun z => by omega) (fun _ => h))
theorem zq_il4 (c : zo_ctx p F op ac e M) (R : zp_RD B d g) (h1 : op = 167) : zo_res M (fun x y r k post => wpX_perform post (zx_S p F 0 ac e x y r M k d) (nI op)) (fun post => wpY_act post (zy_S p F 0 op ac e q M g)) op ac e q B := by
  have hop : op < 512 := c.2.2.1
  have e7 : nI op &&& 7 = nI (op - 160) := by rw [zn_m3]; exact congrArg nI (by omega)
  exact zo_mono (zo_illegal c R) (fun x y r k post h => zd_perform hop (fun z => by omega) (fun z => by omega) (fun _ => zd_computes hop (fun z => by omega) (fun z => by omega) (fun z => by omega) (fun z => by omega) (fun _ => by unfold wX_computes_190; rw [e7, h1]; exact br_f (by decide) (br_t rfl h)) (fun z => by omega) (fun z => by omega) (fun z => by omega)) (fun z => by omega) (fun z => by omega) (fun z => by omega) (fun z => by omega) (fun z => by omega)) (fun post h => zd_act hop (fun z => by omega) (fun z => by omega) (fun z => by omega) (fun z => by omega) (fun z => by omega) (fun z => by omega) (fun z => by omega) (fun z => by omega) (fun z => by omega) (fun z => by omega) (fun z => by omega) (fun z => by omega) (fun z => by omega) (fun _ => h))
theorem zq_il5 (c : zo_ctx p F op ac e M) (R : zp_RD B d g) (h1 : op = 175) : zo_res M (fun x y r k post => wpX_perform post (zx_S p F 0 ac e x y r M k d) (nI op)) (fun post => wpY_act post (zy_S p F 0 op ac e q M g)) op ac e q B := by
  have hop : op < 512 := c.2.2.1
  have e7 : nI op &&& 7 = nI (op - 168) := by rw [zn_m3]; exact congrArg nI (by omega)
  exact zo_mono (zo_illegal c R) (fun x y r k post h => zd_perform hop (fun z => by omega) (fun z => by omega) (fun _ => zd_computes hop (fun z => by omega) (fun z => by omega) (fun z => by omega) (fun z => by omega) (fun z => by omega) (fun _ => by unfold wX_computes_199; rw [e7, h1]; exact br_f (by decide) (br_t (by decide) h)) (fun z => by omega) (fun z => by omega)) (fun z => by omega) (fun z => by omega) (fun z => by omega) (fun z => by omega) (fun z => by omega)) (fun post h => zd_act hop (fun z => by omega) (fun z => by omega) (fun z => by omega) (fun z => by omega) (fun z => by omega) (fun z => by omega) (fun z => by omega) (fun z => by omega) (fun z => by omega) (fun z => by omega) (fun z => by omega) (fun z => by omega) (fun z => by omega) (fun _ => h))
theorem zo_op (c : zo_ctx p F op ac e M) (R : zp_RD B d g) (hB : B < 1000000000) : zo_res M (fun x y r k post => wpX_perform post (zx_S p F 0 ac e x y r M k d) (nI op)) (fun post => wpY_act post (zy_S p F 0 op ac e q M g)) op ac e q B := by
  have hop : op < 512 := c.2.2.1
  rcases Decidable.em (op = 0) with z | z0
  · exact zq_il0 c R z
  rcases Decidable.em (op < 64) with z | z1
  · exact zq_trap c R (by omega) z
  rcases Decidable.em (op < 91) with z | z2
  · exact zq_il1 c R (by omega)
  rcases Decidable.em (op < 96) with z | z3
  · exact zq_bytes c R (by omega) z
  rcases Decidable.em (op < 128) with z | z4
  · exact zq_il1 c R (by omega)
  rcases Decidable.em (op < 144) with z | z5
  · exact zq_move c R (by omega) z
  rcases Decidable.em (op < 148) with z | z6
  · exact zq_mul c R (by omega) z
  rcases Decidable.em (op < 152) with z | z7
  · exact zq_il2 c R (by omega)
  rcases Decidable.em (op < 156) with z | z8
  · exact zq_div c R (by omega) z
  rcases Decidable.em (op < 160) with z | z9
  · exact zq_il2 c R (by omega)
  rcases Decidable.em (op < 163) with z | z10
  · exact zq_shift1 c R (by omega)
  rcases Decidable.em (op = 163) with z | z11
  · exact zq_jff c R z
  rcases Decidable.em (op = 164) with z | z12
  · exact zq_il3 c R z
  rcases Decidable.em (op < 167) with z | z13
  · exact zq_shift2 c R (by omega)
  rcases Decidable.em (op = 167) with z | z14
  · exact zq_il4 c R z
  rcases Decidable.em (op = 168) with z | z15
  · exact zq_exch c R z
  rcases Decidable.em (op = 169) with z | z16
  · exact zq_block c R z
  rcases Decidable.em (op < 172) with z | z17
  · exact zq_aobj c R (by omega)
  rcases Decidable.em (op = 172) with z | z18
  · exact zq_jrst c R z
  rcases Decidable.em (op = 173) with z | z19
  · exact zq_jfcl c R z
  rcases Decidable.em (op = 174) with z | z20
  · exact zq_xct c R z
  rcases Decidable.em (op = 175) with z | z21
  · exact zq_il5 c R z
  rcases Decidable.em (op = 176) with z | z22
  · exact zq_pushj c R z
  rcases Decidable.em (op = 177) with z | z23
  · exact zq_push c R z
  rcases Decidable.em (op = 178) with z | z24
  · exact zq_pop c R z
  rcases Decidable.em (op = 179) with z | z25
  · exact zq_popj c R z
  rcases Decidable.em (op = 180) with z | z26
  · exact zq_jsr c R z
  rcases Decidable.em (op = 181) with z | z27
  · exact zq_jsp c R z
  rcases Decidable.em (op = 182) with z | z28
  · exact zq_jsa c R z
  rcases Decidable.em (op = 183) with z | z29
  · exact zq_jra c R z
  rcases Decidable.em (op < 192) with z | z30
  · exact zq_add c R (by omega) z
  rcases Decidable.em (op < 256) with z | z31
  · exact zq_compare c R (by omega) z
  rcases Decidable.em (op < 320) with z | z32
  · exact zq_logic c R (by omega) z
  rcases Decidable.em (op < 384) with z | z33
  · exact zq_half c R (by omega) z
  rcases Decidable.em (op < 448) with z | z34
  · exact zq_test c R (by omega) z
  rcases Decidable.em (op = 448) with z | z35
  · exact zq_device c R hB z
  exact zq_il1 c R (by omega)
end
end
section
/-! a step -/
theorem zp_i16 : ∀ v, v < 512 → (nI v).toInt16.toInt32 = nI v := by decide +kernel
theorem zp_i8 : ∀ v, v < 16 → (nI v).toInt8.toInt32 = nI v := by decide +kernel
theorem zp_n16 {v : Nat} (h : v < 512) : vp_nar .short ((nI v).toInt16.toInt32) = nI v := by rw [pk_vs, zp_i16 v h]
theorem zp_n8 {v : Nat} (h : v < 16) : vp_nar .byte ((nI v).toInt8.toInt32) = nI v := by rw [pk_vb, zp_i8 v h]
section
variable {P F C A E : Int32} {p op ac e x y r m n b B i : Nat} {M : Nat → Nat} {k : zx_K} {d : zx_D} {g : zy_D} {q : Int32 × Int32 × Int32}
theorem zx_decode {post : SX → Prop} (hM : zp_MW M) (hk : zp_CV M k) (hi : i < 256)
    (H : ∀ k', zp_CV M k' → k'.1 i ≠ 0 → post (zx_G P F C A E x y r M k' d)) : wpX_decode post (zx_G P F C A E x y r M k d) (nI i) := by
  have hw := hM i
  have i8 : vp_in (nI i) 256 := vp_in_nI hi (by decide)
  have K : ∀ ka : Nat → Int32, ka = upd k.1 i 1 → ∀ kb : Nat → Int32, kb = upd k.2.1 i (nI (M i / 134217728)) → ∀ kc : Nat → Int32, kc = upd k.2.2.1 i (nI (M i / 8388608 % 16)) → ∀ kd : Nat → Int32, kd = upd k.2.2.2.1 i (nI (M i / 262144 % 16)) → ∀ ke : Nat → Int32, ke = upd k.2.2.2.2 i (nI (M i / 4194304 % 2)) →
      post (zx_G P F C A E x y r M (ka, kb, kc, kd, ke) d) := by
    intro ka ea kb eb kc ec kd ed ke ee
    subst ea eb ec ed ee
    refine H _ ?_ ?_
    · intro j hj
      by_cases z : j = i
      · subst z
        exact ⟨pk_us, pk_us, pk_us, pk_us⟩
      · have hj' : k.1 j ≠ 0 := fun c => hj ((pk_un z).trans c)
        obtain ⟨k1, k2, k3, k4⟩ := hk j hj'
        exact ⟨(pk_un z).trans k1, (pk_un z).trans k2, (pk_un z).trans k3, (pk_un z).trans k4⟩
    · intro c
      have : (1 : Int32) = 0 := (pk_us (f := k.1) (k := i) (x := 1)).symm.trans c
      exact absurd this (by decide)
  have eh : zp_HI M i = nI (M i / 262144) := rfl
  have e1 : nI (M i / 262144) >>> ((9 : Int32) &&& 31) = nI (M i / 134217728) := by
    rw [zn_shr9 (by omega)]
    exact congrArg nI (by omega)
  have e2 : (nI (M i / 262144) >>> ((5 : Int32) &&& 31)) &&& 15 = nI (M i / 8388608 % 16) := by
    rw [zn_shr5 (by omega), zn_m4]
    exact congrArg nI (by omega)
  refine ⟨i8, ?_⟩
  rw [nI_clamp (n := i) (by omega), eh, e1, e2, zp_hiI hw]
  refine nm_e ⟨i8, i8, nm_r (by rw [zp_n16 (by omega)]) ⟨i8, i8, nm_r (by rw [zp_n8 (by omega)]) ⟨i8, ?_⟩⟩⟩
  have L : ∀ z0, z0 = nI (M i / 4194304 % 2) → vp_nar .boolean z0 = z0 → wX_decode_65 post (nI i) z0 (nI i) P F C d.1 d.2.1 d.2.2.1 d.2.2.2.1 A E (nI (x / 262144)) (nI (x % 262144)) (nI (y / 262144)) (nI (y % 262144)) (nI (r / 262144)) (nI (r % 262144)) (zp_HI M) (zp_LO M) (upd k.1 i (vp_nar .boolean 1)) (upd k.2.1 i (nI (M i / 134217728))) (upd k.2.2.1 i (nI (M i / 8388608 % 16))) k.2.2.2.1 k.2.2.2.2 d.2.2.2.2.1 d.2.2.2.2.2.1 d.2.2.2.2.2.2.1 d.2.2.2.2.2.2.2.1 d.2.2.2.2.2.2.2.2 := by
    intro z0 hz hb
    refine ⟨i8, nm_r (e' := upd k.2.2.2.2 i (nI (M i / 4194304 % 2))) (by rw [nI_clamp (n := i) (by omega), hb, hz]) ⟨i8, i8, nm_r (e' := upd k.2.2.2.1 i (nI (M i / 262144 % 16))) ?_ ?_⟩⟩
    · rw [nI_clamp (n := i) (by omega), eh, zn_m4, zp_n8 (by omega)]
    · exact K _ rfl _ rfl _ rfl _ rfl _ rfl
  have h01 : M i / 4194304 % 2 = 0 ∨ M i / 4194304 % 2 = 1 := by omega
  rcases h01 with h01 | h01
  · exact br_f (by rw [h01]; decide) (L 0 (by rw [h01]; rfl) rfl)
  · exact br_t (by rw [h01]; rfl) (L 1 (by rw [h01]; rfl) rfl)
/-- X behind the instruction: its count -/
def zs_d (d : zx_D) (op : Nat) : zx_D := (d.1, d.2.1, d.2.2.1, d.2.2.2.1 + 1, d.2.2.2.2.1, d.2.2.2.2.2.1, d.2.2.2.2.2.2.1, d.2.2.2.2.2.2.2.1, upd d.2.2.2.2.2.2.2.2 op (d.2.2.2.2.2.2.2.2 op + 1))
def zs_g (g : zy_D) (op : Nat) : zy_D := (g.1, g.2.1, g.2.2.1 + 1, g.2.2.2.1, g.2.2.2.2.1, upd g.2.2.2.2.2 op (g.2.2.2.2.2 op + 1))
theorem zs_RD (h : zp_RD B d g) : zp_RD B (zs_d d op) (zs_g g op) := by
  obtain ⟨fi, wt, ou, Q, G, h1, h2, h3, h4, h5, h6, h7, h8, h9, h10, h11, h12⟩ := h
  refine ⟨fi, wt, ou, Q, G, h1, h2, h3, h4, h5, ?_, ?_, h8, h9, h10, h11, h12⟩
  · show g.2.2.1 + 1 = d.2.2.2.1 + 1
    rw [h6]
  · show upd g.2.2.2.2.2 op (g.2.2.2.2.2 op + 1) = upd d.2.2.2.2.2.2.2.2 op (d.2.2.2.2.2.2.2.2 op + 1)
    rw [h7]
/-- X's loop, one round: at: where the instruction lies -/
theorem zx_st32 {post : SX → Prop} {fr a at' t : Nat} (hM : zp_MW M) (hk : zp_CV M k) (hat : at' < 256)
    (Hs : zp_ad M 9 (M at') = -1 → ∀ k', zp_CV M k' → wX_step_117 post (wX_step_32 post (nI fr) t) (nI fr) (nI a) (nI (M at' / 134217728)) (-2) P F 3 d.1 d.2.1 d.2.2.1 d.2.2.2.1 (nI (M at' / 8388608 % 16)) (-1) (nI (x / 262144)) (nI (x % 262144)) (nI (y / 262144)) (nI (y % 262144)) (nI (r / 262144)) (nI (r % 262144)) (zp_HI M) (zp_LO M) k'.1 k'.2.1 k'.2.2.1 k'.2.2.2.1 k'.2.2.2.2 d.2.2.2.2.1 d.2.2.2.2.2.1 d.2.2.2.2.2.2.1 d.2.2.2.2.2.2.2.1 d.2.2.2.2.2.2.2.2)
    (H : ∀ e, e < 262144 → zp_ad M 9 (M at') = nI e → ∀ k', zp_CV M k' → wpX_perform (fun rv u => wX_step_117 post (wX_step_32 post (nI fr) t) (nI fr) (nI a) (nI (M at' / 134217728)) rv u.1 u.2.1 u.2.2.1 u.2.2.2.1 u.2.2.2.2.1 u.2.2.2.2.2.1 u.2.2.2.2.2.2.1 u.2.2.2.2.2.2.2.1 u.2.2.2.2.2.2.2.2.1 u.2.2.2.2.2.2.2.2.2.1 u.2.2.2.2.2.2.2.2.2.2.1 u.2.2.2.2.2.2.2.2.2.2.2.1 u.2.2.2.2.2.2.2.2.2.2.2.2.1 u.2.2.2.2.2.2.2.2.2.2.2.2.2.1 u.2.2.2.2.2.2.2.2.2.2.2.2.2.2.1 u.2.2.2.2.2.2.2.2.2.2.2.2.2.2.2.1 u.2.2.2.2.2.2.2.2.2.2.2.2.2.2.2.2.1 u.2.2.2.2.2.2.2.2.2.2.2.2.2.2.2.2.2.1 u.2.2.2.2.2.2.2.2.2.2.2.2.2.2.2.2.2.2.1 u.2.2.2.2.2.2.2.2.2.2.2.2.2.2.2.2.2.2.2.1 u.2.2.2.2.2.2.2.2.2.2.2.2.2.2.2.2.2.2.2.2.1 u.2.2.2.2.2.2.2.2.2.2.2.2.2.2.2.2.2.2.2.2.2.1 u.2.2.2.2.2.2.2.2.2.2.2.2.2.2.2.2.2.2.2.2.2.2.1 u.2.2.2.2.2.2.2.2.2.2.2.2.2.2.2.2.2.2.2.2.2.2.2.1 u.2.2.2.2.2.2.2.2.2.2.2.2.2.2.2.2.2.2.2.2.2.2.2.2.1 u.2.2.2.2.2.2.2.2.2.2.2.2.2.2.2.2.2.2.2.2.2.2.2.2.2.1 u.2.2.2.2.2.2.2.2.2.2.2.2.2.2.2.2.2.2.2.2.2.2.2.2.2.2) (zx_G P F C (nI (M at' / 8388608 % 16)) (nI e) x y r M k' d) (nI (M at' / 134217728))) :
    wX_step_32 post (nI fr) (t + 1) (nI at') (nI a) P F C d.1 d.2.1 d.2.2.1 d.2.2.2.1 A E (nI (x / 262144)) (nI (x % 262144)) (nI (y / 262144)) (nI (y % 262144)) (nI (r / 262144)) (nI (r % 262144)) (zp_HI M) (zp_LO M) k.1 k.2.1 k.2.2.1 k.2.2.2.1 k.2.2.2.2 d.2.2.2.2.1 d.2.2.2.2.2.1 d.2.2.2.2.2.2.1 d.2.2.2.2.2.2.2.1 d.2.2.2.2.2.2.2.2 := by
  have i8 : vp_in (nI at') 256 := vp_in_nI hat (by decide)
  have K : ∀ k', zp_CV M k' → k'.1 at' ≠ 0 → wX_step_46 post (wX_step_32 post (nI fr) t) (nI fr) (nI at') (nI a) P F C d.1 d.2.1 d.2.2.1 d.2.2.2.1 A E (nI (x / 262144)) (nI (x % 262144)) (nI (y / 262144)) (nI (y % 262144)) (nI (r / 262144)) (nI (r % 262144)) (zp_HI M) (zp_LO M) k'.1 k'.2.1 k'.2.2.1 k'.2.2.2.1 k'.2.2.2.2 d.2.2.2.2.1 d.2.2.2.2.2.1 d.2.2.2.2.2.2.1 d.2.2.2.2.2.2.2.1 d.2.2.2.2.2.2.2.2 := by
    intro k' hk' hn
    obtain ⟨k1, k2, k3, k4⟩ := hk' at' hn
    refine ⟨i8, ?_⟩
    rw [nI_clamp (n := at') (by omega), k2, k4, k3, k1]
    refine nm_e ⟨i8, i8, i8, ?_⟩
    refine zx_address hM (M at') rfl rfl rfl ⟨i8, nm_e ?_⟩
    rcases zp_adC M 9 (M at') with h | ⟨e, he, h⟩
    · rw [h]
      exact br_f (by decide) (Hs h k' hk')
    · rw [h]
      exact br_t (nI_pos' (by omega)) (H e he h k' hk')
  refine ⟨i8, ?_⟩
  rw [nI_clamp (n := at') (by omega)]
  by_cases h : k.1 at' = 0
  · exact br_t h (zx_decode hM hk hat (fun k' hk' hn => K k' hk' hn))
  · exact br_f h (K k hk h)
/-- X behind an instruction -/
theorem zx_st117s {post : SX → Prop} {J : Int32 → Int32 → Int32 → Int32 → Int32 → Int32 → Int32 → Int32 → Int32 → Int32 → Int32 → Int32 → Int32 → Int32 → Int32 → Int32 → Int32 → (Nat → Int32) → (Nat → Int32) → (Nat → Int32) → (Nat → Int32) → (Nat → Int32) → (Nat → Int32) → (Nat → Int32) → (Nat → Int32) → (Nat → Int32) → (Nat → Int32) → (Nat → Int32) → (Nat → Int32) → Prop} {fr a : Nat} {O : Int32} (hC : ¬ C ≤ 1)
    (H : post (zx_G (nI fr) F C A E x y r M k d)) : wX_step_117 post J (nI fr) (nI a) O (-2) P F C d.1 d.2.1 d.2.2.1 d.2.2.2.1 A E (nI (x / 262144)) (nI (x % 262144)) (nI (y / 262144)) (nI (y % 262144)) (nI (r / 262144)) (nI (r % 262144)) (zp_HI M) (zp_LO M) k.1 k.2.1 k.2.2.1 k.2.2.2.1 k.2.2.2.2 d.2.2.2.2.1 d.2.2.2.2.2.1 d.2.2.2.2.2.2.1 d.2.2.2.2.2.2.2.1 d.2.2.2.2.2.2.2.2 :=
  br_t (by decide) (br_t rfl (nm_e (nm_e (br_t (by decide) (br_t rfl (br_f hC H))))))
theorem zx_st117g {post : SX → Prop} {J : Int32 → Int32 → Int32 → Int32 → Int32 → Int32 → Int32 → Int32 → Int32 → Int32 → Int32 → Int32 → Int32 → Int32 → Int32 → Int32 → Int32 → (Nat → Int32) → (Nat → Int32) → (Nat → Int32) → (Nat → Int32) → (Nat → Int32) → (Nat → Int32) → (Nat → Int32) → (Nat → Int32) → (Nat → Int32) → (Nat → Int32) → (Nat → Int32) → (Nat → Int32) → Prop} {fr a : Nat} (hop : op < 512) (hC : C ≤ 1)
    (H : post (zx_G P F C A E x y r M k (zs_d d op))) : wX_step_117 post J (nI fr) (nI a) (nI op) (-1) P F C d.1 d.2.1 d.2.2.1 d.2.2.2.1 A E (nI (x / 262144)) (nI (x % 262144)) (nI (y / 262144)) (nI (y % 262144)) (nI (r / 262144)) (nI (r % 262144)) (zp_HI M) (zp_LO M) k.1 k.2.1 k.2.2.1 k.2.2.2.1 k.2.2.2.2 d.2.2.2.2.1 d.2.2.2.2.2.1 d.2.2.2.2.2.2.1 d.2.2.2.2.2.2.2.1 d.2.2.2.2.2.2.2.2 := by
  have io : vp_in (nI op) 512 := vp_in_nI hop (by decide)
  refine br_t (by decide) (br_f (by decide) (nm_e ⟨io, io, nm_r (e' := upd d.2.2.2.2.2.2.2.2 op (d.2.2.2.2.2.2.2.2 op + 1)) (by rw [nI_clamp (by omega)]) ?_⟩))
  exact nm_e (nm_e (br_t (by decide) (br_t rfl (br_t hC H))))
theorem zx_st117n {post : SX → Prop} {J : Int32 → Int32 → Int32 → Int32 → Int32 → Int32 → Int32 → Int32 → Int32 → Int32 → Int32 → Int32 → Int32 → Int32 → Int32 → Int32 → Int32 → (Nat → Int32) → (Nat → Int32) → (Nat → Int32) → (Nat → Int32) → (Nat → Int32) → (Nat → Int32) → (Nat → Int32) → (Nat → Int32) → (Nat → Int32) → (Nat → Int32) → (Nat → Int32) → (Nat → Int32) → Prop} {fr a t : Nat} (hop : op < 512) (ht : t < 256) (ha : a < 8)
    (H : J (nI t) (nI (a + 1)) P F C (zs_d d op).1 (zs_d d op).2.1 (zs_d d op).2.2.1 (zs_d d op).2.2.2.1 A E (nI (x / 262144)) (nI (x % 262144)) (nI (y / 262144)) (nI (y % 262144)) (nI (r / 262144)) (nI (r % 262144)) (zp_HI M) (zp_LO M) k.1 k.2.1 k.2.2.1 k.2.2.2.1 k.2.2.2.2 (zs_d d op).2.2.2.2.1 (zs_d d op).2.2.2.2.2.1 (zs_d d op).2.2.2.2.2.2.1 (zs_d d op).2.2.2.2.2.2.2.1 (zs_d d op).2.2.2.2.2.2.2.2) : wX_step_117 post J (nI fr) (nI a) (nI op) (nI t) P F C d.1 d.2.1 d.2.2.1 d.2.2.2.1 A E (nI (x / 262144)) (nI (x % 262144)) (nI (y / 262144)) (nI (y % 262144)) (nI (r / 262144)) (nI (r % 262144)) (zp_HI M) (zp_LO M) k.1 k.2.1 k.2.2.1 k.2.2.2.1 k.2.2.2.2 d.2.2.2.2.1 d.2.2.2.2.2.1 d.2.2.2.2.2.2.1 d.2.2.2.2.2.2.2.1 d.2.2.2.2.2.2.2.2 := by
  have io : vp_in (nI op) 512 := vp_in_nI hop (by decide)
  have hn : ¬ nI t < 0 := nI_pos (by omega)
  have h2 : ¬ nI t = -2 := fun z => hn (by rw [z]; decide)
  refine br_f hn (pk_eq a 8 (fun z => by omega) (fun _ => br_f h2 (nm_e ⟨io, io, nm_r (e' := upd d.2.2.2.2.2.2.2.2 op (d.2.2.2.2.2.2.2.2 op + 1)) (by rw [nI_clamp (by omega)]) ?_⟩)))
  exact nm_r (nI_1 a) (nm_r (e' := nI t) (by rw [zn_m8, Nat.mod_eq_of_lt ht]) (br_f hn (br_f (by decide) H)))
theorem zx_st117e {post : SX → Prop} {J : Int32 → Int32 → Int32 → Int32 → Int32 → Int32 → Int32 → Int32 → Int32 → Int32 → Int32 → Int32 → Int32 → Int32 → Int32 → Int32 → Int32 → (Nat → Int32) → (Nat → Int32) → (Nat → Int32) → (Nat → Int32) → (Nat → Int32) → (Nat → Int32) → (Nat → Int32) → (Nat → Int32) → (Nat → Int32) → (Nat → Int32) → (Nat → Int32) → (Nat → Int32) → Prop} {fr t : Nat} {O : Int32} (ht : t < 256)
    (H : post (zx_G (nI fr) F 4 A E x y r M k d)) : wX_step_117 post J (nI fr) 8 O (nI t) P F C d.1 d.2.1 d.2.2.1 d.2.2.2.1 A E (nI (x / 262144)) (nI (x % 262144)) (nI (y / 262144)) (nI (y % 262144)) (nI (r / 262144)) (nI (r % 262144)) (zp_HI M) (zp_LO M) k.1 k.2.1 k.2.2.1 k.2.2.2.1 k.2.2.2.2 d.2.2.2.2.1 d.2.2.2.2.2.1 d.2.2.2.2.2.2.1 d.2.2.2.2.2.2.2.1 d.2.2.2.2.2.2.2.2 := by
  have hn : ¬ nI t < 0 := nI_pos (by omega)
  exact br_f hn (br_t rfl (br_t rfl (nm_e (nm_e (br_t (by decide) (br_t rfl (br_f (by decide) H)))))))
end
section
variable {P F C O A E Wh Dp Mo : Int32} {p op ac e x y r m n b B i : Nat} {M : Nat → Nat} {g : zy_D} {post : SY → Prop}
theorem zy_st40 {fr at' t : Nat} (hM : zp_MW M) (hat : at' < 256)
    (Hs : zp_ad M 9 (M at') = -1 → wY_step_118 post (wY_step_40 post (nI fr) t) (nI fr) P F 3 g.1 g.2.1 g.2.2.1 (nI (M at' / 134217728)) (nI (M at' / 8388608 % 16)) (-1) (nI at') Dp 0 (zp_ME M) g.2.2.2.1 g.2.2.2.2.1 g.2.2.2.2.2)
    (H : ∀ e, e < 262144 → zp_ad M 9 (M at') = nI e → wpY_act (fun u => wY_step_118 post (wY_step_40 post (nI fr) t) (nI fr) u.1 u.2.1 u.2.2.1 u.2.2.2.1 u.2.2.2.2.1 u.2.2.2.2.2.1 u.2.2.2.2.2.2.1 u.2.2.2.2.2.2.2.1 u.2.2.2.2.2.2.2.2.1 u.2.2.2.2.2.2.2.2.2.1 u.2.2.2.2.2.2.2.2.2.2.1 u.2.2.2.2.2.2.2.2.2.2.2.1 u.2.2.2.2.2.2.2.2.2.2.2.2.1 u.2.2.2.2.2.2.2.2.2.2.2.2.2.1 u.2.2.2.2.2.2.2.2.2.2.2.2.2.2.1 u.2.2.2.2.2.2.2.2.2.2.2.2.2.2.2) (zy_G P F 0 (nI (M at' / 134217728)) (nI (M at' / 8388608 % 16)) (nI e) (nI at') Dp 0 M g)) :
    wY_step_40 post (nI fr) (t + 1) P F 0 g.1 g.2.1 g.2.2.1 O A E (nI at') Dp 1 (zp_ME M) g.2.2.2.1 g.2.2.2.2.1 g.2.2.2.2.2 := by
  have hw := hM at'
  refine br_f (by decide) (br_t rfl ⟨vp_in_nI hat (by decide), ?_⟩)
  rw [nI_clamp (n := at') (by omega)]
  have em : zp_ME M at' = lN (M at') := rfl
  rw [em]
  refine nm_e (nm_r (e' := nI (M at' / 134217728)) (by rw [zl_shr27 (by omega), lN_i]) (nm_r (e' := nI (M at' / 8388608 % 16)) (by rw [zl_shr23 (by omega), lN_i, zn_m4]) ?_))
  refine zy_address hM (M at') hw ?_
  rcases zp_adC M 9 (M at') with h | ⟨e, he, h⟩
  · rw [h]
    exact br_f (by decide) (Hs h)
  · rw [h]
    exact br_t (nI_pos' (by omega)) (H e he h)
/-- Y behind an instruction that ends the step -/
theorem zy_st118s {fr t : Nat} (hC : 2 ≤ C) (hm : Mo = 0 ∨ ¬ C = 0) (H : post (zy_G (nI fr) F C O A E Wh Dp Mo M g)) : wY_step_118 post (wY_step_40 post (nI fr) (t + 1)) (nI fr) P F C g.1 g.2.1 g.2.2.1 O A E Wh Dp Mo (zp_ME M) g.2.2.2.1 g.2.2.2.2.1 g.2.2.2.2.2 := by
  have hC1 : ¬ C ≤ 1 := by
    intro z
    have := Int32.le_trans hC z
    exact absurd this (by decide)
  refine br_t hC ?_
  rcases hm with rfl | hm
  · exact br_t rfl (br_f hC1 H)
  · by_cases z : Mo = 0
    · exact br_t z (br_f hC1 H)
    · exact br_f z (br_f hm (br_f hC1 H))
theorem zy_st118g {fr t : Nat} (hop : op < 512) (hC : C = 0 ∨ C = 1) (H : post (zy_G P F C (nI op) A E Wh Dp 0 M (zs_g g op))) : wY_step_118 post (wY_step_40 post (nI fr) (t + 1)) (nI fr) P F C g.1 g.2.1 g.2.2.1 (nI op) A E Wh Dp 0 (zp_ME M) g.2.2.2.1 g.2.2.2.2.1 g.2.2.2.2.2 := by
  have io : vp_in (nI op) 512 := vp_in_nI hop (by decide)
  have h1 : ¬ 2 ≤ C := by rcases hC with rfl | rfl <;> decide
  have h2 : C ≤ 1 := by rcases hC with rfl | rfl <;> decide
  refine br_f h1 ⟨io, io, nm_r (e' := upd g.2.2.2.2.2 op (g.2.2.2.2.2 op + 1)) (by rw [nI_clamp (by omega)]) (nm_e ?_)⟩
  exact br_t rfl (br_t h2 H)
theorem zy_st118n {J : Int32 → Int32 → Int32 → Int32 → Int32 → Int32 → Int32 → Int32 → Int32 → Int32 → Int32 → Int32 → (Nat → Int64) → (Nat → Int64) → (Nat → Int64) → (Nat → Int32) → Prop} {fr : Nat} (hop : op < 512) (H : J P F 0 (zs_g g op).1 (zs_g g op).2.1 (zs_g g op).2.2.1 (nI op) A E Wh Dp Mo (zp_ME M) (zs_g g op).2.2.2.1 (zs_g g op).2.2.2.2.1 (zs_g g op).2.2.2.2.2) : wY_step_118 post J (nI fr) P F 0 g.1 g.2.1 g.2.2.1 (nI op) A E Wh Dp Mo (zp_ME M) g.2.2.2.1 g.2.2.2.2.1 g.2.2.2.2.2 := by
  have io : vp_in (nI op) 512 := vp_in_nI hop (by decide)
  exact br_f (by decide) ⟨io, io, nm_r (e' := upd g.2.2.2.2.2 op (g.2.2.2.2.2 op + 1)) (by rw [nI_clamp (by omega)]) (nm_e H)⟩
end
end
section
/-! steps and runs: both -/
/-- what a state's code may be -/
def zs_C (C : Int32) : Prop := C = 0 ∨ C = 1 ∨ C = 2 ∨ C = 3 ∨ C = 4
/-- X and Y go to one outcome, whatever they keep by themselves -/
def zs_X (M0 : Nat → Nat) (WX : Int32 → Int32 → Nat → Nat → Nat → zx_K → (SX → Prop) → Prop) (p : Nat) (F C : Int32) (M : Nat → Nat) (d : zx_D) : Prop :=
  ∀ A E x y r k, x < 68719476736 → y < 68719476736 → r < 68719476736 → zp_CV M0 k → ∀ post : SX → Prop, (∀ A E x y r k, x < 68719476736 → y < 68719476736 → r < 68719476736 → zp_CV M k → post (zx_G (nI p) F C A E x y r M k d)) → WX A E x y r k post
def zs_Y (WY : Int32 → Int32 → Int32 → (SY → Prop) → Prop) (p : Nat) (F C : Int32) (M : Nat → Nat) (g : zy_D) : Prop :=
  ∀ O A E, ∀ post : SY → Prop, (∀ O A E Wh Dp Mo, post (zy_G (nI p) F C O A E Wh Dp Mo M g)) → WY O A E post
def zs_out (M0 : Nat → Nat) (WX : Int32 → Int32 → Nat → Nat → Nat → zx_K → (SX → Prop) → Prop) (WY : Int32 → Int32 → Int32 → (SY → Prop) → Prop) (B : Nat) : Prop :=
  ∃ (p : Nat) (F C : Int32) (M : Nat → Nat) (d : zx_D) (g : zy_D), p < 262144 ∧ zp_FL F ∧ zs_C C ∧ zp_MW M ∧ zp_RD B d g ∧ zs_X M0 WX p F C M d ∧ zs_Y WY p F C M g
theorem zs_loop {fr : Nat} (hfr : fr < 262144) : ∀ t a, a + t = 8 → ∀ (B at' p : Nat) (F : Int32) (M : Nat → Nat) (d : zx_D) (g : zy_D), B + 9 < 1000000000 → at' < 256 → p < 262144 → zp_FL F → zp_MW M → zp_RD (B + a) d g →
    zs_out M (fun A E x y r k post => wX_step_32 post (nI fr) (t + 1) (nI at') (nI a) (nI p) F 0 d.1 d.2.1 d.2.2.1 d.2.2.2.1 A E (nI (x / 262144)) (nI (x % 262144)) (nI (y / 262144)) (nI (y % 262144)) (nI (r / 262144)) (nI (r % 262144)) (zp_HI M) (zp_LO M) k.1 k.2.1 k.2.2.1 k.2.2.2.1 k.2.2.2.2 d.2.2.2.2.1 d.2.2.2.2.2.1 d.2.2.2.2.2.2.1 d.2.2.2.2.2.2.2.1 d.2.2.2.2.2.2.2.2) (fun O A E post => wY_step_40 post (nI fr) (t + 2) (nI p) F 0 g.1 g.2.1 g.2.2.1 O A E (nI at') (nI a) 1 (zp_ME M) g.2.2.2.1 g.2.2.2.2.1 g.2.2.2.2.2) (B + 9) := by
  intro t
  induction t with
  | zero =>
    intro a ha B at' p F M d g hB hat hp hF hM R
    have ea : a = 8 := by omega
    subst ea
    have hw := hM at'
    have hop : M at' / 134217728 < 512 := by omega
    have hac : M at' / 8388608 % 16 < 16 := by omega
    rcases zp_adC M 9 (M at') with h | ⟨e, he, h⟩
    · refine ⟨fr, F, 3, M, d, g, hfr, hF, Or.inr (Or.inr (Or.inr (Or.inl rfl))), hM, zp_RDup R (by omega), ?_, ?_⟩
      · intro A E x y r k hx hy hr hk post H
        refine zx_st32 hM hk hat (fun _ k' hk' => zx_st117s (by decide) (H _ _ _ _ _ k' hx hy hr hk')) (fun e he z => absurd (h.symm.trans z) (zp_m1n (by omega)))
      · intro O A E post H
        refine zy_st40 hM hat (fun _ => zy_st118s (by decide) (Or.inl rfl) (H _ _ _ _ _ _)) (fun e he z => absurd (h.symm.trans z) (zp_m1n (by omega)))
    · have ctx : zo_ctx p F (M at' / 134217728) (M at' / 8388608 % 16) e M := ⟨hp, hF, hop, hac, he, hM⟩
      obtain ⟨rv, CX, CY, p1, F1, M1, q', d1, g1, h1, h2, h3, hR, hX, hY, hK⟩ := zo_op (q := (nI at', nI 8, 0)) ctx R (by omega)
      have ue : ∀ e', e' < 262144 → zp_ad M 9 (M at') = nI e' → e' = e := fun e' he' z => (nI_eq (by omega) (by omega)).mp (z.symm.trans h)
      rcases hK with ⟨rfl, rfl, hC, rfl⟩ | ⟨rfl, rfl, hC, rfl⟩ | ⟨s, hs, rfl, rfl, rfl, hC⟩
      · refine ⟨p1, F1, CY, M1, zs_d d1 (M at' / 134217728), zs_g g1 (M at' / 134217728), h1, h2, by rcases hC with rfl | rfl; exact Or.inl rfl; exact Or.inr (Or.inl rfl), h3, zs_RD (zp_RDup hR (by omega)), ?_, ?_⟩
        · intro A E x y r k hx hy hr hk post H
          refine zx_st32 hM hk hat (fun z => absurd (z.symm.trans h) (zp_m1n (by omega))) (fun e' he' z k' hk' => ?_)
          have ee := ue e' he' z
          subst ee
          refine hX x y r k' hx hy hr hk' _ (fun x' y' r' k2 hx' hy' hr' hk2 => ?_)
          exact zx_st117g hop (show CY ≤ 1 by rcases hC with rfl | rfl <;> decide) (H _ _ _ _ _ k2 hx' hy' hr' hk2)
        · intro O A E post H
          refine zy_st40 hM hat (fun z => absurd (z.symm.trans h) (zp_m1n (by omega))) (fun e' he' z => ?_)
          have ee := ue e' he' z
          subst ee
          refine hY _ ?_
          exact zy_st118g hop hC (H _ _ _ _ _ _)
      · refine ⟨fr, F1, CY, M1, d1, g1, hfr, h2, by rcases hC with rfl | rfl; exact Or.inr (Or.inr (Or.inl rfl)); exact Or.inr (Or.inr (Or.inr (Or.inl rfl))), h3, zp_RDup hR (by omega), ?_, ?_⟩
        · intro A E x y r k hx hy hr hk post H
          refine zx_st32 hM hk hat (fun z => absurd (z.symm.trans h) (zp_m1n (by omega))) (fun e' he' z k' hk' => ?_)
          have ee := ue e' he' z
          subst ee
          refine hX x y r k' hx hy hr hk' _ (fun x' y' r' k2 hx' hy' hr' hk2 => ?_)
          exact zx_st117s (show ¬ CY ≤ 1 by rcases hC with rfl | rfl <;> decide) (H _ _ _ _ _ k2 hx' hy' hr' hk2)
        · intro O A E post H
          refine zy_st40 hM hat (fun z => absurd (z.symm.trans h) (zp_m1n (by omega))) (fun e' he' z => ?_)
          have ee := ue e' he' z
          subst ee
          refine hY _ ?_
          exact zy_st118s (show 2 ≤ CY by rcases hC with rfl | rfl <;> decide) (Or.inl rfl) (H _ _ _ _ _ _)
      · have e9 : nI 8 + 1 = 9 := by decide
        have hCY : CY = 4 := by
          rcases hC with ⟨_, hC⟩ | ⟨hC, _⟩
          · exact hC
          · exact absurd e9 hC
        subst hCY
        refine ⟨fr, F1, 4, M1, d1, g1, hfr, h2, Or.inr (Or.inr (Or.inr (Or.inr rfl))), h3, zp_RDup hR (by omega), ?_, ?_⟩
        · intro A E x y r k hx hy hr hk post H
          refine zx_st32 hM hk hat (fun z => absurd (z.symm.trans h) (zp_m1n (by omega))) (fun e' he' z k' hk' => ?_)
          have ee := ue e' he' z
          subst ee
          refine hX x y r k' hx hy hr hk' _ (fun x' y' r' k2 hx' hy' hr' hk2 => ?_)
          exact zx_st117e hs (H _ _ _ _ _ k2 hx' hy' hr' hk2)
        · intro O A E post H
          refine zy_st40 hM hat (fun z => absurd (z.symm.trans h) (zp_m1n (by omega))) (fun e' he' z => ?_)
          have ee := ue e' he' z
          subst ee
          refine hY _ ?_
          exact zy_st118s (C := 4) (by decide) (Or.inr (by decide)) (H _ _ _ _ _ _)
  | succ t ih =>
    intro a ha B at' p F M d g hB hat hp hF hM R
    have hw := hM at'
    have hop : M at' / 134217728 < 512 := by omega
    have hac : M at' / 8388608 % 16 < 16 := by omega
    rcases zp_adC M 9 (M at') with h | ⟨e, he, h⟩
    · refine ⟨fr, F, 3, M, d, g, hfr, hF, Or.inr (Or.inr (Or.inr (Or.inl rfl))), hM, zp_RDup R (by omega), ?_, ?_⟩
      · intro A E x y r k hx hy hr hk post H
        refine zx_st32 hM hk hat (fun _ k' hk' => zx_st117s (by decide) (H _ _ _ _ _ k' hx hy hr hk')) (fun e he z => absurd (h.symm.trans z) (zp_m1n (by omega)))
      · intro O A E post H
        refine zy_st40 hM hat (fun _ => zy_st118s (by decide) (Or.inl rfl) (H _ _ _ _ _ _)) (fun e he z => absurd (h.symm.trans z) (zp_m1n (by omega)))
    · have ctx : zo_ctx p F (M at' / 134217728) (M at' / 8388608 % 16) e M := ⟨hp, hF, hop, hac, he, hM⟩
      obtain ⟨rv, CX, CY, p1, F1, M1, q', d1, g1, h1, h2, h3, hR, hX, hY, hK⟩ := zo_op (q := (nI at', nI a, 0)) ctx R (by omega)
      have ue : ∀ e', e' < 262144 → zp_ad M 9 (M at') = nI e' → e' = e := fun e' he' z => (nI_eq (by omega) (by omega)).mp (z.symm.trans h)
      rcases hK with ⟨rfl, rfl, hC, rfl⟩ | ⟨rfl, rfl, hC, rfl⟩ | ⟨s, hs, rfl, rfl, rfl, hC⟩
      · refine ⟨p1, F1, CY, M1, zs_d d1 (M at' / 134217728), zs_g g1 (M at' / 134217728), h1, h2, by rcases hC with rfl | rfl; exact Or.inl rfl; exact Or.inr (Or.inl rfl), h3, zs_RD (zp_RDup hR (by omega)), ?_, ?_⟩
        · intro A E x y r k hx hy hr hk post H
          refine zx_st32 hM hk hat (fun z => absurd (z.symm.trans h) (zp_m1n (by omega))) (fun e' he' z k' hk' => ?_)
          have ee := ue e' he' z
          subst ee
          refine hX x y r k' hx hy hr hk' _ (fun x' y' r' k2 hx' hy' hr' hk2 => ?_)
          exact zx_st117g hop (show CY ≤ 1 by rcases hC with rfl | rfl <;> decide) (H _ _ _ _ _ k2 hx' hy' hr' hk2)
        · intro O A E post H
          refine zy_st40 hM hat (fun z => absurd (z.symm.trans h) (zp_m1n (by omega))) (fun e' he' z => ?_)
          have ee := ue e' he' z
          subst ee
          refine hY _ ?_
          exact zy_st118g hop hC (H _ _ _ _ _ _)
      · refine ⟨fr, F1, CY, M1, d1, g1, hfr, h2, by rcases hC with rfl | rfl; exact Or.inr (Or.inr (Or.inl rfl)); exact Or.inr (Or.inr (Or.inr (Or.inl rfl))), h3, zp_RDup hR (by omega), ?_, ?_⟩
        · intro A E x y r k hx hy hr hk post H
          refine zx_st32 hM hk hat (fun z => absurd (z.symm.trans h) (zp_m1n (by omega))) (fun e' he' z k' hk' => ?_)
          have ee := ue e' he' z
          subst ee
          refine hX x y r k' hx hy hr hk' _ (fun x' y' r' k2 hx' hy' hr' hk2 => ?_)
          exact zx_st117s (show ¬ CY ≤ 1 by rcases hC with rfl | rfl <;> decide) (H _ _ _ _ _ k2 hx' hy' hr' hk2)
        · intro O A E post H
          refine zy_st40 hM hat (fun z => absurd (z.symm.trans h) (zp_m1n (by omega))) (fun e' he' z => ?_)
          have ee := ue e' he' z
          subst ee
          refine hY _ ?_
          exact zy_st118s (show 2 ≤ CY by rcases hC with rfl | rfl <;> decide) (Or.inl rfl) (H _ _ _ _ _ _)
      · have e9 : nI a + 1 = nI (a + 1) := nI_1 a
        have hn9 : ¬ nI a + 1 = 9 := by
          rw [e9, show (9 : Int32) = nI 9 from rfl, nI_eq (by omega) (by omega)]
          omega
        have hCY : CY = 0 := by
          rcases hC with ⟨hC, _⟩ | ⟨_, hC⟩
          · exact absurd hC hn9
          · exact hC
        subst hCY
        obtain ⟨p2, F2, C2, M2, d2, g2, i1, i2, i3, i4, i5, iX, iY⟩ := ih (a + 1) (by omega) B s p1 F1 M1 (zs_d d1 (M at' / 134217728)) (zs_g g1 (M at' / 134217728)) hB hs h1 h2 h3 (zs_RD hR)
        refine ⟨p2, F2, C2, M2, d2, g2, i1, i2, i3, i4, i5, ?_, ?_⟩
        · intro A E x y r k hx hy hr hk post H
          refine zx_st32 hM hk hat (fun z => absurd (z.symm.trans h) (zp_m1n (by omega))) (fun e' he' z k' hk' => ?_)
          have ee := ue e' he' z
          subst ee
          refine hX x y r k' hx hy hr hk' _ (fun x' y' r' k2 hx' hy' hr' hk2 => ?_)
          exact zx_st117n hop hs (by omega) (iX _ _ x' y' r' k2 hx' hy' hr' hk2 post H)
        · intro O A E post H
          refine zy_st40 hM hat (fun z => absurd (z.symm.trans h) (zp_m1n (by omega))) (fun e' he' z => ?_)
          have ee := ue e' he' z
          subst ee
          refine hY _ ?_
          have J := iY (nI (M at' / 134217728)) (nI (M at' / 8388608 % 16)) (nI e') post H
          rw [← e9] at J
          exact zy_st118n hop J
theorem zs_step {p B : Nat} {F : Int32} {M : Nat → Nat} {d : zx_D} {g : zy_D} (hp : p < 262144) (hF : zp_FL F) (hM : zp_MW M) (R : zp_RD B d g) (hB : B + 9 < 1000000000) :
    ∃ (p' : Nat) (F' C' : Int32) (M' : Nat → Nat) (d' : zx_D) (g' : zy_D), p' < 262144 ∧ zp_FL F' ∧ zs_C C' ∧ zp_MW M' ∧ zp_RD (B + 9) d' g' ∧
      (∀ A E x y r k, x < 68719476736 → y < 68719476736 → r < 68719476736 → zp_CV M k → ∀ post : SX → Prop, (∀ A E x y r k, x < 68719476736 → y < 68719476736 → r < 68719476736 → zp_CV M' k → post (zx_G (nI p') F' C' A E x y r M' k d')) → wpX_step post (zx_G (nI p) F 0 A E x y r M k d)) ∧
      (∀ O A E Wh Dp Mo, ∀ post : SY → Prop, (∀ O A E Wh Dp Mo, post (zy_G (nI p') F' C' O A E Wh Dp Mo M' g')) → wpY_step post (zy_G (nI p) F 0 O A E Wh Dp Mo M g)) := by
  obtain ⟨p', F', C', M', d', g', h1, h2, h3, h4, h5, hX, hY⟩ := zs_loop (fr := p) hp 8 0 rfl B (p % 256) ((p + 1) % 262144) F M d g hB (by omega) (by omega) hF hM R
  refine ⟨p', F', C', M', d', g', h1, h2, h3, h4, h5, ?_, ?_⟩
  · intro A E x y r k hx hy hr hk post H
    exact nm_r (zn_m8 p) (nm_r (by rw [nI_1, zn_m18]) ⟨9, hX A E x y r k hx hy hr hk post H⟩)
  · intro O A E Wh Dp Mo post H
    exact nm_r (zn_m8 p) (nm_r (by rw [nI_1, zn_m18]) ⟨10, hY O A E post H⟩)
/-- a run: n is what is asked for, j what is done; t rounds are left -/
theorem zs_run {n : Nat} (hn : n ≤ 500) : ∀ t j, j + t = n → ∀ (B p : Nat) (F C : Int32) (M : Nat → Nat) (d : zx_D) (g : zy_D), B + 9 * t + 9 < 1000000000 → p < 262144 → zp_FL F → zs_C C → zp_MW M → zp_RD B d g →
    ∃ (rv : Int32) (p' : Nat) (F' C' : Int32) (M' : Nat → Nat) (d' : zx_D) (g' : zy_D), p' < 262144 ∧ zp_FL F' ∧ zs_C C' ∧ zp_MW M' ∧ zp_RD (B + 9 * t) d' g' ∧
      (∀ A E x y r k, x < 68719476736 → y < 68719476736 → r < 68719476736 → zp_CV M k → ∀ post : Int32 → SX → Prop, (∀ A E x y r k, x < 68719476736 → y < 68719476736 → r < 68719476736 → zp_CV M' k → post rv (zx_G (nI p') F' C' A E x y r M' k d')) → wX_run_14 post (nI n) (t + 2) (nI j) (nI p) F C d.1 d.2.1 d.2.2.1 d.2.2.2.1 A E (nI (x / 262144)) (nI (x % 262144)) (nI (y / 262144)) (nI (y % 262144)) (nI (r / 262144)) (nI (r % 262144)) (zp_HI M) (zp_LO M) k.1 k.2.1 k.2.2.1 k.2.2.2.1 k.2.2.2.2 d.2.2.2.2.1 d.2.2.2.2.2.1 d.2.2.2.2.2.2.1 d.2.2.2.2.2.2.2.1 d.2.2.2.2.2.2.2.2) ∧
      (∀ O A E Wh Dp Mo, ∀ post : Int32 → SY → Prop, (∀ O A E Wh Dp Mo, post rv (zy_G (nI p') F' C' O A E Wh Dp Mo M' g')) → wY_run_15 post (nI n) (t + 2) (nI j) (nI p) F C g.1 g.2.1 g.2.2.1 O A E Wh Dp Mo (zp_ME M) g.2.2.2.1 g.2.2.2.2.1 g.2.2.2.2.2) := by
  intro t
  induction t with
  | zero =>
    intro j hj B p F C M d g hB hp hF hC hM R
    refine ⟨nI j, p, F, C, M, d, g, hp, hF, hC, hM, R, ?_, ?_⟩
    · intro A E x y r k hx hy hr hk post H
      exact pk_le n j (fun _ => H _ _ _ _ _ _ hx hy hr hk) (fun h => by omega)
    · intro O A E Wh Dp Mo post H
      exact pk_le n j (fun _ => H _ _ _ _ _ _) (fun h => by omega)
  | succ t ih =>
    intro j hj B p F C M d g hB hp hF hC hM R
    by_cases hc : C = 0
    · subst hc
      obtain ⟨p1, F1, C1, M1, d1, g1, h1, h2, h3, h4, h5, hX, hY⟩ := zs_step hp hF hM R (by omega)
      by_cases hc1 : 2 ≤ C1
      · have hne : ¬ C1 = 0 := fun z => by rw [z] at hc1; exact absurd hc1 (by decide)
        refine ⟨nI j, p1, F1, C1, M1, d1, g1, h1, h2, h3, h4, zp_RDup h5 (by omega), ?_, ?_⟩
        · intro A E x y r k hx hy hr hk post H
          refine pk_le n j (fun h => by omega) (fun _ => br_t rfl ?_)
          refine hX A E x y r k hx hy hr hk _ (fun A' E' x' y' r' k' hx' hy' hr' hk' => br_t hc1 ?_)
          exact pk_le n j (fun h => by omega) (fun _ => br_f hne (H _ _ _ _ _ _ hx' hy' hr' hk'))
        · intro O A E Wh Dp Mo post H
          refine pk_le n j (fun h => by omega) (fun _ => br_t rfl ?_)
          refine hY O A E Wh Dp Mo _ (fun O' A' E' Wh' Dp' Mo' => br_t hc1 ?_)
          exact pk_le n j (fun h => by omega) (fun _ => br_f hne (H _ _ _ _ _ _))
      · obtain ⟨rv, p2, F2, C2, M2, d2, g2, i1, i2, i3, i4, i5, iX, iY⟩ := ih (j + 1) (by omega) (B + 9) p1 F1 C1 M1 d1 g1 (by omega) h1 h2 h3 h4 h5
        refine ⟨rv, p2, F2, C2, M2, d2, g2, i1, i2, i3, i4, zp_RDup i5 (by omega), ?_, ?_⟩
        · intro A E x y r k hx hy hr hk post H
          refine pk_le n j (fun h => by omega) (fun _ => br_t rfl ?_)
          refine hX A E x y r k hx hy hr hk _ (fun A' E' x' y' r' k' hx' hy' hr' hk' => br_f hc1 (nm_r (nI_1 j) ?_))
          exact iX A' E' x' y' r' k' hx' hy' hr' hk' post H
        · intro O A E Wh Dp Mo post H
          refine pk_le n j (fun h => by omega) (fun _ => br_t rfl ?_)
          refine hY O A E Wh Dp Mo _ (fun O' A' E' Wh' Dp' Mo' => br_f hc1 (nm_r (nI_1 j) ?_))
          exact iY O' A' E' Wh' Dp' Mo' post H
    · refine ⟨nI j, p, F, C, M, d, g, hp, hF, hC, hM, zp_RDup R (by omega), ?_, ?_⟩
      · intro A E x y r k hx hy hr hk post H
        exact pk_le n j (fun h => by omega) (fun _ => br_f hc (H _ _ _ _ _ _ hx hy hr hk))
      · intro O A E Wh Dp Mo post H
        exact pk_le n j (fun h => by omega) (fun _ => br_f hc (H _ _ _ _ _ _))
end
section
/-! the relation, and the calls -/
def i_Rel (k : Nat) (u : SX) (v : SY) : Prop :=
  ∃ (p : Nat) (F C : Int32) (M : Nat → Nat) (A E : Int32) (x y r : Nat) (kk : zx_K) (d : zx_D) (O A' E' Wh Dp Mo : Int32) (g : zy_D),
    u = zx_G (nI p) F C A E x y r M kk d ∧ v = zy_G (nI p) F C O A' E' Wh Dp Mo M g ∧ p < 262144 ∧ zp_FL F ∧ zs_C C ∧ zp_MW M ∧ x < 68719476736 ∧ y < 68719476736 ∧ r < 68719476736 ∧ zp_CV M kk ∧ zp_RD (1125 * k) d g
theorem zr_el {P : SX → SY → Prop} {k : Nat} {u : SX} {v : SY} (I : i_Rel k u v)
    (h : ∀ (p : Nat) (F C : Int32) (M : Nat → Nat) (A E : Int32) (x y r : Nat) (kk : zx_K) (d : zx_D) (O A' E' Wh Dp Mo : Int32) (g : zy_D),
      p < 262144 → zp_FL F → zs_C C → zp_MW M → x < 68719476736 → y < 68719476736 → r < 68719476736 → zp_CV M kk → zp_RD (1125 * k) d g → P (zx_G (nI p) F C A E x y r M kk d) (zy_G (nI p) F C O A' E' Wh Dp Mo M g)) : P u v := by
  obtain ⟨p, F, C, M, A, E, x, y, r, kk, d, O, A', E', Wh, Dp, Mo, g, rfl, rfl, h1, h2, h3, h4, h5, h6, h7, h8, h9⟩ := I
  exact h p F C M A E x y r kk d O A' E' Wh Dp Mo g h1 h2 h3 h4 h5 h6 h7 h8 h9
theorem zr_in {k p : Nat} {F C : Int32} {M : Nat → Nat} {A E : Int32} {x y r : Nat} {kk : zx_K} {d : zx_D} {O A' E' Wh Dp Mo : Int32} {g : zy_D}
    (h1 : p < 262144) (h2 : zp_FL F) (h3 : zs_C C) (h4 : zp_MW M) (h5 : x < 68719476736) (h6 : y < 68719476736) (h7 : r < 68719476736) (h8 : zp_CV M kk) (h9 : zp_RD (1125 * k) d g) :
    i_Rel k (zx_G (nI p) F C A E x y r M kk d) (zy_G (nI p) F C O A' E' Wh Dp Mo M g) :=
  ⟨p, F, C, M, A, E, x, y, r, kk, d, O, A', E', Wh, Dp, Mo, g, rfl, rfl, h1, h2, h3, h4, h5, h6, h7, h8, h9⟩
theorem i_up {k : Nat} {u : SX} {v : SY} (h : i_Rel k u v) : i_Rel (k + 4) u v :=
  zr_el (P := fun u v => i_Rel (k + 4) u v) h (fun p F C M A E x y r kk d O A' E' Wh Dp Mo g h1 h2 h3 h4 h5 h6 h7 h8 h9 => zr_in h1 h2 h3 h4 h5 h6 h7 h8 (zp_RDup h9 (by omega)))
theorem i_vc0 : wpX_init (fun u => wpY_init (fun v => i_Rel 0 u v)) := by
  have h := zr_in (k := 0) (p := 0) (F := 0) (C := 0) (M := fun _ => 0) (A := 0) (E := 0) (x := 0) (y := 0) (r := 0) (kk := (fun _ => 0, fun _ => 0, fun _ => 0, fun _ => 0, fun _ => 0)) (d := (0, 0, 0, 0, fun _ => 0, fun _ => 0, fun _ => 0, fun _ => 0, fun _ => 0)) (O := 0) (A' := 0) (E' := 0) (Wh := 0) (Dp := 0) (Mo := 0) (g := (0, 0, 0, fun _ => 0, fun _ => 0, fun _ => 0))
    (by decide) ⟨0, by decide, rfl⟩ (Or.inl rfl) (fun _ => show (0 : Nat) < 68719476736 by decide) (by decide) (by decide) (by decide) (fun j hj => absurd rfl hj)
    ⟨0, 0, 0, fun _ => 0, fun _ => 0, rfl, rfl, rfl, rfl, rfl, rfl, rfl, by decide, by decide, by decide, fun i hi => by omega, fun i _ => ⟨show (0 : Nat) < 68719476736 by decide, show (0 : Int32) = nI (0 / 262144) by decide, show (0 : Int32) = nI (0 % 262144) by decide, show (0 : Int64) = lN 0 by decide⟩⟩
  have e0 : nI (0 / 262144) = 0 := by decide
  have e1 : nI (0 % 262144) = 0 := by decide
  have e2 : zp_HI (fun _ => 0) = fun _ => 0 := by funext j; exact e0
  have e3 : zp_LO (fun _ => 0) = fun _ => 0 := by funext j; exact e1
  have e4 : zp_ME (fun _ => 0) = fun _ => 0 := rfl
  rw [zx_G, zy_G, e0, e2, e3, e4] at h
  exact h
/-- an argument: out of range, or a number -/
theorem zr_case (v : Int32) (m : Nat) {b : Int32} (hb : b = nI m) (hm : m < 2147483648) : (v < 0 ∨ ¬ v ≤ b) ∨ ∃ j, j ≤ m ∧ v = nI j := by
  subst hb
  by_cases h : v < 0
  · exact Or.inl (Or.inl h)
  · obtain ⟨j, hj, rfl⟩ := nI_of h
    by_cases h2 : j ≤ m
    · exact Or.inr ⟨j, h2, rfl⟩
    · exact Or.inl (Or.inr (nI_ge (by omega) hj))
theorem zx_no1 {post : Int32 → Prop} {v b : Int32} (h : v < 0 ∨ ¬ v ≤ b) (H : post 1) : wpX_no post v b := by
  by_cases h0 : v < 0
  · exact br_t h0 H
  · exact br_f h0 (br_f (h.resolve_left h0) H)
theorem zx_no0 {post : Int32 → Prop} {j m : Nat} {b : Int32} (hb : b = nI m) (hm : m < 2147483648) (hj : j ≤ m) (H : post 0) : wpX_no post (nI j) b := by
  subst hb
  exact br_f (nI_pos (by omega)) (br_t (nI_le hj hm) H)
theorem zy_ih0 {post : Int32 → Prop} {v : Int32} (h : v < 0 ∨ ¬ v ≤ 262143) (H : post 0) : wpY_isHalf post v := by
  by_cases h0 : v < 0
  · exact br_t h0 H
  · exact br_f h0 (br_t (Int32.not_le.mp (h.resolve_left h0)) H)
theorem zy_ih1 {post : Int32 → Prop} {j : Nat} (hj : j ≤ 262143) (H : post 1) : wpY_isHalf post (nI j) :=
  br_f (nI_pos (by omega)) (br_f (nI_nlt (a := 262143) hj (by decide)) H)
theorem i_vc_put {k : Nat} {u : SX} {v : SY} (I : i_Rel k u v) (hk : k + 4 ≤ 2048) (v1 : Int32) (v2 : Int32) (v3 : Int32) : wpX_put (fun r u' => wpY_put (fun r' v' => r' = r ∧ i_Rel (k + 4) u' v') v v1 v2 v3) u v1 v2 v3 := by
  refine zr_el (P := fun u v => wpX_put (fun r u' => wpY_put (fun r' v' => r' = r ∧ i_Rel (k + 4) u' v') v v1 v2 v3) u v1 v2 v3) I ?_
  intro p F C M A E x y r kk d O A' E' Wh Dp Mo g h1 h2 h3 h4 h5 h6 h7 h8 h9
  have h9' : zp_RD (1125 * (k + 4)) d g := zp_RDup h9 (by omega)
  have J : i_Rel (k + 4) (zx_G (nI p) F C A E x y r M kk d) (zy_G (nI p) F C O A' E' Wh Dp Mo M g) := zr_in h1 h2 h3 h4 h5 h6 h7 h8 h9'
  unfold wpX_put
  rcases zr_case v1 255 (b := 255) rfl (by decide) with c1 | ⟨a, ha, rfl⟩
  · refine zx_no1 c1 (br_f (by decide) ?_)
    by_cases h0 : v1 < 0
    · exact br_t h0 ⟨rfl, J⟩
    · exact br_f h0 (br_t (Int32.not_le.mp (c1.resolve_left h0)) ⟨rfl, J⟩)
  · refine zx_no0 (m := 255) rfl (by decide) ha (br_t rfl ?_)
    have n0 : ¬ nI a < 0 := nI_pos (by omega)
    have n1 : ¬ 255 < nI a := nI_nlt (a := 255) ha (by decide)
    rcases zr_case v2 262143 (b := 262143) rfl (by decide) with c2 | ⟨l, hl, rfl⟩
    · refine zx_no1 c2 (br_f (by decide) ?_)
      exact br_f n0 (br_f n1 (zy_ih0 c2 (br_t rfl ⟨rfl, J⟩)))
    · refine zx_no0 (m := 262143) rfl (by decide) hl (br_t rfl ?_)
      rcases zr_case v3 262143 (b := 262143) rfl (by decide) with c3 | ⟨w, hw, rfl⟩
      · refine zx_no1 c3 (br_f (by decide) ?_)
        exact br_f n0 (br_f n1 (zy_ih1 hl (br_f (by decide) (zy_ih0 c3 (br_t rfl ⟨rfl, J⟩)))))
      · refine zx_no0 (m := 262143) rfl (by decide) hw (br_t rfl ?_)
        refine zx_write h8 a (l * 262144 + w) rfl (congrArg nI (by omega)) (congrArg nI (by omega)) (fun k' hk' => ?_)
        rw [Nat.mod_eq_of_lt (show a < 256 by omega)] at hk' ⊢
        refine br_f n0 (br_f n1 (zy_ih1 hl (br_f (by decide) (zy_ih1 hw (br_f (by decide) ?_)))))
        unfold wpY_pair
        rw [nI_l (by omega), nI_l (by omega), zl_pair, Nat.mod_eq_of_lt (show l < 262144 by omega), Nat.mod_eq_of_lt (show w < 262144 by omega)]
        refine ⟨vp_in_nI (by omega) (by decide), nm_r (e' := zp_ME (zp_up M a (l * 262144 + w))) (by rw [nI_clamp (by omega), zp_MEu]) ⟨rfl, ?_⟩⟩
        exact zr_in h1 h2 h3 (zp_MWu h4 (by omega)) h5 h6 h7 hk' h9'
theorem i_vc_left {k : Nat} {u : SX} {v : SY} (I : i_Rel k u v) (hk : k + 4 ≤ 2048) (v1 : Int32) : wpX_left (fun r => wpY_left (fun r' => r' = r ∧ i_Rel (k + 4) u v) v v1) u v1 := by
  have J := i_up I
  revert J
  refine zr_el (P := fun u v => i_Rel (k + 4) u v → wpX_left (fun r => wpY_left (fun r' => r' = r ∧ i_Rel (k + 4) u v) v v1) u v1) I ?_
  intro p F C M A E x y r kk d O A' E' Wh Dp Mo g h1 h2 h3 h4 h5 h6 h7 h8 h9 J
  unfold wpX_left
  rcases zr_case v1 255 (b := 255) rfl (by decide) with c1 | ⟨a, ha, rfl⟩
  · refine zx_no1 c1 (br_f (by decide) ?_)
    by_cases h0 : v1 < 0
    · exact br_t h0 ⟨rfl, J⟩
    · exact br_f h0 (br_f (c1.resolve_left h0) ⟨rfl, J⟩)
  · have hw := h4 a
    have ia : vp_in (nI a) 256 := vp_in_nI (by omega) (by decide)
    refine zx_no0 (m := 255) rfl (by decide) ha (br_t rfl ⟨ia, ?_⟩)
    refine br_f (nI_pos (by omega)) (br_t (nI_le ha (by decide)) ⟨ia, ?_, J⟩)
    rw [nI_clamp (by omega)]
    show (lN (M a) >>> ((18 : Int32).toInt64 &&& 63)).toInt32 = nI (M a / 262144)
    rw [zl_shr18 (by omega), lN_i]
theorem i_vc_right {k : Nat} {u : SX} {v : SY} (I : i_Rel k u v) (hk : k + 4 ≤ 2048) (v1 : Int32) : wpX_right (fun r => wpY_right (fun r' => r' = r ∧ i_Rel (k + 4) u v) v v1) u v1 := by
  have J := i_up I
  revert J
  refine zr_el (P := fun u v => i_Rel (k + 4) u v → wpX_right (fun r => wpY_right (fun r' => r' = r ∧ i_Rel (k + 4) u v) v v1) u v1) I ?_
  intro p F C M A E x y r kk d O A' E' Wh Dp Mo g h1 h2 h3 h4 h5 h6 h7 h8 h9 J
  unfold wpX_right
  rcases zr_case v1 255 (b := 255) rfl (by decide) with c1 | ⟨a, ha, rfl⟩
  · refine zx_no1 c1 (br_f (by decide) ?_)
    by_cases h0 : v1 < 0
    · exact br_t h0 ⟨rfl, J⟩
    · exact br_f h0 (br_f (c1.resolve_left h0) ⟨rfl, J⟩)
  · have hw := h4 a
    have ia : vp_in (nI a) 256 := vp_in_nI (by omega) (by decide)
    refine zx_no0 (m := 255) rfl (by decide) ha (br_t rfl ⟨ia, ?_⟩)
    refine br_f (nI_pos (by omega)) (br_t (nI_le ha (by decide)) ⟨ia, ?_, J⟩)
    rw [nI_clamp (by omega)]
    show (lN (M a) &&& 262143).toInt32 = nI (M a % 262144)
    rw [zl_m18, lN_i]
theorem i_vc_number {k : Nat} {u : SX} {v : SY} (I : i_Rel k u v) (hk : k + 4 ≤ 2048) (v1 : Int32) : wpX_number (fun r => wpY_number (fun r' => r' = r ∧ i_Rel (k + 4) u v) v v1) u v1 := by
  have J := i_up I
  revert J
  refine zr_el (P := fun u v => i_Rel (k + 4) u v → wpX_number (fun r => wpY_number (fun r' => r' = r ∧ i_Rel (k + 4) u v) v v1) u v1) I ?_
  intro p F C M A E x y r kk d O A' E' Wh Dp Mo g h1 h2 h3 h4 h5 h6 h7 h8 h9 J
  unfold wpX_number
  rcases zr_case v1 255 (b := 255) rfl (by decide) with c1 | ⟨a, ha, rfl⟩
  · refine zx_no1 c1 (br_f (by decide) ?_)
    by_cases h0 : v1 < 0
    · exact br_t h0 ⟨rfl, J⟩
    · exact br_f h0 (br_f (c1.resolve_left h0) ⟨rfl, J⟩)
  · have hw := h4 a
    have ia : vp_in (nI a) 256 := vp_in_nI (by omega) (by decide)
    refine zx_no0 (m := 255) rfl (by decide) ha (br_t rfl ⟨ia, ia, ?_⟩)
    rw [nI_clamp (by omega)]
    refine zx_value (x := M a) hw ?_
    refine br_f (nI_pos (by omega)) (br_t (nI_le ha (by decide)) ⟨ia, ?_⟩)
    rw [nI_clamp (by omega)]
    exact zy_signed (x := M a) hw ⟨rfl, J⟩
theorem i_vc_start {k : Nat} {u : SX} {v : SY} (I : i_Rel k u v) (hk : k + 4 ≤ 2048) (v1 : Int32) : wpX_start (fun r u' => wpY_start (fun r' v' => r' = r ∧ i_Rel (k + 4) u' v') v v1) u v1 := by
  refine zr_el (P := fun u v => wpX_start (fun r u' => wpY_start (fun r' v' => r' = r ∧ i_Rel (k + 4) u' v') v v1) u v1) I ?_
  intro p F C M A E x y r kk d O A' E' Wh Dp Mo g h1 h2 h3 h4 h5 h6 h7 h8 h9
  have h9' : zp_RD (1125 * (k + 4)) d g := zp_RDup h9 (by omega)
  have J : i_Rel (k + 4) (zx_G (nI p) F C A E x y r M kk d) (zy_G (nI p) F C O A' E' Wh Dp Mo M g) := zr_in h1 h2 h3 h4 h5 h6 h7 h8 h9'
  unfold wpX_start
  rcases zr_case v1 262143 (b := 262143) rfl (by decide) with c1 | ⟨a, ha, rfl⟩
  · refine zx_no1 c1 (br_f (by decide) ?_)
    unfold wpY_start
    exact zy_ih0 c1 (br_t rfl ⟨rfl, J⟩)
  · refine zx_no0 (m := 262143) rfl (by decide) ha (br_t rfl ?_)
    unfold wpY_start
    exact zy_ih1 ha (br_f (by decide) ⟨rfl, zr_in (by omega) ⟨0, by decide, rfl⟩ (Or.inl rfl) h4 h5 h6 h7 h8 h9'⟩)
theorem i_vc_run {k : Nat} {u : SX} {v : SY} (I : i_Rel k u v) (hk : k + 4 ≤ 2048) (v1 : Int32) : wpX_run (fun r u' => wpY_run (fun r' v' => r' = r ∧ i_Rel (k + 4) u' v') v v1) u v1 := by
  refine zr_el (P := fun u v => wpX_run (fun r u' => wpY_run (fun r' v' => r' = r ∧ i_Rel (k + 4) u' v') v v1) u v1) I ?_
  intro p F C M A E x y r kk d O A' E' Wh Dp Mo g h1 h2 h3 h4 h5 h6 h7 h8 h9
  have h9' : zp_RD (1125 * (k + 4)) d g := zp_RDup h9 (by omega)
  have J : i_Rel (k + 4) (zx_G (nI p) F C A E x y r M kk d) (zy_G (nI p) F C O A' E' Wh Dp Mo M g) := zr_in h1 h2 h3 h4 h5 h6 h7 h8 h9'
  unfold wpX_run
  rcases zr_case v1 500 (b := 500) rfl (by decide) with c1 | ⟨a, ha, rfl⟩
  · refine zx_no1 c1 (br_f (by decide) ?_)
    by_cases h0 : v1 < 0
    · exact br_t h0 ⟨rfl, J⟩
    · exact br_f h0 (br_f (c1.resolve_left h0) ⟨rfl, J⟩)
  · obtain ⟨rv, p', F', C', M', d', g', i1, i2, i3, i4, i5, iX, iY⟩ := zs_run (n := a) ha a 0 (by omega) (1125 * k) p F C M d g (by omega) h1 h2 h3 h4 h9
    refine zx_no0 (m := 500) rfl (by decide) ha (br_t rfl ⟨_, iX A E x y r kk h5 h6 h7 h8 _ (fun A2 E2 x2 y2 r2 k2 hx hy hr hk2 => ?_)⟩)
    refine br_f (nI_pos (by omega)) (br_t (nI_le ha (by decide)) ⟨_, iY O A' E' Wh Dp Mo _ (fun O3 A3 E3 W3 D3 M3 => ⟨rfl, ?_⟩)⟩)
    exact zr_in i1 i2 i3 i4 hx hy hr hk2 (zp_RDup i5 (by omega))
theorem i_vc_pc {k : Nat} {u : SX} {v : SY} (I : i_Rel k u v) (hk : k + 4 ≤ 2048) : wpX_pc (fun r => wpY_pc (fun r' => r' = r ∧ i_Rel (k + 4) u v) v) u := by
  have J := i_up I
  revert J
  exact zr_el (P := fun u v => i_Rel (k + 4) u v → wpX_pc (fun r => wpY_pc (fun r' => r' = r ∧ i_Rel (k + 4) u v) v) u) I (fun p F C M A E x y r kk d O A' E' Wh Dp Mo g h1 h2 h3 h4 h5 h6 h7 h8 h9 J => ⟨rfl, J⟩)
theorem i_vc_flags {k : Nat} {u : SX} {v : SY} (I : i_Rel k u v) (hk : k + 4 ≤ 2048) : wpX_flags (fun r => wpY_flags (fun r' => r' = r ∧ i_Rel (k + 4) u v) v) u := by
  have J := i_up I
  revert J
  exact zr_el (P := fun u v => i_Rel (k + 4) u v → wpX_flags (fun r => wpY_flags (fun r' => r' = r ∧ i_Rel (k + 4) u v) v) u) I (fun p F C M A E x y r kk d O A' E' Wh Dp Mo g h1 h2 h3 h4 h5 h6 h7 h8 h9 J => ⟨rfl, J⟩)
theorem i_vc_state {k : Nat} {u : SX} {v : SY} (I : i_Rel k u v) (hk : k + 4 ≤ 2048) : wpX_state (fun r => wpY_state (fun r' => r' = r ∧ i_Rel (k + 4) u v) v) u := by
  have J := i_up I
  revert J
  exact zr_el (P := fun u v => i_Rel (k + 4) u v → wpX_state (fun r => wpY_state (fun r' => r' = r ∧ i_Rel (k + 4) u v) v) u) I (fun p F C M A E x y r kk d O A' E' Wh Dp Mo g h1 h2 h3 h4 h5 h6 h7 h8 h9 J => ⟨rfl, J⟩)
theorem i_vc_input {k : Nat} {u : SX} {v : SY} (I : i_Rel k u v) (hk : k + 4 ≤ 2048) (v1 : Int32) (v2 : Int32) : wpX_input (fun r u' => wpY_input (fun r' v' => r' = r ∧ i_Rel (k + 4) u' v') v v1 v2) u v1 v2 := by
  refine zr_el (P := fun u v => wpX_input (fun r u' => wpY_input (fun r' v' => r' = r ∧ i_Rel (k + 4) u' v') v v1 v2) u v1 v2) I ?_
  intro p F C M A E x y r kk d O A' E' Wh Dp Mo g h1 h2 h3 h4 h5 h6 h7 h8 h9
  have h9' : zp_RD (1125 * (k + 4)) d g := zp_RDup h9 (by omega)
  have J : i_Rel (k + 4) (zx_G (nI p) F C A E x y r M kk d) (zy_G (nI p) F C O A' E' Wh Dp Mo M g) := zr_in h1 h2 h3 h4 h5 h6 h7 h8 h9'
  unfold wpX_input
  rcases zr_case v1 262143 (b := 262143) rfl (by decide) with c1 | ⟨l, hl, rfl⟩
  · refine zx_no1 c1 (br_f (by decide) ?_)
    unfold wpY_input
    exact zy_ih0 c1 (br_t rfl ⟨rfl, J⟩)
  · refine zx_no0 (m := 262143) rfl (by decide) hl (br_t rfl ?_)
    rcases zr_case v2 262143 (b := 262143) rfl (by decide) with c2 | ⟨w, hw, rfl⟩
    · refine zx_no1 c2 (br_f (by decide) ?_)
      unfold wpY_input
      exact zy_ih1 hl (br_f (by decide) (zy_ih0 c2 (br_t rfl ⟨rfl, J⟩)))
    · refine zx_no0 (m := 262143) rfl (by decide) hw (br_t rfl ?_)
      obtain ⟨fi, wt, ou, Q, G, e1, e2, e3, e4, e5, e6, e7, e8, e9, e10, e11, e12⟩ := h9'
      refine pk_eq wt 20 (fun hq => ?_) (fun hq => ?_) e2
      · unfold wpY_input
        refine zy_ih1 hl (br_f (by decide) (zy_ih1 hw (br_f (by decide) (br_t ?_ ⟨rfl, J⟩))))
        show g.1 = 20
        rw [e4, hq]
        rfl
      · have ef : d.1 + d.2.1 - (d.1 + d.2.1) / 20 * 20 = nI ((fi + wt) % 20) := by
          rw [e1, e2, nI_add]
          exact pk_rem (d := 20) (by omega) (by decide) (by decide)
        have ik : vp_in (nI ((fi + wt) % 20)) 20 := vp_in_nI (by omega) (by decide)
        have ck : (nI ((fi + wt) % 20)).toNatClampNeg = (fi + wt) % 20 := nI_clamp (by omega)
        refine ⟨by decide, nm_r ef ⟨ik, ?_⟩⟩
        rw [ck]
        refine nm_e ⟨ik, nm_e (nm_e ?_)⟩
        unfold wpY_input
        refine zy_ih1 hl (br_f (by decide) (zy_ih1 hw (br_f (by decide) (br_f (fun c => hq ?_) (nm_e ?_)))))
        · have c' : nI wt = nI 20 := e4.symm.trans c
          exact (nI_eq (by omega) (by decide)).mp c'
        · unfold wpY_pair
          rw [nI_l (by omega), nI_l (by omega), zl_pair, Nat.mod_eq_of_lt (show l < 262144 by omega), Nat.mod_eq_of_lt (show w < 262144 by omega)]
          have ig : vp_in g.1 20 := by rw [e4]; exact vp_in_nI (by omega) (by decide)
          have cg : g.1.toNatClampNeg = wt := by rw [e4]; exact nI_clamp (by omega)
          refine ⟨ig, ?_⟩
          rw [cg]
          refine nm_e ⟨?_, ?_⟩
          · rw [e4, e2]
          · refine zr_in (d := (d.1, d.2.1 + 1, d.2.2.1, d.2.2.2.1, upd d.2.2.2.2.1 ((fi + wt) % 20) (nI l), upd d.2.2.2.2.2.1 ((fi + wt) % 20) (nI w), d.2.2.2.2.2.2.1, d.2.2.2.2.2.2.2.1, d.2.2.2.2.2.2.2.2)) (g := (g.1 + 1, g.2.1, g.2.2.1, vp_updL g.2.2.2.1 wt (lN (l * 262144 + w)), g.2.2.2.2.1, g.2.2.2.2.2)) h1 h2 h3 h4 h5 h6 h7 h8 ?_
            refine ⟨fi, wt + 1, ou, zp_up Q wt (l * 262144 + w), G, e1, ?_, e3, ?_, e5, e6, e7, e8, by omega, e10, fun i hi => ?_, e12⟩
            · show d.2.1 + 1 = _
              rw [e2, nI_1]
            · show g.1 + 1 = _
              rw [e4, nI_1]
            · by_cases z : i = wt
              · subst z
                rw [zp_upS]
                exact ⟨by omega, pk_us.trans (congrArg nI (by omega)), pk_us.trans (congrArg nI (by omega)), pk_uLs⟩
              · rw [zp_upN z]
                obtain ⟨k1, k2, k3, k4⟩ := e11 i (by omega)
                have hne : (fi + i) % 20 ≠ (fi + wt) % 20 := by omega
                exact ⟨k1, (pk_un hne).trans k2, (pk_un hne).trans k3, (pk_uLn z).trans k4⟩
theorem i_vc_out {k : Nat} {u : SX} {v : SY} (I : i_Rel k u v) (hk : k + 4 ≤ 2048) (v1 : Int32) (v2 : Int32) : wpX_out (fun r => wpY_out (fun r' => r' = r ∧ i_Rel (k + 4) u v) v v1 (lw_bz v2)) u v1 (lw_bz v2) := by
  have J := i_up I
  revert J
  generalize lw_bz v2 = b
  refine zr_el (P := fun u v => i_Rel (k + 4) u v → wpX_out (fun r => wpY_out (fun r' => r' = r ∧ i_Rel (k + 4) u v) v v1 b) u v1 b) I ?_
  intro p F C M A E x y r kk d O A' E' Wh Dp Mo g h1 h2 h3 h4 h5 h6 h7 h8 h9 J
  obtain ⟨fi, wt, ou, Q, G, e1, e2, e3, e4, e5, e6, e7, e8, e9, e10, e11, e12⟩ := h9
  unfold wpX_out
  rcases zr_case v1 39 (b := 39) rfl (by decide) with c1 | ⟨a, ha, rfl⟩
  · refine zx_no1 c1 (br_f (by decide) ?_)
    by_cases h0 : v1 < 0
    · exact br_t h0 ⟨rfl, J⟩
    · exact br_f h0 (br_t (Int32.not_le.mp (c1.resolve_left h0)) ⟨rfl, J⟩)
  · have n0 : ¬ nI a < 0 := nI_pos (by omega)
    have n1 : ¬ 39 < nI a := nI_nlt (a := 39) ha (by decide)
    have ia : vp_in (nI a) 40 := vp_in_nI (by omega) (by decide)
    obtain ⟨k1, k2, k3, k4⟩ := e12 a (by omega)
    refine zx_no0 (m := 39) rfl (by decide) ha (br_t rfl (pk_lt a ou (fun h => ?_) (fun h => ?_) rfl e3))
    · have lt' : nI a < g.2.1 := by rw [e5]; exact nI_lt h (by omega)
      by_cases hb : b = 0
      · refine br_t hb ⟨ia, br_f n0 (br_f n1 (br_t lt' (br_t hb ⟨ia, ?_, J⟩)))⟩
        rw [nI_clamp (by omega)]
        show (g.2.2.2.2.1 a &&& 262143).toInt32 = d.2.2.2.2.2.2.2.1 a
        rw [k4, k3, zl_m18, lN_i]
      · refine br_f hb ⟨ia, br_f n0 (br_f n1 (br_t lt' (br_f hb ⟨ia, ?_, J⟩)))⟩
        rw [nI_clamp (by omega)]
        show (g.2.2.2.2.1 a >>> ((18 : Int32).toInt64 &&& 63)).toInt32 = d.2.2.2.2.2.2.1 a
        rw [k4, k2, zl_shr18 (by omega), lN_i]
    · have nl : ¬ nI a < g.2.1 := by rw [e5]; exact nI_nlt h (by omega)
      exact br_f n0 (br_f n1 (br_f nl ⟨rfl, J⟩))
/-- how many words aren't 0 -/
def zp_cn (M : Nat → Nat) : Nat → Nat
  | 0 => 0
  | i + 1 => zp_cn M i + (if M i = 0 then 0 else 1)
theorem zp_cn_le (M : Nat → Nat) : ∀ i, zp_cn M i ≤ i := by
  intro i
  induction i with
  | zero => exact Nat.le_refl 0
  | succ i ih =>
    show zp_cn M i + (if M i = 0 then 0 else 1) ≤ i + 1
    split <;> omega
theorem zx_cnt {post : Int32 → Prop} {P F C A E : Int32} {x y r : Nat} {M : Nat → Nat} {k : zx_K} {d : zx_D} (hM : zp_MW M) (H : post (nI (zp_cn M 256))) : ∀ t a, a + t = 256 →
    wX_count_49 post P F C d.1 d.2.1 d.2.2.1 d.2.2.2.1 A E (nI (x / 262144)) (nI (x % 262144)) (nI (y / 262144)) (nI (y % 262144)) (nI (r / 262144)) (nI (r % 262144)) (zp_HI M) (zp_LO M) k.1 k.2.1 k.2.2.1 k.2.2.2.1 k.2.2.2.2 d.2.2.2.2.1 d.2.2.2.2.2.1 d.2.2.2.2.2.2.1 d.2.2.2.2.2.2.2.1 d.2.2.2.2.2.2.2.2 (t + 1) (nI (zp_cn M a)) (nI a) := by
  intro t
  induction t with
  | zero =>
    intro a ha
    have ea : a = 256 := by omega
    subst ea
    exact br_t (by decide) H
  | succ t ih =>
    intro a ha
    have hw := hM a
    have ia : vp_in (nI a) 256 := vp_in_nI (by omega) (by decide)
    have hc := zp_cn_le M a
    have J := ih (a + 1) (by omega)
    have es : zp_cn M (a + 1) = zp_cn M a + (if M a = 0 then 0 else 1) := rfl
    refine pk_le 256 a (fun h => by omega) (fun _ => ⟨ia, ?_⟩)
    rw [nI_clamp (n := a) (by omega)]
    refine pk_eq (M a / 262144) 0 (fun h => ⟨ia, pk_eq (M a % 262144) 0 (fun h2 => ?_) (fun h2 => ?_)⟩) (fun h => ?_)
    · rw [if_pos (by omega), Nat.add_zero] at es
      rw [es] at J
      exact nm_r (nI_1 a) J
    · rw [if_neg (by omega)] at es
      rw [es] at J
      exact nm_r (nI_1 _) (nm_r (nI_1 a) J)
    · rw [if_neg (by omega)] at es
      rw [es] at J
      exact nm_r (nI_1 _) (nm_r (nI_1 a) J)
theorem zy_cnt {post : Int32 → Prop} {x1 P F C O A E Wh Dp Mo : Int32} {M : Nat → Nat} {g : zy_D} (hM : zp_MW M)
    (H : (x1 = 0 → post g.2.1) ∧ (¬ x1 = 0 → ((x1 = 1 → post g.1) ∧ (¬ x1 = 1 → ((x1 = 2 → post g.2.2.1) ∧ (¬ x1 = 2 → ((x1 = 3 → post (nI (zp_cn M 256))) ∧ (¬ x1 = 3 → post (-1))))))))) : ∀ t a, a + t = 256 →
    wY_count_4 post x1 P F C g.1 g.2.1 g.2.2.1 O A E Wh Dp Mo (zp_ME M) g.2.2.2.1 g.2.2.2.2.1 g.2.2.2.2.2 (t + 1) (nI (zp_cn M a)) (nI a) := by
  intro t
  induction t with
  | zero =>
    intro a ha
    have ea : a = 256 := by omega
    subst ea
    exact br_t (by decide) H
  | succ t ih =>
    intro a ha
    have hw := hM a
    have ia : vp_in (nI a) 256 := vp_in_nI (by omega) (by decide)
    have J := ih (a + 1) (by omega)
    have es : zp_cn M (a + 1) = zp_cn M a + (if M a = 0 then 0 else 1) := rfl
    refine pk_le 256 a (fun h => by omega) (fun _ => ⟨ia, ?_⟩)
    rw [nI_clamp (n := a) (by omega)]
    by_cases h : M a = 0
    · rw [if_pos h, Nat.add_zero] at es
      rw [es] at J
      refine br_t (by show lN (M a) = 0; rw [h]; rfl) (nm_r (e' := nI (zp_cn M a)) ?_ (nm_r (nI_1 a) J))
      exact Int32.add_zero _
    · rw [if_neg h] at es
      rw [es] at J
      refine br_f (fun c => h ?_) (nm_r (nI_1 _) (nm_r (nI_1 a) J))
      have c' : lN (M a) = lN 0 := c
      exact (pk_lEQ (by omega) (by decide)).mp c'
theorem i_vc_count {k : Nat} {u : SX} {v : SY} (I : i_Rel k u v) (hk : k + 4 ≤ 2048) (v1 : Int32) : wpX_count (fun r => wpY_count (fun r' => r' = r ∧ i_Rel (k + 4) u v) v v1) u v1 := by
  have J := i_up I
  revert J
  refine zr_el (P := fun u v => i_Rel (k + 4) u v → wpX_count (fun r => wpY_count (fun r' => r' = r ∧ i_Rel (k + 4) u v) v v1) u v1) I ?_
  intro p F C M A E x y r kk d O A' E' Wh Dp Mo g h1 h2 h3 h4 h5 h6 h7 h8 h9 J
  obtain ⟨fi, wt, ou, Q, G, e1, e2, e3, e4, e5, e6, e7, e8, e9, e10, e11, e12⟩ := h9
  have e5' : g.2.1 = d.2.2.1 := e5.trans e3.symm
  have e4' : g.1 = d.2.1 := e4.trans e2.symm
  rcases zr_case v1 3 (b := 3) rfl (by decide) with c1 | ⟨a, ha, rfl⟩
  · have nn : ¬ v1 = 0 ∧ ¬ v1 = 1 ∧ ¬ v1 = 2 ∧ ¬ v1 = 3 := by
      refine ⟨?_, ?_, ?_, ?_⟩ <;> (intro z; rw [z] at c1; revert c1; decide)
    have K : wpY_count (fun r' => r' = -1 ∧ i_Rel (k + 4) (zx_G (nI p) F C A E x y r M kk d) (zy_G (nI p) F C O A' E' Wh Dp Mo M g)) (zy_G (nI p) F C O A' E' Wh Dp Mo M g) v1 :=
      ⟨257, zy_cnt h4 (br_f nn.1 (br_f nn.2.1 (br_f nn.2.2.1 (br_f nn.2.2.2 ⟨rfl, J⟩)))) 256 0 rfl⟩
    by_cases h0 : v1 < 0
    · exact br_t h0 K
    · exact br_f h0 (br_t (Int32.not_le.mp (c1.resolve_left h0)) K)
  · refine br_f (nI_pos (by omega)) (br_f (nI_nlt (a := 3) ha (by decide)) ?_)
    have h03 : a = 0 ∨ a = 1 ∨ a = 2 ∨ a = 3 := by omega
    rcases h03 with rfl | rfl | rfl | rfl
    · exact br_t rfl ⟨257, zy_cnt h4 (br_t rfl ⟨e5', J⟩) 256 0 rfl⟩
    · exact br_f (by decide) (br_t rfl ⟨257, zy_cnt h4 (br_f (by decide) (br_t rfl ⟨e4', J⟩)) 256 0 rfl⟩)
    · exact br_f (by decide) (br_f (by decide) (br_t rfl ⟨257, zy_cnt h4 (br_f (by decide) (br_f (by decide) (br_t rfl ⟨e6, J⟩))) 256 0 rfl⟩))
    · refine br_f (by decide) (br_f (by decide) (br_f (by decide) (br_t rfl ⟨257, zx_cnt h4 ?_ 256 0 rfl⟩)))
      exact ⟨257, zy_cnt h4 (br_f (by decide) (br_f (by decide) (br_f (by decide) (br_t rfl ⟨rfl, J⟩)))) 256 0 rfl⟩
theorem i_vc_done {k : Nat} {u : SX} {v : SY} (I : i_Rel k u v) (hk : k + 4 ≤ 2048) (v1 : Int32) : wpX_done (fun r => wpY_done (fun r' => r' = r ∧ i_Rel (k + 4) u v) v v1) u v1 := by
  have J := i_up I
  revert J
  refine zr_el (P := fun u v => i_Rel (k + 4) u v → wpX_done (fun r => wpY_done (fun r' => r' = r ∧ i_Rel (k + 4) u v) v v1) u v1) I ?_
  intro p F C M A E x y r kk d O A' E' Wh Dp Mo g h1 h2 h3 h4 h5 h6 h7 h8 h9 J
  obtain ⟨fi, wt, ou, Q, G, e1, e2, e3, e4, e5, e6, e7, e8, e9, e10, e11, e12⟩ := h9
  unfold wpX_done
  rcases zr_case v1 511 (b := 511) rfl (by decide) with c1 | ⟨a, ha, rfl⟩
  · refine zx_no1 c1 (br_f (by decide) ?_)
    by_cases h0 : v1 < 0
    · exact br_t h0 ⟨rfl, J⟩
    · exact br_f h0 (br_f (c1.resolve_left h0) ⟨rfl, J⟩)
  · have ia : vp_in (nI a) 512 := vp_in_nI (by omega) (by decide)
    refine zx_no0 (m := 511) rfl (by decide) ha (br_t rfl ⟨ia, ?_⟩)
    refine br_f (nI_pos (by omega)) (br_t (nI_le ha (by decide)) ⟨ia, ?_, J⟩)
    show g.2.2.2.2.2 _ = d.2.2.2.2.2.2.2.2 _
    rw [e7]
end
