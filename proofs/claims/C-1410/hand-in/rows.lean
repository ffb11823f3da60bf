section
/-! rows of kit/rows (starting texts): stores, nI, masks, shifts; bits -/
theorem pk_us {f : Nat → Int32} {k : Nat} {x : Int32} : upd f k x k = x := if_pos rfl
theorem pk_un {f : Nat → Int32} {k j : Nat} {x : Int32} (h : j ≠ k) : upd f k x j = f j := if_neg h
theorem pk_uLs {f : Nat → Int64} {k : Nat} {x : Int64} : vp_updL f k x k = x := if_pos rfl
theorem pk_uLn {f : Nat → Int64} {k j : Nat} {x : Int64} (h : j ≠ k) : vp_updL f k x j = f j := if_neg h
theorem pk_sub {a b : Nat} (h : b ≤ a) : nI a - nI b = nI (a - b) := by
  obtain ⟨c, rfl⟩ : ∃ c, a = c + b := ⟨a - b, by omega⟩
  rw [← nI_add, Int32.add_sub_cancel, Nat.add_sub_cancel]
theorem pk_m1 (n : Nat) : nI (n + 1) + (-1) = nI n := by
  rw [← nI_1, Int32.add_assoc, show (1 : Int32) + (-1) = 0 from rfl, Int32.add_zero]
theorem pk_mul (a b : Nat) : nI a * nI b = nI (a * b) := (Int32.ofNat_mul a b).symm
theorem pk_div {a d : Nat} (ha : a < 2 ^ 31) (h0 : 0 < d) (hd : d < 2 ^ 31) : nI a / nI d = nI (a / d) := by
  apply Int32.toInt_inj.mp
  rw [lg_idiv_nonneg (by rw [nI_toInt ha]; omega) (by rw [nI_toInt hd]; omega), nI_toInt ha, nI_toInt hd, nI_toInt (Nat.lt_of_le_of_lt (Nat.div_le_self a d) ha)]
  first | rfl | exact (Int.natCast_ediv _ _).symm
theorem pk_rem {a d : Nat} (ha : a < 2 ^ 31) (h0 : 0 < d) (hd : d < 2 ^ 31) : nI a - nI a / nI d * nI d = nI (a % d) := by
  rw [pk_div ha h0 hd, pk_mul, pk_sub (Nat.div_mul_le_self a d)]
  exact congrArg nI (by have := Nat.div_add_mod' a d; omega)
theorem pk_sub_toInt {a b : Nat} (ha : a < 2 ^ 30) (hb : b < 2 ^ 30) : (nI a - nI b).toInt = (a : Int) - b := by
  rw [Int32.toInt_sub, nI_toInt (by omega), nI_toInt (by omega)]
  exact Int.bmod_eq_of_le (by omega) (by omega)
theorem pk_sneg {a b : Nat} (hb : b < 2 ^ 30) (h : a < b) : nI a - nI b < 0 := by
  rw [Int32.lt_iff_toInt_lt, pk_sub_toInt (by omega) hb, show (0 : Int32).toInt = 0 from by decide]
  omega
theorem pk_ix (x : Int32) {n : Nat} (hn : n < 2 ^ 31) : x < 0 ∨ nI n ≤ x ∨ ∃ j : Nat, j < n ∧ x = nI j := by
  by_cases h : x < 0
  · exact Or.inl h
  · obtain ⟨j, hj, rfl⟩ := nI_of h
    by_cases h2 : j < n
    · exact Or.inr (Or.inr ⟨j, h2, rfl⟩)
    · exact Or.inr (Or.inl (nI_le (by omega) hj))
theorem pk_le {x y : Int32} {A B : Prop} (a b : Nat) (f : a ≤ b → A) (g : b < a → B) (hx : x = nI a := by rfl) (hy : y = nI b := by rfl) (ha : a < 2 ^ 31 := by omega) (hb : b < 2 ^ 31 := by omega) : (x ≤ y → A) ∧ (¬ x ≤ y → B) := by
  subst hx hy
  rw [nI_leI ha hb]
  exact ⟨f, fun z => g (by omega)⟩
theorem pk_lt {x y : Int32} {A B : Prop} (a b : Nat) (f : a < b → A) (g : b ≤ a → B) (hx : x = nI a := by rfl) (hy : y = nI b := by rfl) (ha : a < 2 ^ 31 := by omega) (hb : b < 2 ^ 31 := by omega) : (x < y → A) ∧ (¬ x < y → B) := by
  subst hx hy
  rw [nI_ltI ha hb]
  exact ⟨f, fun z => g (by omega)⟩
theorem pk_eq {x y : Int32} {A B : Prop} (a b : Nat) (f : a = b → A) (g : a ≠ b → B) (hx : x = nI a := by rfl) (hy : y = nI b := by rfl) (ha : a < 2 ^ 31 := by omega) (hb : b < 2 ^ 31 := by omega) : (x = y → A) ∧ (¬ x = y → B) := by
  subst hx hy
  rw [nI_eq ha hb]
  exact ⟨f, g⟩
theorem pk_in {x : Int32} (n N : Nat) (h : n < N) (hx : x = nI n := by rfl) (hN : N < 2 ^ 31 := by omega) : vp_in x N := by
  subst hx
  exact vp_in_nI h hN
theorem pk_cl {x : Int32} (n : Nat) (hx : x = nI n := by rfl) (h : n < 2 ^ 31 := by omega) : x.toNatClampNeg = n := by
  subst hx
  exact nI_clamp h
theorem pk_tn {n : Nat} (h : n < 2 ^ 32) : (nI n).toBitVec.toNat = n := Nat.mod_eq_of_lt h
theorem pk_and (x : Int32) {m : Int32} (k : Nat) (hm : m.toBitVec.toNat = 2 ^ k - 1) : x &&& m = nI (x.toBitVec.toNat % 2 ^ k) := by
  apply Int32.toBitVec_inj.mp
  apply BitVec.eq_of_toNat_eq
  rw [Int32.toBitVec_and, BitVec.toNat_and, hm, Nat.and_two_pow_sub_one_eq_mod]
  show _ = (BitVec.ofNat 32 _).toNat
  rw [BitVec.toNat_ofNat]
  exact (Nat.mod_eq_of_lt (Nat.lt_of_le_of_lt (Nat.mod_le _ _) x.toBitVec.isLt)).symm
theorem pk_andN {n : Nat} (h : n < 2 ^ 32) {m : Int32} (k : Nat) (hm : m.toBitVec.toNat = 2 ^ k - 1) : nI n &&& m = nI (n % 2 ^ k) := by
  rw [pk_and _ k hm, pk_tn h]
theorem pk_andE (x : Int32) {m : Int32} (k : Nat) (hm : m.toBitVec.toNat = 2 ^ k - 1) : ∃ j : Nat, j < 2 ^ k ∧ x &&& m = nI j := ⟨_, Nat.mod_lt _ (Nat.two_pow_pos k), pk_and x k hm⟩
theorem pk_andIn (x : Int32) {m : Int32} (k : Nat) (hm : m.toBitVec.toNat = 2 ^ k - 1) (hk : k ≤ 30) : vp_in (x &&& m) (2 ^ k) := by
  obtain ⟨j, hj, e⟩ := pk_andE x k hm
  rw [e]
  exact vp_in_nI hj (Nat.lt_of_le_of_lt (Nat.pow_le_pow_right (by decide) hk) (by decide))
theorem pk_shl (a s : Int32) (k : Nat) (hs : (s.toBitVec.smod 32).toNat = k) : (a <<< s).toBitVec.toNat = a.toBitVec.toNat * 2 ^ k % 2 ^ 32 := by
  show (a.toBitVec <<< (s.toBitVec.smod 32).toNat).toNat = _
  rw [hs, BitVec.toNat_shiftLeft, Nat.shiftLeft_eq]
theorem pk_shlN {n : Nat} (s : Int32) (k : Nat) (hs : (s.toBitVec.smod 32).toNat = k) (h : n * 2 ^ k < 2 ^ 32) : nI n <<< s = nI (n * 2 ^ k) := by
  apply Int32.toBitVec_inj.mp
  apply BitVec.eq_of_toNat_eq
  have hn : n < 2 ^ 32 := Nat.lt_of_le_of_lt (Nat.le_mul_of_pos_right n (Nat.two_pow_pos k)) h
  rw [pk_shl _ _ k hs, pk_tn hn, pk_tn h, Nat.mod_eq_of_lt h]
theorem pk_shr (a s : Int32) (k : Nat) (hs : (s.toBitVec.smod 32).toNat = k) : (a >>> s).toInt = a.toInt >>> k := by
  show (a.toBitVec.sshiftRight (s.toBitVec.smod 32).toNat).toInt = _
  rw [hs, BitVec.toInt_sshiftRight]
  rfl
theorem pk_shrN {n : Nat} (h : n < 2 ^ 31) (s : Int32) (k : Nat) (hs : (s.toBitVec.smod 32).toNat = k) : nI n >>> s = nI (n / 2 ^ k) := by
  apply Int32.toInt_inj.mp
  have h2 : n / 2 ^ k ≤ n := Nat.div_le_self _ _
  rw [pk_shr _ _ k hs, nI_toInt h, nI_toInt (by omega), Int.shiftRight_eq_div_pow]
  rfl
theorem pk_ushr (x s : Int32) (k : Nat) (hs : ((s.toUInt32 &&& Int32.toUInt32 31).toBitVec % 32).toNat = k) : (x.toUInt32 >>> (s.toUInt32 &&& Int32.toUInt32 31)).toInt32.toBitVec.toNat = x.toBitVec.toNat / 2 ^ k := by
  have e : (x.toUInt32 >>> (s.toUInt32 &&& Int32.toUInt32 31)).toInt32.toBitVec = x.toBitVec >>> k := by
    rw [← hs]
    exact UInt32.toBitVec_shiftRight _ _
  rw [e, BitVec.toNat_ushiftRight, Nat.shiftRight_eq_div_pow]
theorem pk_ushrN {n : Nat} (hn : n < 2 ^ 32) (s : Int32) (k : Nat) (hs : ((s.toUInt32 &&& Int32.toUInt32 31).toBitVec % 32).toNat = k) : ((nI n).toUInt32 >>> (s.toUInt32 &&& Int32.toUInt32 31)).toInt32 = nI (n / 2 ^ k) := by
  apply Int32.toBitVec_inj.mp
  apply BitVec.eq_of_toNat_eq
  rw [pk_ushr _ s k hs, pk_tn hn, pk_tn (Nat.lt_of_le_of_lt (Nat.div_le_self _ _) hn)]
theorem pk_nb (z : Int32) : narrow .byte (.int z.toInt8.toInt32) = .int z.toInt8.toInt32 := congrArg Value.int (by simp)
theorem pk_ns (z : Int32) : narrow .short (.int z.toInt16.toInt32) = .int z.toInt16.toInt32 := congrArg Value.int (by simp)
theorem pk_fb (r : Int32) : fits .byte (.int r.toInt8.toInt32) = true := by
  have ⟨a, b⟩ := lg_i2b_range r
  have h1 : (-128 : Int32).toInt = -128 := by decide
  have h2 : (127 : Int32).toInt = 127 := by decide
  simp only [fits, Bool.and_eq_true, decide_eq_true_eq, Int32.le_iff_toInt_le, h1, h2]
  omega
theorem pk_fs (r : Int32) : fits .short (.int r.toInt16.toInt32) = true := by
  have ⟨a, b⟩ := lg_i2s_range r
  have h1 : (-32768 : Int32).toInt = -32768 := by decide
  have h2 : (32767 : Int32).toInt = 32767 := by decide
  simp only [fits, Bool.and_eq_true, decide_eq_true_eq, Int32.le_iff_toInt_le, h1, h2]
  omega
theorem pk_charN {q : Nat} (hq : q < 65536) : narrow .char (.int (nI q)) = .int (nI q) ∧ fits .char (.int (nI q)) = true := by
  constructor
  · have e : (nI q).toUInt32.toUInt16.toUInt32.toInt32 = nI q := by
      apply Int32.toBitVec_inj.mp
      apply BitVec.eq_of_toNat_eq
      show (nI q).toUInt32.toUInt16.toUInt32.toNat = q % 2 ^ 32
      rw [UInt16.toNat_toUInt32, UInt32.toNat_toUInt16, show (nI q).toUInt32.toNat = q % 2 ^ 32 from rfl]
      omega
    exact congrArg Value.int e
  · have a : (0 : Int32) ≤ nI q := nI_pos' (by omega)
    have b : nI q ≤ 65535 := nI_le (b := 65535) (by omega) (by decide)
    show (decide ((0 : Int32) ≤ nI q) && decide (nI q ≤ 65535)) = true
    rw [decide_eq_true a, decide_eq_true b]
    rfl
theorem pk_char (x : Int32) : (x.toUInt32 % 65536).toInt32 = nI (x.toBitVec.toNat % 65536) := by
  apply Int32.toBitVec_inj.mp
  apply BitVec.eq_of_toNat_eq
  rw [pk_tn (by omega)]
  show (x.toUInt32 % 65536).toNat = _
  rw [UInt32.toNat_mod]
  rfl
theorem pk_nc (x : Int32) : narrow .char (.int (x.toUInt32 % 65536).toInt32) = .int (x.toUInt32 % 65536).toInt32 := by
  rw [pk_char]
  exact (pk_charN (Nat.mod_lt _ (by decide))).1
theorem pk_fc (x : Int32) : fits .char (.int (x.toUInt32 % 65536).toInt32) = true := by
  rw [pk_char]
  exact (pk_charN (Nat.mod_lt _ (by decide))).2
theorem pk_vb (z : Int32) : vp_nar .byte z.toInt8.toInt32 = z.toInt8.toInt32 := by rw [vp_nar_byte]; simp
theorem pk_vs (z : Int32) : vp_nar .short z.toInt16.toInt32 = z.toInt16.toInt32 := by rw [vp_nar_short]; simp
theorem pk_vc (z : Int32) : vp_nar .char (z.toUInt32 % 65536).toInt32 = (z.toUInt32 % 65536).toInt32 := Value.int.inj (pk_nc z)
theorem pk_lT {n : Nat} (h : n < 2 ^ 63) : (lN n).toInt = (n : Int) := lg_ofNat_toInt h
theorem pk_lLT {a b : Nat} (ha : a < 2 ^ 63) (hb : b < 2 ^ 63) : lN a < lN b ↔ a < b := by
  rw [Int64.lt_iff_toInt_lt, pk_lT ha, pk_lT hb]; omega
theorem pk_lLE {a b : Nat} (ha : a < 2 ^ 63) (hb : b < 2 ^ 63) : lN a ≤ lN b ↔ a ≤ b := by
  rw [Int64.le_iff_toInt_le, pk_lT ha, pk_lT hb]; omega
theorem pk_lEQ {a b : Nat} (ha : a < 2 ^ 63) (hb : b < 2 ^ 63) : lN a = lN b ↔ a = b := by
  rw [← Int64.toInt_inj, pk_lT ha, pk_lT hb]; omega
theorem pk_lOf {x : Int64} (h : ¬ x < 0) : ∃ k : Nat, k < 2 ^ 63 ∧ x = lN k := by
  rw [Int64.lt_iff_toInt_lt] at h
  have h0 : (0 : Int64).toInt = 0 := by decide
  have hx := Int64.toInt_lt x
  refine ⟨x.toInt.toNat, by omega, Int64.toInt_inj.mp ?_⟩
  rw [pk_lT (by omega)]
  omega
theorem pk_lDiv {a b : Nat} (ha : a < 2 ^ 63) (h0 : 0 < b) (hb : b < 2 ^ 63) : lN a / lN b = lN (a / b) := by
  apply Int64.toInt_inj.mp
  rw [lg_ldiv_nonneg (by rw [pk_lT ha]; omega) (by rw [pk_lT hb]; omega), pk_lT ha, pk_lT hb, pk_lT (Nat.lt_of_le_of_lt (Nat.div_le_self a b) ha)]
  rfl
theorem pk_lRem {a b : Nat} (ha : a < 2 ^ 63) (h0 : 0 < b) (hb : b < 2 ^ 63) : lN a - lN a / lN b * lN b = lN (a % b) := by
  rw [pk_lDiv ha h0 hb, lN_mul, lN_sub (Nat.div_mul_le_self a b)]
  exact congrArg lN (by have := Nat.div_add_mod' a b; omega)
theorem pk_loop {σ : Type} (W : Nat → Nat → σ → Prop) (I : Nat → σ → Prop) (e i0 : Nat) (s : σ) (hi : i0 ≤ e) (h0 : I i0 s) (hx : ∀ n s, I e s → W (n + 1) e s)
    (hs : ∀ n i s, i < e → I i s → (∀ s', I (i + 1) s' → W n (i + 1) s') → W (n + 1) i s) : ∃ n, W n i0 s :=
  ⟨e + 1, loop_i W I e hx hs (e + 1) i0 s hi (by omega) h0⟩
theorem pk_loopD {σ : Type} (W : Nat → Nat → σ → Prop) (I : Nat → σ → Prop) (hx : ∀ n s, I 0 s → W (n + 1) 0 s)
    (hs : ∀ n i s, I (i + 1) s → (∀ s', I i s' → W n i s') → W (n + 1) (i + 1) s) : ∀ (e : Nat) (s : σ), I e s → W (e + 1) e s := by
  intro e
  induction e with
  | zero => exact fun s h => hx 0 s h
  | succ e ih => exact fun s h => hs (e + 1) e s h (fun s' h' => ih s' h')
def bt (x : Int32) (i : Nat) : Bool := x.toBitVec.getLsbD i
theorem b_ext {x y : Int32} (h : ∀ i, i < 32 → bt x i = bt y i) : x = y := Int32.toBitVec_inj.mp (BitVec.eq_of_getLsbD_eq (fun i hi => h i hi))
theorem b_or (x y : Int32) (i : Nat) : bt (x ||| y) i = (bt x i || bt y i) := by unfold bt; rw [Int32.toBitVec_or, BitVec.getLsbD_or]
theorem b_and (x y : Int32) (i : Nat) : bt (x &&& y) i = (bt x i && bt y i) := by unfold bt; rw [Int32.toBitVec_and, BitVec.getLsbD_and]
theorem b_xor (x y : Int32) (i : Nat) : bt (x ^^^ y) i = (bt x i ^^ bt y i) := by unfold bt; rw [Int32.toBitVec_xor, BitVec.getLsbD_xor]
theorem b_big {x : Int32} {i : Nat} (h : 32 ≤ i) : bt x i = false := BitVec.getLsbD_of_ge _ _ h
theorem b_255 (i : Nat) : bt 255 i = decide (i < 8) := by
  rcases Nat.lt_or_ge i 32 with h | h
  · exact (by decide +kernel : ∀ i, i < 32 → bt 255 i = decide (i < 8)) i h
  · rw [b_big h, decide_eq_false (by omega)]
theorem b_65535 (i : Nat) : bt 65535 i = decide (i < 16) := by
  rcases Nat.lt_or_ge i 32 with h | h
  · exact (by decide +kernel : ∀ i, i < 32 → bt 65535 i = decide (i < 16)) i h
  · rw [b_big h, decide_eq_false (by omega)]
theorem b_m1 : ∀ i, i < 32 → bt (-1) i = true := by decide +kernel
theorem b_0 (i : Nat) : bt 0 i = false := BitVec.getLsbD_zero
theorem s_l : ∀ n, n < 32 → ((nI n &&& 31).toBitVec.smod 32).toNat = n := by decide +kernel
theorem s_u : ∀ n, n < 32 → (((nI n).toUInt32 &&& Int32.toUInt32 31).toBitVec % 32).toNat = n := by decide +kernel
theorem b_shl (n : Nat) (hn : n < 32) (x : Int32) {i : Nat} (hi : i < 32) : bt (x <<< (nI n &&& 31)) i = (decide (n ≤ i) && bt x (i - n)) := by
  unfold bt
  rw [Int32.toBitVec_shiftLeft]
  show (x.toBitVec <<< ((nI n &&& 31).toBitVec.smod 32).toNat).getLsbD i = _
  rw [s_l n hn, BitVec.getLsbD_shiftLeft]
  rcases Nat.lt_or_ge i n with h | h
  · simp [h, Nat.not_le.mpr h]
  · simp [hi, h, Nat.not_lt.mpr h]
theorem b_ushr (n : Nat) (hn : n < 32) (x : Int32) (i : Nat) : bt ((x.toUInt32 >>> ((nI n).toUInt32 &&& Int32.toUInt32 31)).toInt32) i = bt x (n + i) := by
  show (x.toUInt32 >>> ((nI n).toUInt32 &&& Int32.toUInt32 31)).toBitVec.getLsbD i = x.toUInt32.toBitVec.getLsbD (n + i)
  rw [UInt32.toBitVec_shiftRight]
  show (x.toUInt32.toBitVec >>> (((nI n).toUInt32 &&& Int32.toUInt32 31).toBitVec % 32).toNat).getLsbD i = _
  rw [s_u n hn, BitVec.getLsbD_ushiftRight]
theorem b_sshr (n : Nat) (hn : n < 32) (x : Int32) {i : Nat} (hi : i < 32) : bt (x >>> (nI n &&& 31)) i = if n + i < 32 then bt x (n + i) else bt x 31 := by
  unfold bt
  rw [Int32.toBitVec_shiftRight]
  show (x.toBitVec.sshiftRight ((nI n &&& 31).toBitVec.smod 32).toNat).getLsbD i = _
  rw [s_l n hn, BitVec.getLsbD_sshiftRight, BitVec.msb_eq_getLsbD_last]
  simp [hi]
theorem b_shl8 (x : Int32) {i : Nat} (hi : i < 32) : bt (x <<< ((8 : Int32) &&& 31)) i = (decide (8 ≤ i) && bt x (i - 8)) := b_shl 8 (by omega) x hi
theorem b_shl16 (x : Int32) {i : Nat} (hi : i < 32) : bt (x <<< ((16 : Int32) &&& 31)) i = (decide (16 ≤ i) && bt x (i - 16)) := b_shl 16 (by omega) x hi
theorem b_shl24 (x : Int32) {i : Nat} (hi : i < 32) : bt (x <<< ((24 : Int32) &&& 31)) i = (decide (24 ≤ i) && bt x (i - 24)) := b_shl 24 (by omega) x hi
theorem b_sshr8 (x : Int32) {i : Nat} (hi : i < 32) : bt (x >>> ((8 : Int32) &&& 31)) i = if 8 + i < 32 then bt x (8 + i) else bt x 31 := b_sshr 8 (by omega) x hi
/-! ===== nI under and, xor, >>>, one bit, 65535 ===== -/
theorem nx_and (a b : Nat) : nI a &&& nI b = nI (a &&& b) := by
  apply Int32.toBitVec_inj.1
  show BitVec.ofNat 32 a &&& BitVec.ofNat 32 b = BitVec.ofNat 32 (a &&& b)
  apply BitVec.eq_of_getLsbD_eq
  intro i hi
  simp [hi]
theorem nx_xor (a b : Nat) : nI a ^^^ nI b = nI (a ^^^ b) := by
  apply Int32.toBitVec_inj.1
  show BitVec.ofNat 32 a ^^^ BitVec.ofNat 32 b = BitVec.ofNat 32 (a ^^^ b)
  apply BitVec.eq_of_getLsbD_eq
  intro i hi
  simp [hi]
theorem nx_cnt : ∀ j : Fin 32, (UInt32.ofNat j.val &&& Int32.toUInt32 31).toNat % 32 = j.val := by decide +kernel
theorem nx_ush {k j : Nat} (hk : k < 65536) (hj : j < 32) : ((nI k).toUInt32 >>> ((nI j).toUInt32 &&& Int32.toUInt32 31)).toInt32 = nI (k >>> j) := by
  have hs : k >>> j ≤ k := by
    rw [Nat.shiftRight_eq_div_pow]
    exact Nat.div_le_self _ _
  have e2 : UInt32.ofNat k >>> (UInt32.ofNat j &&& Int32.toUInt32 31) = UInt32.ofNat (k >>> j) := by
    apply UInt32.toNat_inj.1
    have h1 : (UInt32.ofNat k).toNat = k := Nat.mod_eq_of_lt (by omega)
    have h2 : (UInt32.ofNat (k >>> j)).toNat = k >>> j := Nat.mod_eq_of_lt (by omega)
    rw [UInt32.toNat_shiftRight, nx_cnt ⟨j, hj⟩, h1, h2]
  show (UInt32.ofNat k >>> (UInt32.ofNat j &&& Int32.toUInt32 31)).toInt32 = _
  rw [e2]
  rfl
theorem nx_bit {k j : Nat} (hk : k < 65536) (hj : j < 16) : (((nI k).toUInt32 >>> ((nI j).toUInt32 &&& Int32.toUInt32 31)).toInt32 &&& 1) = 0 ↔ k.testBit j = false := by
  rw [nx_ush hk (by omega)]
  show nI (k >>> j) &&& nI 1 = 0 ↔ _
  rw [nx_and, Nat.and_one_is_mod, ← nI_0, nI_eq (by omega) (by omega), Nat.testBit_eq_decide_div_mod_eq, Nat.shiftRight_eq_div_pow, decide_eq_false_iff_not]
  generalize k / 2 ^ j = z
  omega
theorem nx_mod (k : Nat) : nI k &&& 65535 = nI (k % 65536) := by
  show nI k &&& nI 65535 = _
  rw [nx_and, show (65535 : Nat) = 2 ^ 16 - 1 from rfl, Nat.and_two_pow_sub_one_eq_mod]
theorem nx_m16 {k : Nat} (h : k < 65536) : nI k &&& 65535 = nI k := by rw [nx_mod, Nat.mod_eq_of_lt h]
theorem nx_mask (x : Int32) : ∃ k, k < 65536 ∧ x &&& 65535 = nI k := by
  have e : x = nI x.toBitVec.toNat := by
    apply Int32.toBitVec_inj.1
    show x.toBitVec = BitVec.ofNat 32 x.toBitVec.toNat
    simp
  refine ⟨x.toBitVec.toNat % 65536, Nat.mod_lt _ (by omega), ?_⟩
  rw [← nx_mod, ← e]
/-! ===== Int32 as a set of bits: test, set ===== -/
def nf_M (m : Int32) : Nat := 4294967296 - m.toBitVec.toNat
theorem nf_sh : ∀ l, l < 32 → ((1 : Int32) <<< (nI l &&& 31)).toBitVec = BitVec.twoPow 32 l := by decide +kernel
theorem nf_sl : ∀ l, l < 32 → (((nI l).toUInt32 &&& Int32.toUInt32 31).toBitVec % 32).toNat = l := by decide +kernel
theorem nf_tp : ∀ l, l < 32 → BitVec.twoPow 32 l ≠ 0#32 := by decide +kernel
theorem nf_bit (m : Int32) (l : Nat) (hl : l < 32) : ((m.toUInt32 >>> ((nI l).toUInt32 &&& Int32.toUInt32 31)).toInt32 &&& 1) = 0 ↔ (m &&& ((1 : Int32) <<< (nI l &&& 31))) = 0 := by
  have e : ((m.toUInt32 >>> ((nI l).toUInt32 &&& Int32.toUInt32 31)).toInt32).toBitVec = m.toBitVec >>> l := by
    show m.toBitVec >>> (((nI l).toUInt32 &&& Int32.toUInt32 31).toBitVec % 32) = m.toBitVec >>> l
    rw [BitVec.ushiftRight_eq', nf_sl l hl]
  rw [← Int32.toBitVec_inj, ← Int32.toBitVec_inj, Int32.toBitVec_and, Int32.toBitVec_and, nf_sh l hl, e, BitVec.and_twoPow]
  show (m.toBitVec >>> l &&& 1#32) = 0#32 ↔ _ = 0#32
  rw [BitVec.and_one_eq_setWidth_ofBool_getLsbD, BitVec.getLsbD_ushiftRight, Nat.add_zero]
  cases hb : m.toBitVec.getLsbD l
  · exact ⟨fun _ => by simp, fun _ => by decide⟩
  · exact ⟨fun z => absurd z (by decide), fun z => absurd ((if_pos rfl).symm.trans z) (nf_tp l hl)⟩
end
section
/-! numbers of any sign: iZ z = Int32.ofInt z, lZ z = Int64.ofInt z -/
def iZ (z : Int) : Int32 := Int32.ofInt z
def lZ (z : Int) : Int64 := Int64.ofInt z
theorem iz_n (n : Nat) : nI n = iZ (n : Int) := Int32.ofInt_eq_ofNat.symm
theorem iz_add (a b : Int) : iZ a + iZ b = iZ (a + b) := (Int32.ofInt_add a b).symm
theorem iz_sub (a b : Int) : iZ a - iZ b = iZ (a - b) := (Int32.ofInt_sub a b).symm
theorem iz_mul (a b : Int) : iZ a * iZ b = iZ (a * b) := (Int32.ofInt_mul a b).symm
theorem iz_neg (a : Int) : -iZ a = iZ (-a) := Int32.neg_ofInt
theorem iz_T {a : Int} (h : -2147483648 ≤ a ∧ a ≤ 2147483647) : (iZ a).toInt = a := Int32.toInt_ofInt_of_le (by omega) (by omega)
theorem iz_of (x : Int32) : x = iZ x.toInt := (Int32.ofInt_toInt x).symm
theorem iz_lt {a b : Int} (ha : -2147483648 ≤ a ∧ a ≤ 2147483647) (hb : -2147483648 ≤ b ∧ b ≤ 2147483647) : iZ a < iZ b ↔ a < b := by
  rw [Int32.lt_iff_toInt_lt, iz_T ha, iz_T hb]
theorem iz_le {a b : Int} (ha : -2147483648 ≤ a ∧ a ≤ 2147483647) (hb : -2147483648 ≤ b ∧ b ≤ 2147483647) : iZ a ≤ iZ b ↔ a ≤ b := by
  rw [Int32.le_iff_toInt_le, iz_T ha, iz_T hb]
theorem iz_eq {a b : Int} (ha : -2147483648 ≤ a ∧ a ≤ 2147483647) (hb : -2147483648 ≤ b ∧ b ≤ 2147483647) : iZ a = iZ b ↔ a = b := by
  rw [← Int32.toInt_inj, iz_T ha, iz_T hb]
theorem zk_lt {x y : Int32} {A B : Prop} (a b : Int) (f : a < b → A) (g : b ≤ a → B) (hx : x = iZ a := by rfl) (hy : y = iZ b := by rfl) (ha : -2147483648 ≤ a ∧ a ≤ 2147483647 := by omega) (hb : -2147483648 ≤ b ∧ b ≤ 2147483647 := by omega) : (x < y → A) ∧ (¬ x < y → B) := by
  subst hx hy
  rw [iz_lt ha hb]
  exact ⟨f, fun z => g (by omega)⟩
theorem zk_le {x y : Int32} {A B : Prop} (a b : Int) (f : a ≤ b → A) (g : b < a → B) (hx : x = iZ a := by rfl) (hy : y = iZ b := by rfl) (ha : -2147483648 ≤ a ∧ a ≤ 2147483647 := by omega) (hb : -2147483648 ≤ b ∧ b ≤ 2147483647 := by omega) : (x ≤ y → A) ∧ (¬ x ≤ y → B) := by
  subst hx hy
  rw [iz_le ha hb]
  exact ⟨f, fun z => g (by omega)⟩
theorem zk_eq {x y : Int32} {A B : Prop} (a b : Int) (f : a = b → A) (g : a ≠ b → B) (hx : x = iZ a := by rfl) (hy : y = iZ b := by rfl) (ha : -2147483648 ≤ a ∧ a ≤ 2147483647 := by omega) (hb : -2147483648 ≤ b ∧ b ≤ 2147483647 := by omega) : (x = y → A) ∧ (¬ x = y → B) := by
  subst hx hy
  rw [iz_eq ha hb]
  exact ⟨f, g⟩
theorem lz_add (a b : Int) : lZ a + lZ b = lZ (a + b) := (Int64.ofInt_add a b).symm
theorem lz_sub (a b : Int) : lZ a - lZ b = lZ (a - b) := (Int64.ofInt_sub a b).symm
theorem lz_mul (a b : Int) : lZ a * lZ b = lZ (a * b) := (Int64.ofInt_mul a b).symm
theorem lz_neg (a : Int) : -lZ a = lZ (-a) := Int64.neg_ofInt
theorem lz_T {a : Int} (h : -9223372036854775808 ≤ a ∧ a ≤ 9223372036854775807) : (lZ a).toInt = a := Int64.toInt_ofInt_of_le (by omega) (by omega)
theorem lz_lt {a b : Int} (ha : -9223372036854775808 ≤ a ∧ a ≤ 9223372036854775807) (hb : -9223372036854775808 ≤ b ∧ b ≤ 9223372036854775807) : lZ a < lZ b ↔ a < b := by
  rw [Int64.lt_iff_toInt_lt, lz_T ha, lz_T hb]
theorem lz_le {a b : Int} (ha : -9223372036854775808 ≤ a ∧ a ≤ 9223372036854775807) (hb : -9223372036854775808 ≤ b ∧ b ≤ 9223372036854775807) : lZ a ≤ lZ b ↔ a ≤ b := by
  rw [Int64.le_iff_toInt_le, lz_T ha, lz_T hb]
theorem lz_eq {a b : Int} (ha : -9223372036854775808 ≤ a ∧ a ≤ 9223372036854775807) (hb : -9223372036854775808 ≤ b ∧ b ≤ 9223372036854775807) : lZ a = lZ b ↔ a = b := by
  rw [← Int64.toInt_inj, lz_T ha, lz_T hb]
theorem lk_lt {x y : Int64} {A B : Prop} (a b : Int) (f : a < b → A) (g : b ≤ a → B) (hx : x = lZ a := by rfl) (hy : y = lZ b := by rfl) (ha : -9223372036854775808 ≤ a ∧ a ≤ 9223372036854775807 := by omega) (hb : -9223372036854775808 ≤ b ∧ b ≤ 9223372036854775807 := by omega) : (x < y → A) ∧ (¬ x < y → B) := by
  subst hx hy
  rw [lz_lt ha hb]
  exact ⟨f, fun z => g (by omega)⟩
theorem lk_le {x y : Int64} {A B : Prop} (a b : Int) (f : a ≤ b → A) (g : b < a → B) (hx : x = lZ a := by rfl) (hy : y = lZ b := by rfl) (ha : -9223372036854775808 ≤ a ∧ a ≤ 9223372036854775807 := by omega) (hb : -9223372036854775808 ≤ b ∧ b ≤ 9223372036854775807 := by omega) : (x ≤ y → A) ∧ (¬ x ≤ y → B) := by
  subst hx hy
  rw [lz_le ha hb]
  exact ⟨f, fun z => g (by omega)⟩
theorem lk_eq {x y : Int64} {A B : Prop} (a b : Int) (f : a = b → A) (g : a ≠ b → B) (hx : x = lZ a := by rfl) (hy : y = lZ b := by rfl) (ha : -9223372036854775808 ≤ a ∧ a ≤ 9223372036854775807 := by omega) (hb : -9223372036854775808 ≤ b ∧ b ≤ 9223372036854775807 := by omega) : (x = y → A) ∧ (¬ x = y → B) := by
  subst hx hy
  rw [lz_eq ha hb]
  exact ⟨f, g⟩
theorem iz_l {a : Int} (h : -2147483648 ≤ a ∧ a ≤ 2147483647) : (iZ a).toInt64 = lZ a :=
  Int32.toInt64_ofInt (by rw [Int32.toInt_minValue]; omega) (by rw [Int32.toInt_maxValue]; omega)
theorem lz_i (a : Int) : (lZ a).toInt32 = iZ a := Int64.toInt32_ofInt
theorem lz_div {a b : Int} (ha : -9223372036854775808 ≤ a ∧ a ≤ 9223372036854775807) (hb : -9223372036854775808 ≤ b ∧ b ≤ 9223372036854775807) : lZ a / lZ b = lZ (a.tdiv b) :=
  (Int64.ofInt_tdiv (by rw [Int64.toInt_minValue]; omega) (by rw [Int64.toInt_maxValue]; omega) (by rw [Int64.toInt_minValue]; omega) (by rw [Int64.toInt_maxValue]; omega)).symm
theorem iz_div {a b : Int} (ha : -2147483648 ≤ a ∧ a ≤ 2147483647) (hb : -2147483648 ≤ b ∧ b ≤ 2147483647) : iZ a / iZ b = iZ (a.tdiv b) :=
  (Int32.ofInt_tdiv (by rw [Int32.toInt_minValue]; omega) (by rw [Int32.toInt_maxValue]; omega) (by rw [Int32.toInt_minValue]; omega) (by rw [Int32.toInt_maxValue]; omega)).symm
theorem iz_b {a : Int} (h : -128 ≤ a ∧ a ≤ 127) : (iZ a).toInt8.toInt32 = iZ a := by
  unfold iZ
  rw [Int32.toInt8_ofInt, Int8.toInt32_ofInt (by rw [Int8.toInt_minValue]; omega) (by rw [Int8.toInt_maxValue]; omega)]
theorem iz_s {a : Int} (h : -32768 ≤ a ∧ a ≤ 32767) : (iZ a).toInt16.toInt32 = iZ a := by
  unfold iZ
  rw [Int32.toInt16_ofInt, Int16.toInt32_ofInt (by rw [Int16.toInt_minValue]; omega) (by rw [Int16.toInt_maxValue]; omega)]
theorem vz_b {a : Int} (h : -128 ≤ a ∧ a ≤ 127) : vp_nar .byte (iZ a) = iZ a := by rw [vp_nar_byte, iz_b h]
theorem vz_s {a : Int} (h : -32768 ≤ a ∧ a ≤ 32767) : vp_nar .short (iZ a) = iZ a := by rw [vp_nar_short, iz_s h]
theorem vn_b {a : Nat} (h : a < 128) : vp_nar .byte (nI a) = nI a := by rw [iz_n, vz_b (by omega)]
theorem vn_s {a : Nat} (h : a < 32768) : vp_nar .short (nI a) = nI a := by rw [iz_n, vz_s (by omega)]
theorem in_b {a : Nat} (h : a < 128) : (nI a).toInt8.toInt32 = nI a := by rw [iz_n, iz_b (by omega)]
theorem in_s {a : Nat} (h : a < 32768) : (nI a).toInt16.toInt32 = nI a := by rw [iz_n, iz_s (by omega)]
theorem vn_c {a : Nat} (h : a < 65536) : vp_nar .char (nI a) = nI a := Value.int.inj (pk_charN h).1
theorem vx_b {x : Int32} (h : -128 ≤ x.toInt ∧ x.toInt ≤ 127) : vp_nar .byte x = x := by rw [iz_of x, vz_b h]
theorem vx_s {x : Int32} (h : -32768 ≤ x.toInt ∧ x.toInt ≤ 32767) : vp_nar .short x = x := by rw [iz_of x, vz_s h]
theorem ix_b {x : Int32} (h : -128 ≤ x.toInt ∧ x.toInt ≤ 127) : x.toInt8.toInt32 = x := by rw [iz_of x, iz_b h]
theorem ix_s {x : Int32} (h : -32768 ≤ x.toInt ∧ x.toInt ≤ 32767) : x.toInt16.toInt32 = x := by rw [iz_of x, iz_s h]
theorem vb_0 : vp_nar .boolean 0 = 0 := by decide
theorem vb_1 : vp_nar .boolean 1 = 1 := by decide
theorem iz_cl {a : Int} (h0 : 0 ≤ a) (h : a ≤ 2147483647) : (iZ a).toNatClampNeg = a.toNat := by
  obtain ⟨n, rfl⟩ : ∃ n : Nat, a = n := ⟨a.toNat, by omega⟩
  rw [← iz_n, nI_clamp (by omega)]
  omega
theorem li_0 : (0 : Int32) = iZ 0 := by decide
theorem li_1 : (1 : Int32) = iZ 1 := by decide
theorem li_2 : (2 : Int32) = iZ 2 := by decide
theorem li_5 : (5 : Int32) = iZ 5 := by decide
theorem li_8 : (8 : Int32) = iZ 8 := by decide
theorem li_16 : (16 : Int32) = iZ 16 := by decide
theorem li_m1 : (-1 : Int32) = iZ (-1) := by decide
theorem ll_0 : (0 : Int64) = lZ 0 := by decide
theorem ll_1 : (1 : Int64) = lZ 1 := by decide
theorem ll_2 : (2 : Int64) = lZ 2 := by decide
theorem ll_5 : (5 : Int64) = lZ 5 := by decide
theorem ll_8 : (8 : Int64) = lZ 8 := by decide
theorem ll_m8 : (-8 : Int64) = lZ (-8) := by decide
theorem nj_mul {c : Int32} (k s : Nat) (hc : c = nI k := by rfl) : c * nI s = nI (k * s) := by subst hc; exact pk_mul k s
theorem nj_ma {c : Int32} (k s j : Nat) (hc : c = nI k := by rfl) : c * nI s + nI j = nI (k * s + j) := by subst hc; rw [pk_mul, nI_add]
theorem nj_a {c : Int32} (s k : Nat) (hc : c = nI k := by rfl) : nI s + c = nI (s + k) := by subst hc; rw [nI_add]
theorem nj_s {c : Int32} (s k : Nat) (h : k ≤ s) (hc : c = nI k := by rfl) : nI s - c = nI (s - k) := by subst hc; rw [pk_sub h]
theorem nj_inj {a b : Nat} (h : nI a = nI b) (ha : a < 2 ^ 31) (hb : b < 2 ^ 31) : a = b := (nI_eq ha hb).mp h
/-! floor quotient, root -/
theorem fl_t {a b : Int} (hb : 0 < b) (h : 0 ≤ a - a.tdiv b * b) : a.tdiv b = a / b := by
  have e := Int.mul_ediv_add_emod a b
  have h1 := Int.emod_nonneg a (by omega : b ≠ 0)
  have h2 := Int.emod_lt_of_pos a hb
  rw [Int.tdiv_eq_ediv, Int.sign_eq_one_of_pos hb] at h ⊢
  split at h
  · rename_i z
    rw [if_pos z]; omega
  · rename_i z
    rw [Int.add_mul, Int.mul_comm (a / b) b] at h
    omega
theorem fl_f {a b : Int} (hb : 0 < b) (h : ¬ 0 ≤ a - a.tdiv b * b) : a.tdiv b - 1 = a / b := by
  have e := Int.mul_ediv_add_emod a b
  have h1 := Int.emod_nonneg a (by omega : b ≠ 0)
  have h2 := Int.emod_lt_of_pos a hb
  rw [Int.tdiv_eq_ediv, Int.sign_eq_one_of_pos hb] at h ⊢
  split at h
  · rename_i z
    rw [Int.add_zero, Int.mul_comm (a / b) b] at h
    omega
  · rename_i z
    rw [if_neg z]; omega
theorem fl_tm (a : Int) {b : Int} (hb : 0 < b) : -b < a - a.tdiv b * b ∧ a - a.tdiv b * b < b := by
  have e := Int.mul_ediv_add_emod a b
  have h1 := Int.emod_nonneg a (by omega : b ≠ 0)
  have h2 := Int.emod_lt_of_pos a hb
  rw [Int.tdiv_eq_ediv, Int.sign_eq_one_of_pos hb]
  split
  · rw [Int.add_zero, Int.mul_comm (a / b) b]; omega
  · rw [Int.add_mul, Int.mul_comm (a / b) b]; omega
theorem xx_floorOf {post : Int64 → Prop} {a b : Int} (ha : -4611686018427387904 ≤ a ∧ a ≤ 4611686018427387904) (hb : 0 < b ∧ b ≤ 4611686018427387904) (h : post (lZ (a / b))) : wpX_floorOf post (lZ a) (lZ b) := by
  have h0 : ¬ lZ b = 0 := by
    rw [ll_0, lz_eq (by omega) (by omega)]; omega
  have hd : lZ a / lZ b = lZ (a.tdiv b) := lz_div (by omega) (by omega)
  have ht := fl_tm a hb.1
  refine ⟨h0, nm_r hd ⟨h0, ?_⟩⟩
  refine lk_le 0 (a - a.tdiv b * b) (fun z => ?_) (fun z => ?_) ll_0 (by rw [hd, lz_mul, lz_sub]) (by omega) (by omega)
  · rw [fl_t hb.1 z]; exact h
  · rw [ll_1, lz_sub, fl_f hb.1 (by omega)]; exact h
theorem rt_sh (k : Nat) (hk : k ≤ 20) : nI (2 ^ k) >>> ((1 : Int32) &&& 31) = nI (2 ^ k / 2) := by
  have h : 2 ^ k < 2 ^ 31 := Nat.pow_lt_pow_right (by decide) (by omega)
  exact pk_shrN h _ 1 (by decide)
theorem rt_loop {s : Int} (hs : 0 ≤ s ∧ s < 4398046511104) : ∀ k : Nat, k ≤ 21 → ∀ r : Int, 0 ≤ r → r + ((2 ^ k : Nat) : Int) ≤ 2097152 → r * r ≤ s → s < (r + ((2 ^ k : Nat) : Int)) * (r + ((2 ^ k : Nat) : Int)) →
    ∃ r' : Int, 0 ≤ r' ∧ r' < 2097152 ∧ r' * r' ≤ s ∧ s < (r' + 1) * (r' + 1) ∧ ∀ post : Int32 → Prop, post (iZ r') → wX_rootOf_6 post (lZ s) (k + 1) (iZ r) (nI (2 ^ k / 2)) := by
  intro k
  induction k with
  | zero =>
    intro _ r h0 h1 h2 h3
    refine ⟨r, h0, by simp at h1; omega, h2, h3, fun post hp => ?_⟩
    exact br_t (by decide) hp
  | succ k ih =>
    intro hk r h0 h1 h2 h3
    have hp : 2 ^ (k + 1) = 2 ^ k * 2 := Nat.pow_succ ..
    have hpp : 0 < 2 ^ k := Nat.two_pow_pos k
    have hpk : 2 ^ k ≤ 1048576 := Nat.le_trans (Nat.pow_le_pow_right (by decide) (by omega : k ≤ 20)) (by decide)
    have hh : 2 ^ (k + 1) / 2 = 2 ^ k := by omega
    rw [hh]
    have hsh := rt_sh k (by omega)
    rw [hp] at h1 h3
    generalize hP : 2 ^ k = p at *
    have ht : r + (p : Int) ≤ 2097152 := by omega
    have ht2 : (r + (p : Int)) * (r + p) ≤ 2097152 * 2097152 := Int.mul_le_mul ht ht (by omega) (by omega)
    have ht0 : 0 ≤ (r + (p : Int)) * (r + p) := Int.mul_nonneg (by omega) (by omega)
    have ex : (iZ r + nI p).toInt64 = lZ (r + p) := by rw [iz_n, iz_add, iz_l (by omega)]
    by_cases c : s < (r + (p : Int)) * (r + p)
    · obtain ⟨r', a1, a2, a3, a4, a5⟩ := ih (by omega) r h0 (by omega) h2 c
      refine ⟨r', a1, a2, a3, a4, fun post hpost => ?_⟩
      refine br_f (fun z => ?_) (nm_r ex (br_t ?_ (nm_r hsh (a5 post hpost))))
      · rw [← nI_0, nI_leI (by omega) (by omega)] at z; omega
      · rw [lz_mul, lz_lt (by omega) (by omega)]; exact c
    · obtain ⟨r', a1, a2, a3, a4, a5⟩ := ih (by omega) (r + p) (by omega) (by omega) (by omega) (by
        have e : r + ((p * 2 : Nat) : Int) = r + p + p := by omega
        rw [e] at h3; exact h3)
      refine ⟨r', a1, a2, a3, a4, fun post hpost => ?_⟩
      refine br_f (fun z => ?_) (nm_r ex (br_f ?_ (nm_r (e' := iZ (r + p)) (by rw [iz_n, iz_add]) (nm_r hsh (a5 post hpost)))))
      · rw [← nI_0, nI_leI (by omega) (by omega)] at z; omega
      · rw [lz_mul, lz_lt (by omega) (by omega)]; exact c
theorem xx_rootOf {s : Int} (hs : 0 ≤ s ∧ s < 4398046511104) : ∃ r : Int, 0 ≤ r ∧ r < 2097152 ∧ r * r ≤ s ∧ s < (r + 1) * (r + 1) ∧ ∀ post : Int32 → Prop, post (iZ r) → wpX_rootOf post (lZ s) := by
  obtain ⟨r, h1, h2, h3, h4, h5⟩ := rt_loop hs 21 (by omega) 0 (by omega) (by decide) (by omega) (by
    have : ((2 ^ 21 : Nat) : Int) = 2097152 := by decide
    rw [this]; omega)
  exact ⟨r, h1, h2, h3, h4, fun post hp => ⟨22, h5 post hp⟩⟩
end
section
/-! geometry in integers: what an edge counts for a point, what a line touches -/
def cn (x1 y1 x2 y2 px py : Int) : Int :=
  if 2 * y1 < py ∧ py < 2 * y2 then (if (x2 - x1) * (py - 2 * y1) < (px - 2 * x1) * (y2 - y1) then 1 else 0)
  else if 2 * y2 < py ∧ py < 2 * y1 then (if (px - 2 * x1) * (y2 - y1) < (x2 - x1) * (py - 2 * y1) then -1 else 0)
  else 0
theorem cn_same (x y px py : Int) : cn x y x y px py = 0 := by
  unfold cn
  rw [if_neg (by omega), if_neg (by omega)]
theorem cn_01 (x1 y1 x2 y2 px py : Int) : cn x1 y1 x2 y2 px py = 0 ∨ cn x1 y1 x2 y2 px py = 1 ∨ cn x1 y1 x2 y2 px py = -1 := by
  unfold cn
  split
  · split
    · exact Or.inr (Or.inl rfl)
    · exact Or.inl rfl
  · split
    · split
      · exact Or.inr (Or.inr rfl)
      · exact Or.inl rfl
    · exact Or.inl rfl
theorem cn_dn {x1 y1 x2 y2 px py : Int} (h : y1 < y2) : cn x1 y1 x2 y2 px py = if 2 * y1 < py ∧ py < 2 * y2 then (if (x2 - x1) * (py - 2 * y1) < (px - 2 * x1) * (y2 - y1) then 1 else 0) else 0 := by
  unfold cn
  by_cases c : 2 * y1 < py ∧ py < 2 * y2
  · rw [if_pos c, if_pos c]
  · rw [if_neg c, if_neg c, if_neg (by omega)]
theorem cn_up {x1 y1 x2 y2 px py : Int} (h : y2 < y1) : cn x1 y1 x2 y2 px py = if 2 * y2 < py ∧ py < 2 * y1 then (if (x1 - x2) * (py - 2 * y2) < (px - 2 * x2) * (y1 - y2) then -1 else 0) else 0 := by
  have e : (px - 2 * x2) * (y1 - y2) - (x1 - x2) * (py - 2 * y2) = (x2 - x1) * (py - 2 * y1) - (px - 2 * x1) * (y2 - y1) := by grind
  unfold cn
  rw [if_neg (by omega)]
  by_cases c : 2 * y2 < py ∧ py < 2 * y1
  · rw [if_pos c, if_pos c]
    generalize (px - 2 * x2) * (y1 - y2) = a at *
    generalize (x1 - x2) * (py - 2 * y2) = b at *
    generalize (x2 - x1) * (py - 2 * y1) = c at *
    generalize (px - 2 * x1) * (y2 - y1) = d at *
    by_cases q : b < a
    · rw [if_pos q, if_pos (by omega)]
    · rw [if_neg q, if_neg (by omega)]
  · rw [if_neg c, if_neg c]
theorem cn_eq {x1 y1 x2 y2 px py : Int} (h : y1 = y2) : cn x1 y1 x2 y2 px py = 0 := by
  unfold cn
  rw [if_neg (by omega), if_neg (by omega)]
theorem sw_col {ax ay dx dy q rest i j : Int} (hdy : 0 < dy) (hn : (8 * j + 5 - 2 * ay) * dx + (2 * ax - 5) * dy = q * (8 * dy) + rest) (h0 : 0 ≤ rest) (h1 : rest < 8 * dy) :
    q + 1 ≤ i ↔ dx * (8 * j + 5 - 2 * ay) < (8 * i + 5 - 2 * ax) * dy := by
  have key : (8 * i + 5 - 2 * ax) * dy - dx * (8 * j + 5 - 2 * ay) = i * (8 * dy) - (q * (8 * dy) + rest) := by grind
  constructor
  · intro h
    have h2 : (q + 1) * (8 * dy) ≤ i * (8 * dy) := Int.mul_le_mul_of_nonneg_right h (by omega)
    rw [Int.add_mul] at h2
    omega
  · intro h
    rcases Int.lt_or_le q i with c | c
    · omega
    · have h2 : i * (8 * dy) ≤ q * (8 * dy) := Int.mul_le_mul_of_nonneg_right c (by omega)
      omega
/-! sums over the first n -/
def sm (f : Nat → Int) : Nat → Int
  | 0 => 0
  | n + 1 => sm f n + f n
theorem sm_s (f : Nat → Int) (n : Nat) : sm f (n + 1) = sm f n + f n := rfl
theorem sm_c {f g : Nat → Int} : ∀ {n : Nat}, (∀ i, i < n → f i = g i) → sm f n = sm g n := by
  intro n
  induction n with
  | zero => intro _; rfl
  | succ n ih => intro h; rw [sm_s, sm_s, ih (fun i hi => h i (by omega)), h n (by omega)]
theorem sm_u (f : Nat → Int) (c : Nat) (s : Int) : ∀ n : Nat, sm (fun i => if i = c then f i + s else f i) n = sm f n + if c < n then s else 0 := by
  intro n
  induction n with
  | zero => rfl
  | succ n ih =>
    rw [sm_s, sm_s, ih]
    by_cases h : n = c
    · subst h
      rw [if_pos rfl, if_neg (by omega), if_pos (by omega)]; omega
    · rw [if_neg h]
      by_cases h2 : c < n
      · rw [if_pos h2, if_pos (by omega)]; omega
      · rw [if_neg h2, if_neg (by omega)]; omega
theorem sm_0 : ∀ n : Nat, sm (fun _ => 0) n = 0 := by
  intro n
  induction n with
  | zero => rfl
  | succ n ih => rw [sm_s, ih]; rfl
theorem sm_m {f : Nat → Int} : ∀ n : Nat, sm (fun i => f i % 2) n % 2 = sm f n % 2 := by
  intro n
  induction n with
  | zero => rfl
  | succ n ih => rw [sm_s, sm_s]; omega
theorem sm_sq {f : Nat → Int} (h : ∀ i, f i = 0 ∨ f i = 1 ∨ f i = -1) : ∀ n : Nat, sm (fun i => f i * f i) n % 2 = sm f n % 2 := by
  intro n
  induction n with
  | zero => rfl
  | succ n ih =>
    rw [sm_s, sm_s]
    rcases h n with e | e | e <;> rw [e] <;> omega
theorem sm_b {f : Nat → Int} {m : Int} : ∀ {n : Nat}, (∀ i, i < n → -m ≤ f i ∧ f i ≤ m) → -(m * n) ≤ sm f n ∧ sm f n ≤ m * n := by
  intro n
  induction n with
  | zero => intro _; simp [sm]
  | succ n ih =>
    intro h
    have h1 := ih (fun i hi => h i (by omega))
    have h2 := h n (by omega)
    have e : m * ((n + 1 : Nat) : Int) = m * n + m := by
      rw [Int.natCast_add, Int.mul_add]; omega
    rw [sm_s, e]
    omega
/-! a line touched: discs and strip -/
def tch (x1 y1 x2 y2 w px py : Int) : Prop :=
  if 0 < (px - 2 * x1) * (2 * x2 - 2 * x1) + (py - 2 * y1) * (2 * y2 - 2 * y1) then
    (if (px - 2 * x1) * (2 * x2 - 2 * x1) + (py - 2 * y1) * (2 * y2 - 2 * y1) < (2 * x2 - 2 * x1) * (2 * x2 - 2 * x1) + (2 * y2 - 2 * y1) * (2 * y2 - 2 * y1) then
      ((2 * x2 - 2 * x1) * (py - 2 * y1) - (2 * y2 - 2 * y1) * (px - 2 * x1)) * ((2 * x2 - 2 * x1) * (py - 2 * y1) - (2 * y2 - 2 * y1) * (px - 2 * x1)) ≤ (w * w) * ((2 * x2 - 2 * x1) * (2 * x2 - 2 * x1) + (2 * y2 - 2 * y1) * (2 * y2 - 2 * y1))
    else (px - 2 * x1 - (2 * x2 - 2 * x1)) * (px - 2 * x1 - (2 * x2 - 2 * x1)) + (py - 2 * y1 - (2 * y2 - 2 * y1)) * (py - 2 * y1 - (2 * y2 - 2 * y1)) ≤ w * w)
  else (px - 2 * x1) * (px - 2 * x1) + (py - 2 * y1) * (py - 2 * y1) ≤ w * w
theorem sq_nn (a : Int) : 0 ≤ a * a := by
  rcases Int.le_total 0 a with h | h
  · exact Int.mul_nonneg h h
  · exact Int.mul_nonneg_of_nonpos_of_nonpos h h
theorem sq_mono {a b : Int} (h0 : 0 ≤ a) (h : a ≤ b) : a * a ≤ b * b := Int.mul_le_mul h h h0 (by omega)
theorem sq_le {z r s : Int} (h0 : 0 ≤ r) (h1 : r * r ≤ s) (h2 : s < (r + 1) * (r + 1)) : (-r ≤ z ∧ z ≤ r) ↔ z * z ≤ s := by
  constructor
  · intro ⟨a, b⟩
    rcases Int.le_total 0 z with h | h
    · have := sq_mono h b; omega
    · have h3 := sq_mono (a := -z) (b := r) (by omega) (by omega)
      rw [Int.neg_mul_neg] at h3; omega
  · intro h
    constructor
    · rcases Int.lt_or_le z (-r) with c | c
      · have h3 := sq_mono (a := r + 1) (b := -z) (by omega) (by omega)
        rw [Int.neg_mul_neg] at h3; omega
      · exact c
    · rcases Int.lt_or_le r z with c | c
      · have h3 := sq_mono (a := r + 1) (b := z) (by omega) (by omega)
        omega
      · exact c
theorem tc_id (a b p q : Int) : (p * b - q * a) * (p * b - q * a) + (a * p + b * q) * (a * p + b * q) = (a * a + b * b) * (p * p + q * q) := by grind
theorem tc_law (a b p q ww : Int) (hw : 0 ≤ ww) :
    (if 0 < a * p + b * q then (if a * p + b * q < p * p + q * q then (p * b - q * a) * (p * b - q * a) ≤ ww * (p * p + q * q) else (a - p) * (a - p) + (b - q) * (b - q) ≤ ww) else a * a + b * b ≤ ww)
    ↔ ((a * a + b * b ≤ ww ∨ (a - p) * (a - p) + (b - q) * (b - q) ≤ ww) ∨ (p * p + q * q ≠ 0 ∧ (0 ≤ a * p + b * q ∧ a * p + b * q ≤ p * p + q * q) ∧ (p * b - q * a) * (p * b - q * a) ≤ ww * (p * p + q * q))) := by
  have id1 := tc_id a b p q
  have e2 : (a - p) * (a - p) + (b - q) * (b - q) = a * a + b * b - 2 * (a * p + b * q) + (p * p + q * q) := by grind
  have id2 : (p * b - q * a) * (p * b - q * a) + (p * p + q * q - (a * p + b * q)) * (p * p + q * q - (a * p + b * q)) = ((a - p) * (a - p) + (b - q) * (b - q)) * (p * p + q * q) := by grind
  have hs : 0 ≤ p * p + q * q := by have := sq_nn p; have := sq_nn q; omega
  have hr : 0 ≤ a * a + b * b := by have := sq_nn a; have := sq_nn b; omega
  rw [e2] at *
  generalize p * p + q * q = S at *
  generalize a * p + b * q = L at *
  generalize a * a + b * b = R at *
  generalize (p * b - q * a) * (p * b - q * a) = C at *
  by_cases c1 : 0 < L
  · rw [if_pos c1]
    by_cases c2 : L < S
    · rw [if_pos c2]
      constructor
      · intro h
        exact Or.inr ⟨by omega, ⟨by omega, by omega⟩, h⟩
      · rintro ((h | h) | ⟨_, _, h⟩)
        · have := sq_nn L
          have h3 : R * S ≤ ww * S := Int.mul_le_mul_of_nonneg_right h hs
          omega
        · have := sq_nn (S - L)
          have h3 : (R - 2 * L + S) * S ≤ ww * S := Int.mul_le_mul_of_nonneg_right h hs
          omega
        · exact h
    · rw [if_neg c2]
      constructor
      · intro h
        exact Or.inl (Or.inr h)
      · rintro ((h | h) | ⟨h0, ⟨_, h1⟩, h⟩)
        · omega
        · exact h
        · have hL : S - L = 0 := by omega
          rw [hL] at id2
          have h4 : (R - 2 * L + S) * S ≤ ww * S := by omega
          exact Int.le_of_mul_le_mul_right h4 (by omega)
  · rw [if_neg c1]
    constructor
    · intro h
      exact Or.inl (Or.inl h)
    · rintro ((h | h) | ⟨h0, ⟨h1, _⟩, h⟩)
      · exact h
      · omega
      · have hL : L = 0 := by omega
        rw [hL] at id1
        have h4 : R * S ≤ ww * S := by omega
        exact Int.le_of_mul_le_mul_right h4 (by omega)
end
section
/-! X: bound, span, round, near -/
theorem pb {a b : Int} (A B : Nat) (ha : -(A : Int) ≤ a ∧ a ≤ A) (hb : -(B : Int) ≤ b ∧ b ≤ B) : -((A * B : Nat) : Int) ≤ a * b ∧ a * b ≤ (A * B : Nat) := by
  have h1 : a.natAbs ≤ A := by omega
  have h2 : b.natAbs ≤ B := by omega
  have h3 : (a * b).natAbs ≤ A * B := by rw [Int.natAbs_mul]; exact Nat.mul_le_mul h1 h2
  generalize a * b = c at *
  generalize A * B = D at *
  omega
theorem fd_b {a s : Int} (ha : -8000000000 ≤ a ∧ a ≤ 8000000000) (hs : 8 ≤ s) : -1000000000 ≤ a / s ∧ a / s ≤ 1000000000 := by
  constructor
  · rw [Int.le_ediv_iff_mul_le (by omega)]; omega
  · exact Int.ediv_le_of_le_mul (by omega) (by omega)
theorem fd_ge {a s i : Int} (hs : 0 < s) : -(a / s) ≤ i ↔ -(i * s) ≤ a := by
  have h := Int.le_ediv_iff_mul_le (a := -i) (b := a) hs
  rw [Int.neg_mul] at h
  constructor
  · intro z; exact h.mp (by omega)
  · intro z; have := h.mpr z; omega
theorem fd_le {a s i : Int} (hs : 0 < s) : i ≤ a / s ↔ i * s ≤ a := Int.le_ediv_iff_mul_le hs
theorem sp_bits : ∀ lo, lo < 16 → ∀ hi, hi < 16 → lo ≤ hi → ∀ i, i < 32 → bt (((2 : Int32) <<< (nI hi &&& 31)) - ((1 : Int32) <<< (nI lo &&& 31))) i = decide (lo ≤ i ∧ i ≤ hi) := by decide +kernel
section
variable {f_drafted f_revisions f_depth f_known f_saved f_edges f_counted f_begun f_startX f_startY f_nowX f_nowY f_low f_high f_pointX f_pointY f_layer f_fault f_faultAt f_units f_used : Int32} {a_draftKind a_draftValue a_streamOf a_sizes a_before a_newest a_opCount a_ops a_opAt a_numbers a_running a_next a_floor a_mix a_matrix a_colour a_width a_clip a_x1 a_y1 a_x2 a_y2 a_extra a_winding a_crossings a_pixels a_painter : Nat → Int32}
theorem bn_139 {post : SX → Prop} {hi la : Int} (h1 : -1000000000 ≤ hi ∧ hi ≤ 15) (hla : -1000000000 ≤ la ∧ la ≤ 1000000000) (h : post (f_drafted, f_revisions, f_depth, f_known, f_saved, f_edges, f_counted, f_begun, f_startX, f_startY, f_nowX, f_nowY, f_low, iZ (if la < hi then la else hi), f_pointX, f_pointY, f_layer, f_fault, f_faultAt, f_units, f_used, a_draftKind, a_draftValue, a_streamOf, a_sizes, a_before, a_newest, a_opCount, a_ops, a_opAt, a_numbers, a_running, a_next, a_floor, a_mix, a_matrix, a_colour, a_width, a_clip, a_x1, a_y1, a_x2, a_y2, a_extra, a_winding, a_crossings, a_pixels, a_painter)) : wX_bound_139 post (lZ la) f_drafted f_revisions f_depth f_known f_saved f_edges f_counted f_begun f_startX f_startY f_nowX f_nowY f_low (iZ hi) f_pointX f_pointY f_layer f_fault f_faultAt f_units f_used a_draftKind a_draftValue a_streamOf a_sizes a_before a_newest a_opCount a_ops a_opAt a_numbers a_running a_next a_floor a_mix a_matrix a_colour a_width a_clip a_x1 a_y1 a_x2 a_y2 a_extra a_winding a_crossings a_pixels a_painter := by
  unfold wX_bound_139
  refine lk_le hi la (fun z => ?_) (fun z => ?_) (iz_l (by omega))
  · rw [if_neg (by omega)] at h; exact h
  · rw [if_pos z] at h; rw [lz_i]; exact h
theorem bn_114 {post : SX → Prop} {lo hi fi Z step : Int} (h0 : 0 ≤ lo ∧ lo ≤ 1000000000) (h1 : -1000000000 ≤ hi ∧ hi ≤ 15) (hfi : -1000000000 ≤ fi ∧ fi ≤ 1000000000) (hZ : -8000000000 ≤ Z ∧ Z ≤ 8000000000) (hs : 8 ≤ step ∧ step ≤ 8000000) (h : post (f_drafted, f_revisions, f_depth, f_known, f_saved, f_edges, f_counted, f_begun, f_startX, f_startY, f_nowX, f_nowY, iZ (if lo < fi then fi else lo), iZ (if Z / step < hi then Z / step else hi), f_pointX, f_pointY, f_layer, f_fault, f_faultAt, f_units, f_used, a_draftKind, a_draftValue, a_streamOf, a_sizes, a_before, a_newest, a_opCount, a_ops, a_opAt, a_numbers, a_running, a_next, a_floor, a_mix, a_matrix, a_colour, a_width, a_clip, a_x1, a_y1, a_x2, a_y2, a_extra, a_winding, a_crossings, a_pixels, a_painter)) : wX_bound_114 post (lZ step) (lZ fi) (lZ Z) f_drafted f_revisions f_depth f_known f_saved f_edges f_counted f_begun f_startX f_startY f_nowX f_nowY (iZ lo) (iZ hi) f_pointX f_pointY f_layer f_fault f_faultAt f_units f_used a_draftKind a_draftValue a_streamOf a_sizes a_before a_newest a_opCount a_ops a_opAt a_numbers a_running a_next a_floor a_mix a_matrix a_colour a_width a_clip a_x1 a_y1 a_x2 a_y2 a_extra a_winding a_crossings a_pixels a_painter := by
  have hb := fd_b hZ hs.1
  unfold wX_bound_114
  refine xx_floorOf (by omega) (by omega) ?_
  refine lk_le fi lo (fun z => ?_) (fun z => ?_) rfl (iz_l (by omega))
  · rw [if_neg (by omega)] at h; exact bn_139 h1 hb h
  · rw [if_pos z] at h; rw [lz_i]; exact bn_139 h1 hb h
theorem xx_bound {lo hi f g least most : Int} {post : SX → Prop} (h0 : 0 ≤ lo ∧ lo ≤ 1000000000) (h1 : -1000000000 ≤ hi ∧ hi ≤ 15) (hf : -1000000 ≤ f ∧ f ≤ 1000000) (hc1 : -8000000000 ≤ 5 * f + g - least ∧ 5 * f + g - least ≤ 8000000000) (hc2 : -8000000000 ≤ most - (5 * f + g) ∧ most - (5 * f + g) ≤ 8000000000) (hl : -8000000000 ≤ least ∧ least ≤ 8000000000)
    (h : ∀ lo' hi' : Int, (0 ≤ lo' ∧ lo' ≤ 1000000000) → (-1000000000 ≤ hi' ∧ hi' ≤ 15) → (∀ i : Int, 0 ≤ i → ((lo' ≤ i ∧ i ≤ hi') ↔ ((lo ≤ i ∧ i ≤ hi) ∧ (least ≤ f * (8 * i + 5) + g ∧ f * (8 * i + 5) + g ≤ most)))) → post (f_drafted, f_revisions, f_depth, f_known, f_saved, f_edges, f_counted, f_begun, f_startX, f_startY, f_nowX, f_nowY, iZ lo', iZ hi', f_pointX, f_pointY, f_layer, f_fault, f_faultAt, f_units, f_used, a_draftKind, a_draftValue, a_streamOf, a_sizes, a_before, a_newest, a_opCount, a_ops, a_opAt, a_numbers, a_running, a_next, a_floor, a_mix, a_matrix, a_colour, a_width, a_clip, a_x1, a_y1, a_x2, a_y2, a_extra, a_winding, a_crossings, a_pixels, a_painter)) :
    wpX_bound post (f_drafted, f_revisions, f_depth, f_known, f_saved, f_edges, f_counted, f_begun, f_startX, f_startY, f_nowX, f_nowY, iZ lo, iZ hi, f_pointX, f_pointY, f_layer, f_fault, f_faultAt, f_units, f_used, a_draftKind, a_draftValue, a_streamOf, a_sizes, a_before, a_newest, a_opCount, a_ops, a_opAt, a_numbers, a_running, a_next, a_floor, a_mix, a_matrix, a_colour, a_width, a_clip, a_x1, a_y1, a_x2, a_y2, a_extra, a_winding, a_crossings, a_pixels, a_painter) (lZ f) (lZ g) (lZ least) (lZ most) := by
  have ec : (5 : Int64) * lZ f + lZ g = lZ (5 * f + g) := by rw [ll_5, lz_mul, lz_add]
  have hv : ∀ i : Int, f * (8 * i + 5) + g = i * (8 * f) + (5 * f + g) := by intro i; grind
  rcases Int.lt_trichotomy f 0 with hn | hz | hp
  · have hb1 := fd_b hc2 (by omega : (8 : Int) ≤ -8 * f)
    have hb2 := fd_b hc1 (by omega : (8 : Int) ≤ -8 * f)
    unfold wpX_bound
    refine nm_r ec (br_f ?_ (br_t ?_ ?_))
    · rw [ll_0, lz_eq (by omega) (by omega)]; omega
    · rw [ll_0, lz_le (by omega) (by omega)]; omega
    · unfold wX_bound_48
      refine br_t rfl ?_
      unfold wX_bound_68
      refine br_t rfl ?_
      unfold wX_bound_88
      rw [ll_m8, lz_mul, lz_sub, lz_sub]
      refine xx_floorOf (by omega) (by omega) (nm_r (lz_neg _) (br_t rfl ?_))
      refine bn_114 h0 h1 (by omega) hc1 (by omega) (h _ _ (by split <;> omega) (by split <;> omega) ?_)
      intro i hi0
      have a1 := fd_ge (a := most - (5 * f + g)) (s := -8 * f) (i := i) (by omega)
      have a2 := fd_le (a := 5 * f + g - least) (s := -8 * f) (i := i) (by omega)
      have e3 : i * (-8 * f) = -(i * (8 * f)) := by grind
      rw [hv i]
      rw [e3] at a1 a2
      generalize i * (8 * f) = v at *
      generalize (most - (5 * f + g)) / (-8 * f) = q1 at *
      generalize (5 * f + g - least) / (-8 * f) = q2 at *
      clear h hv ec
      split <;> split <;> omega
  · subst hz
    unfold wpX_bound
    refine nm_r ec (br_t (by rw [ll_0]) ?_)
    by_cases c : least ≤ g ∧ g ≤ most
    · refine br_f ?_ (br_t ?_ (h lo hi h0 h1 fun i hi0 => ?_))
      · rw [lz_lt (by omega) (by omega)]; omega
      · rw [lz_le (by omega) (by omega)]; omega
      · rw [hv i]; omega
    · have hh := h lo (-1) h0 (by omega) fun i hi0 => by rw [hv i]; omega
      refine lk_lt (5 * 0 + g) least (fun z => hh) (fun z => ?_)
      refine br_f ?_ hh
      rw [lz_le (by omega) (by omega)]; omega
  · have hb1 := fd_b hc1 (by omega : (8 : Int) ≤ 8 * f)
    have hb2 := fd_b hc2 (by omega : (8 : Int) ≤ 8 * f)
    unfold wpX_bound
    refine nm_r ec (br_f ?_ (br_f ?_ ?_))
    · rw [ll_0, lz_eq (by omega) (by omega)]; omega
    · rw [ll_0, lz_le (by omega) (by omega)]; omega
    · unfold wX_bound_48
      refine br_f (by decide) ?_
      unfold wX_bound_68
      refine br_f (by decide) ?_
      unfold wX_bound_88
      rw [ll_8, lz_mul, lz_sub, lz_sub]
      refine xx_floorOf (by omega) (by omega) (nm_r (lz_neg _) (br_f (by decide) ?_))
      refine bn_114 h0 h1 (by omega) hc2 (by omega) (h _ _ (by split <;> omega) (by split <;> omega) ?_)
      intro i hi0
      have a1 := fd_ge (a := 5 * f + g - least) (s := 8 * f) (i := i) (by omega)
      have a2 := fd_le (a := most - (5 * f + g)) (s := 8 * f) (i := i) (by omega)
      rw [hv i]
      generalize i * (8 * f) = v at *
      generalize (most - (5 * f + g)) / (8 * f) = q1 at *
      generalize (5 * f + g - least) / (8 * f) = q2 at *
      clear h hv ec
      split <;> split <;> omega
theorem xx_span {lo hi : Int} {post : Int32 → Prop} (h0 : 0 ≤ lo ∧ lo ≤ 1000000000) (h1 : -1000000000 ≤ hi ∧ hi ≤ 15)
    (h : ∀ m : Int32, (∀ i : Nat, i < 32 → (bt m i = true ↔ (lo ≤ (i : Int) ∧ (i : Int) ≤ hi))) → post m) : wpX_span post (f_drafted, f_revisions, f_depth, f_known, f_saved, f_edges, f_counted, f_begun, f_startX, f_startY, f_nowX, f_nowY, iZ lo, iZ hi, f_pointX, f_pointY, f_layer, f_fault, f_faultAt, f_units, f_used, a_draftKind, a_draftValue, a_streamOf, a_sizes, a_before, a_newest, a_opCount, a_ops, a_opAt, a_numbers, a_running, a_next, a_floor, a_mix, a_matrix, a_colour, a_width, a_clip, a_x1, a_y1, a_x2, a_y2, a_extra, a_winding, a_crossings, a_pixels, a_painter) := by
  unfold wpX_span
  by_cases c : lo ≤ hi
  · obtain ⟨a, rfl⟩ : ∃ a : Nat, lo = a := ⟨lo.toNat, by omega⟩
    obtain ⟨b, rfl⟩ : ∃ b : Nat, hi = b := ⟨hi.toNat, by omega⟩
    rw [← iz_n, ← iz_n]
    refine br_t (nI_le (by omega) (by omega)) (h _ fun i hi => ?_)
    rw [sp_bits a (by omega) b (by omega) (by omega) i hi, decide_eq_true_iff]
    omega
  · refine br_f ?_ (h 0 fun i hi => ?_)
    · rw [iz_le (by omega) (by omega)]; exact c
    · rw [b_0]
      constructor
      · intro z; exact absurd z (by decide)
      · intro z; omega
theorem xx_round {x aw w : Int} {post : Int32 → SX → Prop} (hx : -8000 ≤ x ∧ x ≤ 8000) (ha : -9000 ≤ aw ∧ aw ≤ 9000) (hw : 0 ≤ w ∧ w ≤ 60)
    (h : ∀ (m l hh : Int32), (∀ i : Nat, i < 32 → (bt m i = true ↔ (i < 16 ∧ (8 * (i : Int) + 5 - x) * (8 * (i : Int) + 5 - x) + aw * aw ≤ w * w))) → post m (f_drafted, f_revisions, f_depth, f_known, f_saved, f_edges, f_counted, f_begun, f_startX, f_startY, f_nowX, f_nowY, l, hh, f_pointX, f_pointY, f_layer, f_fault, f_faultAt, f_units, f_used, a_draftKind, a_draftValue, a_streamOf, a_sizes, a_before, a_newest, a_opCount, a_ops, a_opAt, a_numbers, a_running, a_next, a_floor, a_mix, a_matrix, a_colour, a_width, a_clip, a_x1, a_y1, a_x2, a_y2, a_extra, a_winding, a_crossings, a_pixels, a_painter)) :
    wpX_round post (f_drafted, f_revisions, f_depth, f_known, f_saved, f_edges, f_counted, f_begun, f_startX, f_startY, f_nowX, f_nowY, f_low, f_high, f_pointX, f_pointY, f_layer, f_fault, f_faultAt, f_units, f_used, a_draftKind, a_draftValue, a_streamOf, a_sizes, a_before, a_newest, a_opCount, a_ops, a_opAt, a_numbers, a_running, a_next, a_floor, a_mix, a_matrix, a_colour, a_width, a_clip, a_x1, a_y1, a_x2, a_y2, a_extra, a_winding, a_crossings, a_pixels, a_painter) (iZ x) (iZ aw) (iZ w) := by
  unfold wpX_round
  have hww := pb 60 60 (a := w) (b := w) (by omega) (by omega)
  have haw := pb 9000 9000 (a := aw) (b := aw) (by omega) (by omega)
  by_cases c : -w ≤ aw ∧ aw ≤ w
  · have c2 : aw * aw ≤ w * w := by
      rcases Int.le_total 0 aw with z | z
      · exact sq_mono z c.2
      · have := sq_mono (a := -aw) (b := w) (by omega) (by omega)
        rwa [Int.neg_mul_neg] at this
    have c3 := sq_nn aw
    have er : (iZ w * iZ w - iZ aw * iZ aw).toInt64 = lZ (w * w - aw * aw) := by
      rw [iz_mul, iz_mul, iz_sub, iz_l (by omega)]
    obtain ⟨r, r0, r1, r2, r3, rk⟩ := xx_rootOf (s := w * w - aw * aw) (by omega)
    have r4 : r ≤ 60 := by
      rcases Int.lt_or_le 60 r with z | z
      · have := sq_mono (a := 61) (b := r) (by omega) (by omega); omega
      · exact z
    have e1 : (-iZ x).toInt64 = lZ (-x) := by rw [iz_neg, iz_l (by omega)]
    have e2 : (-iZ r).toInt64 = lZ (-r) := by rw [iz_neg, iz_l (by omega)]
    have e3 : (iZ r).toInt64 = lZ r := iz_l (by omega)
    refine br_f ?_ (br_t ?_ (nm_r er (rk _ ?_)))
    · rw [iz_neg, iz_lt (by omega) (by omega)]; omega
    · rw [iz_le (by omega) (by omega)]; omega
    · rw [e1, e2, e3]
      refine xx_bound (lo := 0) (hi := 15) (f := 1) (g := -x) (least := -r) (most := r) (by omega) (by omega) (by omega) (by omega) (by omega) (by omega) ?_
      intro lo' hi' g0 g1 g2
      refine xx_span g0 g1 ?_
      intro m hm
      refine h m _ _ fun i hi => ?_
      rw [hm i hi, g2 i (by omega)]
      have q := sq_le (z := 8 * (i : Int) + 5 - x) r0 r2 r3
      have e4 : 1 * (8 * (i : Int) + 5) + -x = 8 * (i : Int) + 5 - x := by omega
      rw [e4, q]
      omega
  · have c2 : w * w < aw * aw := by
      have k1 : (w + 1) * (w + 1) = w * w + 2 * w + 1 := by grind
      rcases Int.le_total 0 aw with z | z
      · have := sq_mono (a := w + 1) (b := aw) (by omega) (by omega); omega
      · have := sq_mono (a := w + 1) (b := -aw) (by omega) (by omega)
        rw [Int.neg_mul_neg] at this; omega
    have hz : post 0 (f_drafted, f_revisions, f_depth, f_known, f_saved, f_edges, f_counted, f_begun, f_startX, f_startY, f_nowX, f_nowY, f_low, f_high, f_pointX, f_pointY, f_layer, f_fault, f_faultAt, f_units, f_used, a_draftKind, a_draftValue, a_streamOf, a_sizes, a_before, a_newest, a_opCount, a_ops, a_opAt, a_numbers, a_running, a_next, a_floor, a_mix, a_matrix, a_colour, a_width, a_clip, a_x1, a_y1, a_x2, a_y2, a_extra, a_winding, a_crossings, a_pixels, a_painter) := h 0 f_low f_high fun i hi => by
      rw [b_0]
      constructor
      · intro z; exact absurd z (by decide)
      · intro ⟨_, z⟩
        have := sq_nn (8 * (i : Int) + 5 - x)
        omega
    refine zk_lt aw (-w) (fun _ => hz) (fun z => ?_) rfl (iz_neg w)
    refine zk_le aw w (fun z2 => ?_) (fun _ => hz)
    exact absurd ⟨z, z2⟩ c
end
end
section
/-! X: near -/
section
variable {f_drafted f_revisions f_depth f_known f_saved f_edges f_counted f_begun f_startX f_startY f_nowX f_nowY f_low f_high f_pointX f_pointY f_layer f_fault f_faultAt f_units f_used : Int32} {a_draftKind a_draftValue a_streamOf a_sizes a_before a_newest a_opCount a_ops a_opAt a_numbers a_running a_next a_floor a_mix a_matrix a_colour a_width a_clip a_x1 a_y1 a_x2 a_y2 a_extra a_winding a_crossings a_pixels a_painter : Nat → Int32}
theorem xx_near {e s : Nat} {x1 y1 x2 y2 w y : Int} {post : Int32 → SX → Prop} (he : e < 56) (hs : s < 7) (h1 : a_x1 e = iZ x1) (h2 : a_y1 e = iZ y1) (h3 : a_x2 e = iZ x2) (h4 : a_y2 e = iZ y2) (hw : a_width s = iZ w)
    (b1 : -4000 ≤ x1 ∧ x1 ≤ 4000) (b2 : -4000 ≤ y1 ∧ y1 ≤ 4000) (b3 : -4000 ≤ x2 ∧ x2 ≤ 4000) (b4 : -4000 ≤ y2 ∧ y2 ≤ 4000) (bw : 0 ≤ w ∧ w ≤ 60) (bY : 0 ≤ y ∧ y ≤ 100)
    (h : ∀ (m l hh : Int32), (∀ i : Nat, i < 32 → (bt m i = true ↔ (i < 16 ∧ tch x1 y1 x2 y2 w (8 * (i : Int) + 5) y))) → post m (f_drafted, f_revisions, f_depth, f_known, nI s, f_edges, f_counted, f_begun, f_startX, f_startY, f_nowX, f_nowY, l, hh, f_pointX, f_pointY, f_layer, f_fault, f_faultAt, f_units, f_used, a_draftKind, a_draftValue, a_streamOf, a_sizes, a_before, a_newest, a_opCount, a_ops, a_opAt, a_numbers, a_running, a_next, a_floor, a_mix, a_matrix, a_colour, a_width, a_clip, a_x1, a_y1, a_x2, a_y2, a_extra, a_winding, a_crossings, a_pixels, a_painter)) :
    wpX_near post (f_drafted, f_revisions, f_depth, f_known, nI s, f_edges, f_counted, f_begun, f_startX, f_startY, f_nowX, f_nowY, f_low, f_high, f_pointX, f_pointY, f_layer, f_fault, f_faultAt, f_units, f_used, a_draftKind, a_draftValue, a_streamOf, a_sizes, a_before, a_newest, a_opCount, a_ops, a_opAt, a_numbers, a_running, a_next, a_floor, a_mix, a_matrix, a_colour, a_width, a_clip, a_x1, a_y1, a_x2, a_y2, a_extra, a_winding, a_crossings, a_pixels, a_painter) (nI e) (iZ y) := by
  have hi : vp_in (nI e) 56 := vp_in_nI he (by omega)
  have ce : (nI e).toNatClampNeg = e := nI_clamp (by omega)
  have cs : (nI s).toNatClampNeg = s := nI_clamp (by omega)
  have n1 : (2 : Int32) * a_x1 (nI e).toNatClampNeg = iZ (2 * x1) := by rw [ce, h1, li_2, iz_mul]
  have n2 : (2 : Int32) * a_y1 (nI e).toNatClampNeg = iZ (2 * y1) := by rw [ce, h2, li_2, iz_mul]
  have n3 : (2 : Int32) * a_x2 (nI e).toNatClampNeg = iZ (2 * x2) := by rw [ce, h3, li_2, iz_mul]
  have n4 : (2 : Int32) * a_y2 (nI e).toNatClampNeg = iZ (2 * y2) := by rw [ce, h4, li_2, iz_mul]
  have n5 : a_width (nI s).toNatClampNeg = iZ w := by rw [cs, hw]
  have lawX : ∀ i : Nat, tch x1 y1 x2 y2 w (8 * (i : Int) + 5) y ↔ _ := fun i => tc_law (8 * (i : Int) + 5 - 2 * x1) (y - 2 * y1) (2 * x2 - 2 * x1) (2 * y2 - 2 * y1) (w * w) (sq_nn w)
  have q1 : ∀ i : Nat, 8 * (i : Int) + 5 - 2 * x1 - (2 * x2 - 2 * x1) = 8 * (i : Int) + 5 - 2 * x2 := by intro i; omega
  have q2 : y - 2 * y1 - (2 * y2 - 2 * y1) = y - 2 * y2 := by omega
  unfold wpX_near
  refine ⟨hi, nm_r n1 ⟨hi, nm_r n2 ⟨hi, nm_r n3 ⟨hi, nm_r n4 ⟨vp_in_nI hs (by omega), nm_r n5 ?_⟩⟩⟩⟩⟩
  rw [iz_sub y (2 * y1), iz_sub y (2 * y2)]
  refine xx_round (by omega) (by omega) bw ?_
  intro m1 l1 hh1 hm1
  refine xx_round (by omega) (by omega) bw ?_
  intro m2 l2 hh2 hm2
  have e9 : (iZ (2 * x2) - iZ (2 * x1)).toInt64 = lZ (2 * x2 - 2 * x1) := by rw [iz_sub, iz_l (by omega)]
  have e11 : (iZ (2 * y2) - iZ (2 * y1)).toInt64 = lZ (2 * y2 - 2 * y1) := by rw [iz_sub, iz_l (by omega)]
  refine nm_e (nm_r e9 (nm_r e11 ?_))
  rw [lz_mul, lz_mul, lz_add]
  have p1 := pb 16000 16000 (a := 2 * x2 - 2 * x1) (b := 2 * x2 - 2 * x1) (by omega) (by omega)
  have p2 := pb 16000 16000 (a := 2 * y2 - 2 * y1) (b := 2 * y2 - 2 * y1) (by omega) (by omega)
  have s1 := sq_nn (2 * x2 - 2 * x1)
  have s2 := sq_nn (2 * y2 - 2 * y1)
  refine nm_e ?_
  by_cases z : (2 * x2 - 2 * x1) * (2 * x2 - 2 * x1) + (2 * y2 - 2 * y1) * (2 * y2 - 2 * y1) = 0
  · refine br_t (by rw [z, ll_0]) (h _ _ _ fun i hi => ?_)
    rw [b_or, Bool.or_eq_true, hm1 i hi, hm2 i hi, lawX i, q1 i, q2]
    constructor
    · rintro (⟨a, b⟩ | ⟨a, b⟩)
      · exact ⟨a, Or.inl (Or.inl b)⟩
      · exact ⟨a, Or.inl (Or.inr b)⟩
    · rintro ⟨a, ((b | b) | b)⟩
      · exact Or.inl ⟨a, b⟩
      · exact Or.inr ⟨a, b⟩
      · exact absurd z b.1
  · refine br_f (by rw [ll_0, lz_eq (by omega) (by omega)]; exact z) ?_
    generalize hS : (2 * x2 - 2 * x1) * (2 * x2 - 2 * x1) + (2 * y2 - 2 * y1) * (2 * y2 - 2 * y1) = S at *
    have w1 : 0 ≤ w * w := sq_nn w
    have w2 := pb 60 60 (a := w) (b := w) (by omega) (by omega)
    have w3 := pb 512000000 3600 (a := S) (b := w * w) (by omega) (by omega)
    have w4 : 0 ≤ S * (w * w) := Int.mul_nonneg (by omega) w1
    obtain ⟨r, r0, r1, r2, r3, rk⟩ := xx_rootOf (s := S * (w * w)) (by omega)
    rw [iz_l (a := w) (by omega), lz_mul, lz_mul, Int.mul_assoc]
    refine rk _ ?_
    have g1 := pb 16000 8100 (a := 2 * y2 - 2 * y1) (b := y - 2 * y1) (by omega) (by omega)
    have g2 := pb 16000 8000 (a := 2 * x2 - 2 * x1) (b := 2 * x1) (by omega) (by omega)
    have g3 := pb 16000 8100 (a := 2 * x2 - 2 * x1) (b := y - 2 * y1) (by omega) (by omega)
    have g4 := pb 16000 8000 (a := 2 * y2 - 2 * y1) (b := 2 * x1) (by omega) (by omega)
    have f1 : (iZ (y - 2 * y1)).toInt64 = lZ (y - 2 * y1) := iz_l (by omega)
    have f2 : (iZ (2 * x1)).toInt64 = lZ (2 * x1) := iz_l (by omega)
    have f3 : (-iZ r).toInt64 = lZ (-r) := by rw [iz_neg, iz_l (by omega)]
    have f4 : (iZ r).toInt64 = lZ r := iz_l (by omega)
    rw [f1, f2, f3, f4, lz_neg, lz_mul, lz_mul, lz_mul, lz_mul, lz_add, lz_sub]
    refine xx_bound (lo := 0) (hi := 15) (least := 0) (by omega) (by omega) (by omega) (by omega) (by omega) (by omega) ?_
    intro lo1 hi1 k0 k1 k2
    refine xx_bound k0 k1 (by omega) (by omega) (by omega) (by omega) ?_
    intro lo2 hi2 k3 k4 k5
    refine xx_span k3 k4 ?_
    intro m3 hm3
    refine h _ _ _ fun i hi => ?_
    rw [b_or, b_or, Bool.or_eq_true, Bool.or_eq_true, hm1 i hi, hm2 i hi, hm3 i hi, k5 i (by omega), k2 i (by omega), lawX i, q1 i, q2]
    have v1 : (2 * x2 - 2 * x1) * (8 * (i : Int) + 5) + ((2 * y2 - 2 * y1) * (y - 2 * y1) - (2 * x2 - 2 * x1) * (2 * x1)) = (8 * (i : Int) + 5 - 2 * x1) * (2 * x2 - 2 * x1) + (y - 2 * y1) * (2 * y2 - 2 * y1) := by grind
    have v2 : -(2 * y2 - 2 * y1) * (8 * (i : Int) + 5) + ((2 * x2 - 2 * x1) * (y - 2 * y1) + (2 * y2 - 2 * y1) * (2 * x1)) = (2 * x2 - 2 * x1) * (y - 2 * y1) - (2 * y2 - 2 * y1) * (8 * (i : Int) + 5 - 2 * x1) := by grind
    rw [v1, v2, sq_le r0 r2 r3, Int.mul_comm (w * w) S]
    constructor
    · rintro ((⟨a, b⟩ | ⟨a, b⟩) | ⟨⟨⟨a0, a1⟩, b⟩, c⟩)
      · exact ⟨a, Or.inl (Or.inl b)⟩
      · exact ⟨a, Or.inl (Or.inr b)⟩
      · exact ⟨by omega, Or.inr ⟨z, b, c⟩⟩
    · rintro ⟨a, ((b | b) | ⟨_, b, c⟩)⟩
      · exact Or.inl (Or.inl ⟨a, b⟩)
      · exact Or.inl (Or.inr ⟨a, b⟩)
      · exact Or.inr ⟨⟨by omega, b⟩, c⟩
end
end
section
/-! X: sweep, inside -/
def wi (W : Nat → Int) (aw ac : Nat → Int32) : Prop := ∀ c, c < 192 → (aw c = iZ (W c) ∧ ac c = iZ (W c % 2))
theorem qb {q d r n : Int} (N : Int) (hd : 1 ≤ d) (h0 : 0 ≤ r) (h1 : r < d) (e : n = q * d + r) (hn : -N ≤ n ∧ n ≤ N) : -N - 1 ≤ q ∧ q ≤ N := by
  constructor
  · rcases Int.lt_or_le q (-N - 1) with z | z
    · have h2 : (q + 1) * d ≤ (q + 1) * 1 := Int.mul_le_mul_of_nonpos_left (by omega) hd
      rw [Int.add_mul] at h2
      omega
    · exact z
  · rcases Int.lt_or_le N q with z | z
    · have h2 : q * 1 ≤ q * d := Int.mul_le_mul_of_nonneg_left hd (by omega)
      omega
    · exact z
theorem xr_1 {w : Int} : ((iZ (w % 2)) ^^^ 1) = iZ ((w + 1) % 2) := by
  have h : w % 2 = 0 ∨ w % 2 = 1 := by omega
  rcases h with h | h
  · rw [h, show (w + 1) % 2 = 1 by omega]; decide
  · rw [h, show (w + 1) % 2 = 0 by omega]; decide
theorem xr_2 {w : Int} : ((iZ (w % 2)) ^^^ 1) = iZ ((w + -1) % 2) := by
  rw [xr_1, show (w + -1) % 2 = (w + 1) % 2 by omega]
section
variable {f_drafted f_revisions f_depth f_known f_saved f_edges f_counted f_begun f_startX f_startY f_nowX f_nowY f_low f_high f_pointX f_pointY f_layer f_fault f_faultAt f_units f_used : Int32} {a_draftKind a_draftValue a_streamOf a_sizes a_before a_newest a_opCount a_ops a_opAt a_numbers a_running a_next a_floor a_mix a_matrix a_colour a_width a_clip a_x1 a_y1 a_x2 a_y2 a_extra a_winding a_crossings a_pixels a_painter : Nat → Int32}
theorem sw_loop {ax ay dx dy sq sr m : Int} {fl : Int32} {sg : Int} (hfl : (fl = 0 ∧ sg = -1) ∨ (fl = 1 ∧ sg = 1))
    (hm : 0 ≤ m ∧ m ≤ 100) (hax : -4000 ≤ ax ∧ ax ≤ 4000) (hay : -4000 ≤ ay ∧ ay ≤ 4000) (hdx : -8000 ≤ dx ∧ dx ≤ 8000) (hdy : 0 < dy ∧ dy ≤ 8000)
    (hsr : 8 * dx = sq * (8 * dy) + sr) (hs0 : 0 ≤ sr) (hs1 : sr < 8 * dy) {post : SX → Prop} {W0 : Nat → Int}
    (hpost : ∀ (W' : Nat → Int) (aw ac : Nat → Int32), wi W' aw ac → (∀ c, c < 192 → -(m + 1) ≤ W' c ∧ W' c ≤ m + 1) →
      (∀ j : Nat, j < 12 → ∀ i : Nat, i < 16 → sm (fun k => W' (16 * j + k)) (i + 1) = sm (fun k => W0 (16 * j + k)) (i + 1) + (if (2 * ay < 8 * (j : Int) + 5 ∧ 8 * (j : Int) + 5 < 2 * (ay + dy)) then (if dx * (8 * (j : Int) + 5 - 2 * ay) < (8 * (i : Int) + 5 - 2 * ax) * dy then sg else 0) else 0)) → post (f_drafted, f_revisions, f_depth, f_known, f_saved, f_edges, f_counted, f_begun, f_startX, f_startY, f_nowX, f_nowY, f_low, f_high, f_pointX, f_pointY, f_layer, f_fault, f_faultAt, f_units, f_used, a_draftKind, a_draftValue, a_streamOf, a_sizes, a_before, a_newest, a_opCount, a_ops, a_opAt, a_numbers, a_running, a_next, a_floor, a_mix, a_matrix, a_colour, a_width, a_clip, a_x1, a_y1, a_x2, a_y2, a_extra, aw, ac, a_pixels, a_painter)) :
    ∀ (k j : Nat), 12 ≤ j + k → ∀ n, k < n → ∀ (q rest : Int) (W : Nat → Int) (aw ac : Nat → Int32), wi W aw ac → (∀ c, c < 192 → -(m + 1) ≤ W c ∧ W c ≤ m + 1) → (∀ c, 16 * j ≤ c → c < 192 → (W c = W0 c ∧ (-m ≤ W c ∧ W c ≤ m))) →
      (∀ j' : Nat, j' < 12 → j' < j → ∀ i : Nat, i < 16 → sm (fun k => W (16 * j' + k)) (i + 1) = sm (fun k => W0 (16 * j' + k)) (i + 1) + (if (2 * ay < 8 * (j' : Int) + 5 ∧ 8 * (j' : Int) + 5 < 2 * (ay + dy)) then (if dx * (8 * (j' : Int) + 5 - 2 * ay) < (8 * (i : Int) + 5 - 2 * ax) * dy then sg else 0) else 0)) →
      (2 * ay < 8 * (j : Int) + 5) →
      (8 * (j : Int) + 5 - 2 * ay) * dx + (2 * ax - 5) * dy = q * (8 * dy) + rest → 0 ≤ rest → rest < 8 * dy → j ≤ 2000 →
      wX_sweep_225 post fl (iZ ay) (iZ dy) (iZ (8 * dy)) (iZ sq) (iZ sr) f_drafted f_revisions f_depth f_known f_saved f_edges f_counted f_begun f_startX f_startY f_nowX f_nowY f_low f_high f_pointX f_pointY f_layer f_fault f_faultAt f_units f_used n (iZ q) (iZ rest) (nI j) a_draftKind a_draftValue a_streamOf a_sizes a_before a_newest a_opCount a_ops a_opAt a_numbers a_running a_next a_floor a_mix a_matrix a_colour a_width a_clip a_x1 a_y1 a_x2 a_y2 a_extra aw ac a_pixels a_painter := by
  have fin : ∀ (j : Nat) (W : Nat → Int) (aw ac : Nat → Int32), wi W aw ac → (∀ c, c < 192 → -(m + 1) ≤ W c ∧ W c ≤ m + 1) → (∀ c, 16 * j ≤ c → c < 192 → (W c = W0 c ∧ (-m ≤ W c ∧ W c ≤ m))) →
      (∀ j' : Nat, j' < 12 → j' < j → ∀ i : Nat, i < 16 → sm (fun k => W (16 * j' + k)) (i + 1) = sm (fun k => W0 (16 * j' + k)) (i + 1) + (if (2 * ay < 8 * (j' : Int) + 5 ∧ 8 * (j' : Int) + 5 < 2 * (ay + dy)) then (if dx * (8 * (j' : Int) + 5 - 2 * ay) < (8 * (i : Int) + 5 - 2 * ax) * dy then sg else 0) else 0)) →
      (j < 12 → 2 * (ay + dy) ≤ 8 * (j : Int) + 5) → post (f_drafted, f_revisions, f_depth, f_known, f_saved, f_edges, f_counted, f_begun, f_startX, f_startY, f_nowX, f_nowY, f_low, f_high, f_pointX, f_pointY, f_layer, f_fault, f_faultAt, f_units, f_used, a_draftKind, a_draftValue, a_streamOf, a_sizes, a_before, a_newest, a_opCount, a_ops, a_opAt, a_numbers, a_running, a_next, a_floor, a_mix, a_matrix, a_colour, a_width, a_clip, a_x1, a_y1, a_x2, a_y2, a_extra, aw, ac, a_pixels, a_painter) := by
    intro j W aw ac h1 h2 h3 h4 h5
    refine hpost W aw ac h1 h2 fun j' hj' i hi => ?_
    by_cases c : j' < j
    · exact h4 j' hj' c i hi
    · rw [if_neg (by omega), Int.add_zero]
      exact sm_c fun k hk => (h3 _ (by omega) (by omega)).1
  intro k
  induction k with
  | zero =>
    intro j hj n hn q rest W aw ac h1 h2 h3 h4 h5 h6 h7 h8 h9
    obtain ⟨n, rfl⟩ : ∃ n', n = n' + 1 := ⟨n - 1, by omega⟩
    rw [wX_sweep_225]
    exact br_t (nI_le (a := 12) (by omega) (by omega)) (fin j W aw ac h1 h2 h3 h4 (by omega))
  | succ k ih =>
    intro j hj n hn q rest W aw ac h1 h2 h3 h4 h5 h6 h7 h8 h9
    obtain ⟨n, rfl⟩ : ∃ n', n = n' + 1 := ⟨n - 1, by omega⟩
    rw [wX_sweep_225]
    refine pk_le 12 j (fun c => fin j W aw ac h1 h2 h3 h4 (by omega)) (fun c => ?_)
    have e8 : (8 : Int32) * nI j + 5 = iZ (8 * j + 5) := by rw [iz_n, li_8, li_5, iz_mul, iz_add]
    have e2 : (2 : Int32) * (iZ ay + iZ dy) = iZ (2 * (ay + dy)) := by rw [li_2, iz_add, iz_mul]
    refine zk_le (2 * (ay + dy)) (8 * j + 5) (fun c2 => fin j W aw ac h1 h2 h3 h4 (by omega)) (fun c2 => ?_) e2 e8
    have b1 := pb 8100 8000 (a := 8 * (j : Int) + 5 - 2 * ay) (b := dx) (by omega) (by omega)
    have b2 := pb 8005 8000 (a := 2 * ax - 5) (b := dy) (by omega) (by omega)
    have bq := qb 128840000 (by omega) h7 h8 h6 (by omega)
    have eq1 : iZ q + 1 = iZ (q + 1) := by rw [li_1, iz_add]
    have col := fun i : Int => sw_col (i := i) hdy.1 h6 h7 h8
    have nxt : (8 * ((j + 1 : Nat) : Int) + 5 - 2 * ay) * dx + (2 * ax - 5) * dy = (q + sq) * (8 * dy) + (rest + sr) := by
      have : (8 * ((j + 1 : Nat) : Int) + 5 - 2 * ay) * dx = (8 * (j : Int) + 5 - 2 * ay) * dx + 8 * dx := by
        rw [Int.natCast_add]; grind
      rw [this, Int.add_mul]; omega
    -- the tail: sweep_317
    have tail : ∀ (W1 : Nat → Int) (aw1 ac1 : Nat → Int32), wi W1 aw1 ac1 → (∀ c, c < 192 → -(m + 1) ≤ W1 c ∧ W1 c ≤ m + 1) → (∀ c, 16 * (j + 1) ≤ c → c < 192 → (W1 c = W0 c ∧ (-m ≤ W1 c ∧ W1 c ≤ m))) →
      (∀ j' : Nat, j' < 12 → j' < j + 1 → ∀ i : Nat, i < 16 → sm (fun k => W1 (16 * j' + k)) (i + 1) = sm (fun k => W0 (16 * j' + k)) (i + 1) + (if (2 * ay < 8 * (j' : Int) + 5 ∧ 8 * (j' : Int) + 5 < 2 * (ay + dy)) then (if dx * (8 * (j' : Int) + 5 - 2 * ay) < (8 * (i : Int) + 5 - 2 * ax) * dy then sg else 0) else 0)) →
      wX_sweep_317 post (wX_sweep_225 post fl (iZ ay) (iZ dy) (iZ (8 * dy)) (iZ sq) (iZ sr) f_drafted f_revisions f_depth f_known f_saved f_edges f_counted f_begun f_startX f_startY f_nowX f_nowY f_low f_high f_pointX f_pointY f_layer f_fault f_faultAt f_units f_used n) fl (iZ ay) (iZ dy) (iZ (8 * dy)) (iZ q) (iZ rest) (iZ sq) (iZ sr) (nI j) f_drafted f_revisions f_depth f_known f_saved f_edges f_counted f_begun f_startX f_startY f_nowX f_nowY f_low f_high f_pointX f_pointY f_layer f_fault f_faultAt f_units f_used a_draftKind a_draftValue a_streamOf a_sizes a_before a_newest a_opCount a_ops a_opAt a_numbers a_running a_next a_floor a_mix a_matrix a_colour a_width a_clip a_x1 a_y1 a_x2 a_y2 a_extra aw1 ac1 a_pixels a_painter := by
      intro W1 aw1 ac1 g1 g2 g3 g4
      unfold wX_sweep_317
      refine nm_r (iz_add q sq) (nm_r (iz_add rest sr) ?_)
      refine zk_lt (rest + sr) (8 * dy) (fun z => nm_r (nI_1 j) ?_) (fun z => nm_r (iz_sub _ _) (nm_r (e' := iZ (q + sq + 1)) (by rw [li_1, iz_add]) (nm_r (nI_1 j) ?_)))
      · exact ih (j + 1) (by omega) n (by omega) _ _ W1 aw1 ac1 g1 g2 g3 g4 (by omega) nxt (by omega) (by omega) (by omega)
      · refine ih (j + 1) (by omega) n (by omega) _ _ W1 aw1 ac1 g1 g2 g3 g4 (by omega) ?_ (by omega) (by omega) (by omega)
        rw [nxt, Int.add_mul (q + sq) 1]; omega
    -- the cell: sweep_264
    have cell : ∀ i0 : Int, 0 ≤ i0 → i0 ≤ 128840001 → (∀ i : Nat, i0 ≤ (i : Int) ↔ q + 1 ≤ (i : Int)) → wX_sweep_264 post (wX_sweep_225 post fl (iZ ay) (iZ dy) (iZ (8 * dy)) (iZ sq) (iZ sr) f_drafted f_revisions f_depth f_known f_saved f_edges f_counted f_begun f_startX f_startY f_nowX f_nowY f_low f_high f_pointX f_pointY f_layer f_fault f_faultAt f_units f_used n) fl (iZ ay) (iZ dy) (iZ (8 * dy)) (iZ q) (iZ rest) (iZ sq) (iZ sr) (nI j) (iZ i0) f_drafted f_revisions f_depth f_known f_saved f_edges f_counted f_begun f_startX f_startY f_nowX f_nowY f_low f_high f_pointX f_pointY f_layer f_fault f_faultAt f_units f_used a_draftKind a_draftValue a_streamOf a_sizes a_before a_newest a_opCount a_ops a_opAt a_numbers a_running a_next a_floor a_mix a_matrix a_colour a_width a_clip a_x1 a_y1 a_x2 a_y2 a_extra aw ac a_pixels a_painter := by
      intro i0 p0 p1 p2
      unfold wX_sweep_264
      refine zk_le 16 i0 (fun z => ?_) (fun z => ?_) (by decide)
      · refine tail W aw ac h1 h2 (fun c hc hc2 => h3 c (by omega) hc2) ?_
        intro j' hj' hj2 i hi
        by_cases hjj : j' < j
        · exact h4 j' hj' hjj i hi
        · have ej : j' = j := by omega
          subst ej
          rw [if_pos ⟨by omega, by omega⟩, if_neg, Int.add_zero]
          · exact sm_c fun k hk => (h3 _ (by omega) (by omega)).1
          · rw [← col, ← p2 i]; omega
      · obtain ⟨c0, rfl⟩ : ∃ c0 : Nat, i0 = c0 := ⟨i0.toNat, by omega⟩
        have ec : (16 : Int32) * nI j + iZ c0 = nI (16 * j + c0) := by rw [← iz_n]; exact nj_ma 16 j c0
        rw [ec]
        have hin : vp_in (nI (16 * j + c0)) 192 := vp_in_nI (by omega) (by omega)
        have cl : (nI (16 * j + c0)).toNatClampNeg = 16 * j + c0 := nI_clamp (by omega)
        have hw := h1 (16 * j + c0) (by omega)
        have hb := h3 (16 * j + c0) (by omega) (by omega)
        have store : ∀ z0 : Int32, z0 = iZ sg → wX_sweep_296 post (wX_sweep_225 post fl (iZ ay) (iZ dy) (iZ (8 * dy)) (iZ sq) (iZ sr) f_drafted f_revisions f_depth f_known f_saved f_edges f_counted f_begun f_startX f_startY f_nowX f_nowY f_low f_high f_pointX f_pointY f_layer f_fault f_faultAt f_units f_used n) fl (iZ ay) (iZ dy) (iZ (8 * dy)) (iZ q) (iZ rest) (iZ sq) (iZ sr) (nI j) (iZ c0) z0 (aw (nI (16 * j + c0)).toNatClampNeg) (nI (16 * j + c0)) f_drafted f_revisions f_depth f_known f_saved f_edges f_counted f_begun f_startX f_startY f_nowX f_nowY f_low f_high f_pointX f_pointY f_layer f_fault f_faultAt f_units f_used a_draftKind a_draftValue a_streamOf a_sizes a_before a_newest a_opCount a_ops a_opAt a_numbers a_running a_next a_floor a_mix a_matrix a_colour a_width a_clip a_x1 a_y1 a_x2 a_y2 a_extra aw ac a_pixels a_painter := by
          intro z0 hz0
          have sgb : -1 ≤ sg ∧ sg ≤ 1 := by omega
          have e1 : vp_nar .byte ((aw (16 * j + c0) + z0).toInt8.toInt32) = iZ (W (16 * j + c0) + sg) := by
            rw [hw.1, hz0, iz_add, iz_b (by omega), vz_b (by omega)]
          have e3 : vp_nar .byte ((ac (16 * j + c0) ^^^ 1).toInt8.toInt32) = iZ ((W (16 * j + c0) + sg) % 2) := by
            rw [hw.2]
            rcases hfl with ⟨_, e⟩ | ⟨_, e⟩
            · rw [e, xr_2, iz_b (by omega), vz_b (by omega)]
            · rw [e, xr_1, iz_b (by omega), vz_b (by omega)]
          unfold wX_sweep_296
          rw [ec, cl]
          refine ⟨hin, nm_e ⟨hin, hin, nm_e ?_⟩⟩
          rw [e1, e3]
          refine tail (fun c => if c = 16 * j + c0 then W c + sg else W c) _ _ ?_ ?_ ?_ ?_
          · intro c hc
            dsimp only
            by_cases hcc : c = 16 * j + c0
            · subst hcc
              rw [pk_us, pk_us, if_pos rfl]
              exact ⟨rfl, rfl⟩
            · rw [pk_un hcc, pk_un hcc, if_neg hcc]
              exact h1 c hc
          · intro c hc
            have := h2 c hc
            by_cases hcc : c = 16 * j + c0
            · subst hcc
              rw [if_pos rfl]; omega
            · rw [if_neg hcc]; exact this
          · intro c hc hc2
            rw [if_neg (by omega)]
            exact h3 c (by omega) hc2
          · intro j' hj' hj2 i hi
            by_cases hjj : j' < j
            · rw [← h4 j' hj' hjj i hi]
              exact sm_c fun k hk => if_neg (by omega)
            · have ej : j' = j := by omega
              subst ej
              have eu : sm (fun k => if 16 * j' + k = 16 * j' + c0 then W (16 * j' + k) + sg else W (16 * j' + k)) (i + 1) = sm (fun k => if k = c0 then W0 (16 * j' + k) + sg else W0 (16 * j' + k)) (i + 1) := by
                refine sm_c fun k hk => ?_
                rw [(h3 (16 * j' + k) (by omega) (by omega)).1]
                by_cases hkk : k = c0
                · rw [if_pos hkk, if_pos (by omega)]
                · rw [if_neg hkk, if_neg (by omega)]
              have hc : c0 < i + 1 ↔ dx * (8 * (j' : Int) + 5 - 2 * ay) < (8 * (i : Int) + 5 - 2 * ax) * dy := by
                rw [← col, ← p2 i]; omega
              rw [eu, sm_u (fun k => W0 (16 * j' + k)) c0 sg (i + 1), if_pos (c := _ ∧ _) ⟨by omega, by omega⟩]
              by_cases hd : c0 < i + 1
              · rw [if_pos hd, if_pos (hc.mp hd)]
              · rw [if_neg hd, if_neg (fun z => hd (hc.mpr z))]
        refine ⟨hin, ?_⟩
        rcases hfl with ⟨e, e'⟩ | ⟨e, e'⟩
        · exact br_t e (store _ (by rw [e']; exact li_m1))
        · exact br_f (by rw [e]; decide) (store _ (by rw [e']; exact li_1))
    rw [eq1]
    refine zk_le 0 (q + 1) (fun z => cell (q + 1) z (by omega) (fun i => Iff.rfl)) (fun z => cell 0 (by omega) (by omega) (fun i => by omega)) li_0
theorem sw_104 {ax ay dx z0 m : Int} {fl : Int32} {sg : Int} (hfl : (fl = 0 ∧ sg = -1) ∨ (fl = 1 ∧ sg = 1))
    (hm : 0 ≤ m ∧ m ≤ 100) (hax : -4000 ≤ ax ∧ ax ≤ 4000) (hay : -4000 ≤ ay ∧ ay ≤ 4000) (hdx : -8000 ≤ dx ∧ dx ≤ 8000) (hz : ay ≤ z0 ∧ z0 ≤ 4000)
    {post : SX → Prop} {W0 : Nat → Int} (hwi : wi W0 a_winding a_crossings) (hb : ∀ c, c < 192 → -m ≤ W0 c ∧ W0 c ≤ m)
    (hpost : ∀ (W' : Nat → Int) (aw ac : Nat → Int32), wi W' aw ac → (∀ c, c < 192 → -(m + 1) ≤ W' c ∧ W' c ≤ m + 1) →
      (∀ j : Nat, j < 12 → ∀ i : Nat, i < 16 → sm (fun k => W' (16 * j + k)) (i + 1) = sm (fun k => W0 (16 * j + k)) (i + 1) + (if (2 * ay < 8 * (j : Int) + 5 ∧ 8 * (j : Int) + 5 < 2 * z0) then (if dx * (8 * (j : Int) + 5 - 2 * ay) < (8 * (i : Int) + 5 - 2 * ax) * (z0 - ay) then sg else 0) else 0)) → post (f_drafted, f_revisions, f_depth, f_known, f_saved, f_edges, f_counted, f_begun, f_startX, f_startY, f_nowX, f_nowY, f_low, f_high, f_pointX, f_pointY, f_layer, f_fault, f_faultAt, f_units, f_used, a_draftKind, a_draftValue, a_streamOf, a_sizes, a_before, a_newest, a_opCount, a_ops, a_opAt, a_numbers, a_running, a_next, a_floor, a_mix, a_matrix, a_colour, a_width, a_clip, a_x1, a_y1, a_x2, a_y2, a_extra, aw, ac, a_pixels, a_painter)) :
    wX_sweep_104 post fl (iZ ax) (iZ ay) (iZ dx) (iZ z0) f_drafted f_revisions f_depth f_known f_saved f_edges f_counted f_begun f_startX f_startY f_nowX f_nowY f_low f_high f_pointX f_pointY f_layer f_fault f_faultAt f_units f_used a_draftKind a_draftValue a_streamOf a_sizes a_before a_newest a_opCount a_ops a_opAt a_numbers a_running a_next a_floor a_mix a_matrix a_colour a_width a_clip a_x1 a_y1 a_x2 a_y2 a_extra a_winding a_crossings a_pixels a_painter := by
  unfold wX_sweep_104
  refine nm_r (iz_sub z0 ay) ?_
  refine zk_eq (z0 - ay) 0 (fun z => ?_) (fun z => ?_) rfl li_0
  · refine hpost W0 a_winding a_crossings hwi (fun c hc => ?_) (fun j hj i hi => ?_)
    · have := hb c hc; omega
    · rw [if_neg (by omega), Int.add_zero]
  · have e1 : ((2 : Int32) * iZ ay - 5).toInt64 = lZ (2 * ay - 5) := by rw [li_2, li_5, iz_mul, iz_sub, iz_l (by omega)]
    rw [e1]
    refine xx_floorOf (b := 8) (by omega) (by omega) ?_
    rw [lz_i]
    refine nm_r (e' := iZ ((2 * ay - 5) / 8 + 1)) (by rw [li_1, iz_add]) ?_
    have body : ∀ from_ : Nat, from_ ≤ 2000 → 2 * ay < 8 * (from_ : Int) + 5 → 8 * (from_ : Int) + 5 - 2 * ay ≤ 8100 → (∀ j : Nat, j < from_ → 8 * (j : Int) + 5 < 2 * ay) → wX_sweep_141 post fl (iZ ax) (iZ ay) (iZ dx) (iZ (z0 - ay)) (nI from_) f_drafted f_revisions f_depth f_known f_saved f_edges f_counted f_begun f_startX f_startY f_nowX f_nowY f_low f_high f_pointX f_pointY f_layer f_fault f_faultAt f_units f_used a_draftKind a_draftValue a_streamOf a_sizes a_before a_newest a_opCount a_ops a_opAt a_numbers a_running a_next a_floor a_mix a_matrix a_colour a_width a_clip a_x1 a_y1 a_x2 a_y2 a_extra a_winding a_crossings a_pixels a_painter := by
      intro fr f1 f2 f3 f4
      have b1 := pb 8100 8000 (a := 8 * (fr : Int) + 5 - 2 * ay) (b := dx) (by omega) (by omega)
      have b2 := pb 8005 8000 (a := 2 * ax - 5) (b := z0 - ay) (by omega) (by omega)
      have e8 : (8 : Int32) * iZ (z0 - ay) = iZ (8 * (z0 - ay)) := by rw [li_8, iz_mul]
      have e9 : (((8 : Int32) * nI fr + 5) - (2 * iZ ay)) * iZ dx + ((2 * iZ ax) - 5) * iZ (z0 - ay) = iZ ((8 * (fr : Int) + 5 - 2 * ay) * dx + (2 * ax - 5) * (z0 - ay)) := by
        rw [iz_n, li_8, li_5, li_2, iz_mul, iz_mul, iz_mul, iz_add, iz_sub, iz_sub, iz_mul, iz_mul, iz_add]
      unfold wX_sweep_141
      refine nm_r e8 (nm_r e9 ?_)
      have d0 : (8 * (z0 - ay)) ≠ 0 := by omega
      generalize hN : (8 * (fr : Int) + 5 - 2 * ay) * dx + (2 * ax - 5) * (z0 - ay) = N at *
      have m1 := Int.mul_ediv_add_emod N (8 * (z0 - ay))
      have m2 := Int.emod_nonneg N d0
      have m3 := Int.emod_lt_of_pos N (by omega : 0 < 8 * (z0 - ay))
      have m4 := Int.mul_ediv_add_emod dx (z0 - ay)
      have m5 := Int.emod_nonneg dx (by omega : z0 - ay ≠ 0)
      have m6 := Int.emod_lt_of_pos dx (by omega : 0 < z0 - ay)
      rw [iz_l (a := N) (by omega), iz_l (a := 8 * (z0 - ay)) (by omega), iz_l (a := dx) (by omega), iz_l (a := z0 - ay) (by omega)]
      refine xx_floorOf (by omega) (by omega) ?_
      rw [lz_i, iz_mul, iz_sub]
      refine nm_e (xx_floorOf (by omega) (by omega) ?_)
      rw [lz_i, iz_mul, li_8, iz_mul, iz_sub]
      refine nm_e ⟨14, ?_⟩
      have e5 : 8 * dx - dx / (z0 - ay) * (8 * (z0 - ay)) = 8 * (dx % (z0 - ay)) := by
        have : dx / (z0 - ay) * (8 * (z0 - ay)) = 8 * ((z0 - ay) * (dx / (z0 - ay))) := by grind
        omega
      have e6 : N - N / (8 * (z0 - ay)) * (8 * (z0 - ay)) = N % (8 * (z0 - ay)) := by
        rw [Int.mul_comm (N / (8 * (z0 - ay)))]; omega
      rw [e5, e6]
      refine sw_loop (dy := z0 - ay) (sq := dx / (z0 - ay)) (sr := 8 * (dx % (z0 - ay))) (W0 := W0) hfl hm hax hay hdx (by omega) (by omega) (by omega) (by omega) ?_ (12 - fr) fr (by omega) 14 (by omega) _ _ W0 a_winding a_crossings hwi ?_ ?_ ?_ f2 ?_ m2 m3 f1
      · intro W' aw ac g1 g2 g3
        refine hpost W' aw ac g1 g2 fun j hj i hi => ?_
        rw [g3 j hj i hi, show ay + (z0 - ay) = z0 by omega]
      · intro c hc; have := hb c hc; omega
      · intro c _ hc; exact ⟨rfl, hb c hc⟩
      · intro j hj hj2 i hi
        have := f4 j hj2
        rw [if_neg (by omega), Int.add_zero]
      · rw [hN, Int.mul_comm (N / (8 * (z0 - ay)))]; omega
    refine zk_le 0 ((2 * ay - 5) / 8 + 1) (fun c => ?_) (fun c => ?_) li_0
    · have := body ((2 * ay - 5) / 8 + 1).toNat (by omega) (by omega) (by omega) (by omega)
      rw [iz_n, show ((((2 * ay - 5) / 8 + 1).toNat : Nat) : Int) = (2 * ay - 5) / 8 + 1 by omega] at this
      exact this
    · exact body 0 (by omega) (by omega) (by omega) (by omega)
theorem xx_sweep {e : Nat} {x1 y1 x2 y2 m : Int} (he : e < 56) (h1 : a_x1 e = iZ x1) (h2 : a_y1 e = iZ y1) (h3 : a_x2 e = iZ x2) (h4 : a_y2 e = iZ y2)
    (b1 : -4000 ≤ x1 ∧ x1 ≤ 4000) (b2 : -4000 ≤ y1 ∧ y1 ≤ 4000) (b3 : -4000 ≤ x2 ∧ x2 ≤ 4000) (b4 : -4000 ≤ y2 ∧ y2 ≤ 4000) (hm : 0 ≤ m ∧ m ≤ 100)
    {post : SX → Prop} {W0 : Nat → Int} (hwi : wi W0 a_winding a_crossings) (hb : ∀ c, c < 192 → -m ≤ W0 c ∧ W0 c ≤ m)
    (hpost : ∀ (W' : Nat → Int) (aw ac : Nat → Int32), wi W' aw ac → (∀ c, c < 192 → -(m + 1) ≤ W' c ∧ W' c ≤ m + 1) →
      (∀ j : Nat, j < 12 → ∀ i : Nat, i < 16 → sm (fun k => W' (16 * j + k)) (i + 1) = sm (fun k => W0 (16 * j + k)) (i + 1) + cn x1 y1 x2 y2 (8 * (i : Int) + 5) (8 * (j : Int) + 5)) → post (f_drafted, f_revisions, f_depth, f_known, f_saved, f_edges, f_counted, f_begun, f_startX, f_startY, f_nowX, f_nowY, f_low, f_high, f_pointX, f_pointY, f_layer, f_fault, f_faultAt, f_units, f_used, a_draftKind, a_draftValue, a_streamOf, a_sizes, a_before, a_newest, a_opCount, a_ops, a_opAt, a_numbers, a_running, a_next, a_floor, a_mix, a_matrix, a_colour, a_width, a_clip, a_x1, a_y1, a_x2, a_y2, a_extra, aw, ac, a_pixels, a_painter)) :
    wpX_sweep post (f_drafted, f_revisions, f_depth, f_known, f_saved, f_edges, f_counted, f_begun, f_startX, f_startY, f_nowX, f_nowY, f_low, f_high, f_pointX, f_pointY, f_layer, f_fault, f_faultAt, f_units, f_used, a_draftKind, a_draftValue, a_streamOf, a_sizes, a_before, a_newest, a_opCount, a_ops, a_opAt, a_numbers, a_running, a_next, a_floor, a_mix, a_matrix, a_colour, a_width, a_clip, a_x1, a_y1, a_x2, a_y2, a_extra, a_winding, a_crossings, a_pixels, a_painter) (nI e) := by
  have hi : vp_in (nI e) 56 := vp_in_nI he (by omega)
  have ce : (nI e).toNatClampNeg = e := nI_clamp (by omega)
  unfold wpX_sweep
  refine ⟨hi, hi, ?_⟩
  rw [ce, h2, h4]
  refine zk_le y2 y1 (fun c => ?_) (fun c => ?_)
  · unfold wX_sweep_20
    refine br_t rfl ⟨hi, ?_⟩
    unfold wX_sweep_40
    refine br_t rfl ⟨hi, ?_⟩
    unfold wX_sweep_60
    refine br_t rfl ⟨hi, ?_⟩
    unfold wX_sweep_81
    rw [ce, h1, h2, h3, h4]
    refine nm_r (iz_sub x1 x2) (br_t rfl ⟨hi, ?_⟩)
    refine sw_104 (ax := x2) (ay := y2) (dx := x1 - x2) (z0 := y1) (sg := -1) (Or.inl ⟨rfl, rfl⟩) hm b3 b4 (by omega) (by omega) hwi hb ?_
    intro W' aw ac g1 g2 g3
    refine hpost W' aw ac g1 g2 fun j hj i hi => ?_
    rw [g3 j hj i hi]
    rcases Int.lt_or_eq_of_le c with c | c
    · rw [cn_up c]
    · rw [cn_eq c.symm, if_neg (by omega)]
  · unfold wX_sweep_20
    refine br_f (by decide) ⟨hi, ?_⟩
    unfold wX_sweep_40
    refine br_f (by decide) ⟨hi, ?_⟩
    unfold wX_sweep_60
    refine br_f (by decide) ⟨hi, ?_⟩
    unfold wX_sweep_81
    rw [ce, h1, h2, h3, h4]
    refine nm_r (iz_sub x2 x1) (br_f (by decide) ⟨hi, ?_⟩)
    refine sw_104 (ax := x1) (ay := y1) (dx := x2 - x1) (z0 := y2) (sg := 1) (Or.inr ⟨rfl, rfl⟩) hm b1 b2 (by omega) (by omega) hwi hb ?_
    intro W' aw ac g1 g2 g3
    refine hpost W' aw ac g1 g2 fun j hj i hi => ?_
    rw [g3 j hj i hi, cn_dn c]
end
end
section
/-! X: inside, fail, paint, point, edge, finish, move, line -/
theorem b_1s : ∀ n, n < 32 → ∀ i, i < 32 → bt ((1 : Int32) <<< (nI n &&& 31)) i = decide (i = n) := by decide +kernel
theorem b_one : ∀ i, i < 32 → bt 1 i = decide (i = 0) := by decide +kernel
theorem b_tst (x : Int32) : (x &&& 1) = 0 ↔ bt x 0 = false := by
  constructor
  · intro h
    have h2 : bt (x &&& 1) 0 = bt 0 0 := by rw [h]
    rw [b_and, b_0, b_one 0 (by omega)] at h2
    simpa using h2
  · intro h
    refine b_ext fun i hi => ?_
    rw [b_and, b_0, b_one i hi]
    by_cases c : i = 0
    · subst c; rw [h]; rfl
    · simp [c]
theorem b_tsti (m : Int32) {i : Nat} (hi : i < 32) : (((m.toUInt32 >>> ((nI i).toUInt32 &&& Int32.toUInt32 31)).toInt32) &&& 1) = 0 ↔ bt m i = false := by
  rw [b_tst, b_ushr i hi, Nat.add_zero]
def pf (H : Nat → Bool) (l : Nat) (c : Int32) (a : Nat → Int32) (m : Nat) : Nat → Int32 :=
  fun q => if 192 * l ≤ q ∧ q < 192 * l + m ∧ H (q - 192 * l) = true then c else a q
theorem pf_0 (H : Nat → Bool) (l : Nat) (c : Int32) (a : Nat → Int32) : pf H l c a 0 = a := by
  funext q
  exact if_neg (by omega)
theorem pf_t {H : Nat → Bool} {l m : Nat} {c : Int32} {a : Nat → Int32} (h : H m = true) : upd (pf H l c a m) (192 * l + m) c = pf H l c a (m + 1) := by
  funext q
  by_cases e : q = 192 * l + m
  · subst e
    rw [pk_us]
    refine (if_pos ⟨by omega, by omega, ?_⟩).symm
    rw [show 192 * l + m - 192 * l = m by omega]; exact h
  · rw [pk_un e]
    unfold pf
    by_cases c1 : 192 * l ≤ q ∧ q < 192 * l + m ∧ H (q - 192 * l) = true
    · rw [if_pos c1, if_pos ⟨c1.1, by omega, c1.2.2⟩]
    · rw [if_neg c1, if_neg (fun z => c1 ⟨z.1, by omega, z.2.2⟩)]
theorem pf_f {H : Nat → Bool} {l m : Nat} {c : Int32} {a : Nat → Int32} (h : H m = false) : pf H l c a m = pf H l c a (m + 1) := by
  funext q
  unfold pf
  by_cases c1 : 192 * l ≤ q ∧ q < 192 * l + m ∧ H (q - 192 * l) = true
  · rw [if_pos c1, if_pos ⟨c1.1, by omega, c1.2.2⟩]
  · rw [if_neg c1, if_neg]
    intro z
    by_cases e : q = 192 * l + m
    · have := z.2.2
      rw [e, show 192 * l + m - 192 * l = m by omega, h] at this
      exact absurd this (by decide)
    · exact c1 ⟨z.1, by omega, z.2.2⟩
theorem pf_fs {H : Nat → Bool} {l : Nat} {c : Int32} {a : Nat → Int32} {m : Nat} : ∀ k, (∀ i, i < k → H (m + i) = false) → pf H l c a m = pf H l c a (m + k) := by
  intro k
  induction k with
  | zero => intro _; rfl
  | succ k ih => intro h; rw [ih (fun i hi => h i (by omega)), pf_f (h k (by omega))]; rfl
theorem pf_or {H : Nat → Bool} {l m : Nat} {c : Int32} {a : Nat → Int32} (q : Nat) : pf H l c a m q = c ∨ pf H l c a m q = a q := by
  unfold pf
  split
  · exact Or.inl rfl
  · exact Or.inr rfl
def fl (f_depth : Int32) (a_running a_next a_streamOf a_opAt : Nat → Int32) (pl : Nat) : Prop :=
  ∃ d r n σ p : Nat, f_depth = nI (d + 1) ∧ d < 7 ∧ a_running d = nI r ∧ r < 8 ∧ a_next d = nI (n + 1) ∧ n < 40 ∧ a_streamOf r = nI σ ∧ a_opAt (40 * r + n) = nI p ∧ pl = 64 * σ + p ∧ σ < 6 ∧ p < 40
def mxr (s : Nat) (a : Nat → Int32) : Prop := ∀ k, k < 6 * s + 6 → ((-4000 ≤ (a k).toInt ∧ (a k).toInt ≤ 4000) ∧ (k % 6 < 4 → -50 ≤ (a k).toInt ∧ (a k).toInt ≤ 50))
def pX (a : Nat → Int32) (s : Nat) (x y : Int) : Int := (a (6 * s)).toInt * x + (a (6 * s + 2)).toInt * y + (a (6 * s + 4)).toInt
def pY (a : Nat → Int32) (s : Nat) (x y : Int) : Int := (a (6 * s + 1)).toInt * x + (a (6 * s + 3)).toInt * y + (a (6 * s + 5)).toInt
theorem pX_z (a : Nat → Int32) (s : Nat) (x y : Int) : a (6 * s) * iZ x + a (6 * s + 2) * iZ y + a (6 * s + 4) = iZ (pX a s x y) := by
  unfold pX
  rw [← iz_add, ← iz_add, ← iz_mul, ← iz_mul, ← iz_of, ← iz_of, ← iz_of]
theorem pY_z (a : Nat → Int32) (s : Nat) (x y : Int) : a (6 * s + 1) * iZ x + a (6 * s + 3) * iZ y + a (6 * s + 5) = iZ (pY a s x y) := by
  unfold pY
  rw [← iz_add, ← iz_add, ← iz_mul, ← iz_mul, ← iz_of, ← iz_of, ← iz_of]
theorem pX_b {a : Nat → Int32} {s : Nat} {x y : Int} (h : mxr s a) (hx : -2000 ≤ x ∧ x ≤ 2000) (hy : -2000 ≤ y ∧ y ≤ 2000) : -300000 ≤ pX a s x y ∧ pX a s x y ≤ 300000 := by
  have h0 := (h (6 * s) (by omega)).2 (by omega)
  have h2 := (h (6 * s + 2) (by omega)).2 (by omega)
  have h4 := (h (6 * s + 4) (by omega)).1
  have p1 := pb 50 2000 (a := (a (6 * s)).toInt) (b := x) (by omega) (by omega)
  have p2 := pb 50 2000 (a := (a (6 * s + 2)).toInt) (b := y) (by omega) (by omega)
  unfold pX
  omega
theorem pY_b {a : Nat → Int32} {s : Nat} {x y : Int} (h : mxr s a) (hx : -2000 ≤ x ∧ x ≤ 2000) (hy : -2000 ≤ y ∧ y ≤ 2000) : -300000 ≤ pY a s x y ∧ pY a s x y ≤ 300000 := by
  have h0 := (h (6 * s + 1) (by omega)).2 (by omega)
  have h2 := (h (6 * s + 3) (by omega)).2 (by omega)
  have h4 := (h (6 * s + 5) (by omega)).1
  have p1 := pb 50 2000 (a := (a (6 * s + 1)).toInt) (b := x) (by omega) (by omega)
  have p2 := pb 50 2000 (a := (a (6 * s + 3)).toInt) (b := y) (by omega) (by omega)
  unfold pY
  omega
section
variable {f_drafted f_revisions f_depth f_known f_saved f_edges f_counted f_begun f_startX f_startY f_nowX f_nowY f_low f_high f_pointX f_pointY f_layer f_fault f_faultAt f_units f_used : Int32} {a_draftKind a_draftValue a_streamOf a_sizes a_before a_newest a_opCount a_ops a_opAt a_numbers a_running a_next a_floor a_mix a_matrix a_colour a_width a_clip a_x1 a_y1 a_x2 a_y2 a_extra a_winding a_crossings a_pixels a_painter : Nat → Int32}
theorem in_loop {j : Nat} (hj : j < 12) {od : Int32} (ho : od = 0 ∨ od = 1) {W T : Nat → Int} (hw : wi W a_winding a_crossings) (hb : ∀ c, c < 192 → -100 ≤ W c ∧ W c ≤ 100)
    (hT : ∀ i, i < 16 → sm (fun k => W (16 * j + k)) (i + 1) = T i) {post : Int32 → Prop}
    (h : ∀ m : Int32, (∀ i : Nat, i < 32 → (bt m i = true ↔ (i < 16 ∧ (if od = 0 then T i ≠ 0 else T i % 2 = 1)))) → post m) :
    ∀ (k i : Nat), i + k = 16 → ∀ n, k < n → ∀ m : Int32, (∀ i' : Nat, i' < 32 → (bt m i' = true ↔ (i' < i ∧ (if od = 0 then T i' ≠ 0 else T i' % 2 = 1)))) →
      wX_inside_8 post (nI j) od f_drafted f_revisions f_depth f_known f_saved f_edges f_counted f_begun f_startX f_startY f_nowX f_nowY f_low f_high f_pointX f_pointY f_layer f_fault f_faultAt f_units f_used a_draftKind a_draftValue a_streamOf a_sizes a_before a_newest a_opCount a_ops a_opAt a_numbers a_running a_next a_floor a_mix a_matrix a_colour a_width a_clip a_x1 a_y1 a_x2 a_y2 a_extra a_winding a_crossings a_pixels a_painter n m (iZ (if od = 0 then sm (fun k => W (16 * j + k)) i else sm (fun k => W (16 * j + k) % 2) i)) (nI i) := by
  intro k
  induction k with
  | zero =>
    intro i hi n hn m hm
    obtain ⟨n, rfl⟩ : ∃ n', n = n' + 1 := ⟨n - 1, by omega⟩
    rw [wX_inside_8]
    have e : i = 16 := by omega
    subst e
    exact br_t (nI_le (a := 16) (by omega) (by omega)) (h m hm)
  | succ k ih =>
    intro i hi n hn m hm
    obtain ⟨n, rfl⟩ : ∃ n', n = n' + 1 := ⟨n - 1, by omega⟩
    rw [wX_inside_8]
    refine br_f (nI_ge (b := 16) (by omega) (by omega)) ?_
    have ec : (16 : Int32) * nI j + nI i = nI (16 * j + i) := nj_ma 16 j i
    have hin : vp_in (nI (16 * j + i)) 192 := vp_in_nI (by omega) (by omega)
    have cl : (nI (16 * j + i)).toNatClampNeg = 16 * j + i := nI_clamp (by omega)
    rw [ec, cl, (hw _ (by omega)).1, (hw _ (by omega)).2]
    have hTi := hT i (by omega)
    rw [sm_s] at hTi
    have bs := sm_b (f := fun k => W (16 * j + k)) (m := 100) (n := i) (fun k hk => hb _ (by omega))
    have bm := sm_b (f := fun k => W (16 * j + k) % 2) (m := 1) (n := i) (fun k hk => by omega)
    have par := sm_m (f := fun k => W (16 * j + k)) i
    have bw := hb (16 * j + i) (by omega)
    -- the two ends
    have no : ∀ (s : Int), s = (if od = 0 then sm (fun k => W (16 * j + k)) (i + 1) else sm (fun k => W (16 * j + k) % 2) (i + 1)) → ¬ (if od = 0 then T i ≠ 0 else T i % 2 = 1) → wX_inside_8 post (nI j) od f_drafted f_revisions f_depth f_known f_saved f_edges f_counted f_begun f_startX f_startY f_nowX f_nowY f_low f_high f_pointX f_pointY f_layer f_fault f_faultAt f_units f_used a_draftKind a_draftValue a_streamOf a_sizes a_before a_newest a_opCount a_ops a_opAt a_numbers a_running a_next a_floor a_mix a_matrix a_colour a_width a_clip a_x1 a_y1 a_x2 a_y2 a_extra a_winding a_crossings a_pixels a_painter n m (iZ s) (nI (i + 1)) := by
      intro s hs hno
      rw [hs]
      refine ih (i + 1) (by omega) n (by omega) m fun i' hi' => ?_
      rw [hm i' hi']
      constructor
      · intro z; exact ⟨by omega, z.2⟩
      · intro z
        refine ⟨?_, z.2⟩
        rcases Nat.lt_or_ge i' i with c | c
        · exact c
        · have : i' = i := by omega
          subst this
          exact absurd z.2 hno
    have yes : ∀ (s : Int), s = (if od = 0 then sm (fun k => W (16 * j + k)) (i + 1) else sm (fun k => W (16 * j + k) % 2) (i + 1)) → (if od = 0 then T i ≠ 0 else T i % 2 = 1) → wX_inside_70 post (wX_inside_8 post (nI j) od f_drafted f_revisions f_depth f_known f_saved f_edges f_counted f_begun f_startX f_startY f_nowX f_nowY f_low f_high f_pointX f_pointY f_layer f_fault f_faultAt f_units f_used a_draftKind a_draftValue a_streamOf a_sizes a_before a_newest a_opCount a_ops a_opAt a_numbers a_running a_next a_floor a_mix a_matrix a_colour a_width a_clip a_x1 a_y1 a_x2 a_y2 a_extra a_winding a_crossings a_pixels a_painter n) (nI j) od m (iZ s) (nI i) f_drafted f_revisions f_depth f_known f_saved f_edges f_counted f_begun f_startX f_startY f_nowX f_nowY f_low f_high f_pointX f_pointY f_layer f_fault f_faultAt f_units f_used a_draftKind a_draftValue a_streamOf a_sizes a_before a_newest a_opCount a_ops a_opAt a_numbers a_running a_next a_floor a_mix a_matrix a_colour a_width a_clip a_x1 a_y1 a_x2 a_y2 a_extra a_winding a_crossings a_pixels a_painter := by
      intro s hs hyes
      unfold wX_inside_70
      refine nm_e (nm_r (nI_1 i) ?_)
      rw [hs]
      refine ih (i + 1) (by omega) n (by omega) _ fun i' hi' => ?_
      rw [b_or, Bool.or_eq_true, b_1s i (by omega) i' hi', decide_eq_true_iff, hm i' hi']
      constructor
      · rintro (z | z)
        · exact ⟨by omega, z.2⟩
        · subst z; exact ⟨by omega, hyes⟩
      · intro z
        rcases Nat.lt_or_ge i' i with c | c
        · exact Or.inl ⟨c, z.2⟩
        · exact Or.inr (by omega)
    rcases ho with ho | ho
    · subst ho
      refine br_t rfl ⟨hin, ?_⟩
      unfold wX_inside_48
      rw [if_pos rfl, iz_add]
      rw [if_pos rfl, sm_s] at no yes
      refine nm_e (br_t rfl ?_)
      refine zk_eq (sm (fun k => W (16 * j + k)) i + W (16 * j + i)) 0 (fun z => nm_r (nI_1 i) (no _ rfl ?_)) (fun z => yes _ rfl ?_) rfl li_0
      · rw [if_pos rfl, ← hTi]; intro q; exact q z
      · rw [if_pos rfl, ← hTi]; exact z
    · subst ho
      have n0 : ¬ (1 : Int32) = 0 := by decide
      refine br_f n0 ⟨hin, ?_⟩
      unfold wX_inside_48
      rw [if_neg n0, iz_add]
      rw [if_neg n0, sm_s] at no yes
      refine nm_e (br_f n0 ?_)
      have pos : ∀ i, 0 ≤ sm (fun k => W (16 * j + k) % 2) i := by
        intro i
        induction i with
        | zero => exact Int.le_refl _
        | succ i ih => rw [sm_s]; omega
      have p1 := pos i
      generalize hS : sm (fun k => W (16 * j + k) % 2) i = S at *
      generalize hR : sm (fun k => W (16 * j + k)) i = R at *
      obtain ⟨q, hq⟩ : ∃ q : Nat, S + W (16 * j + i) % 2 = q := ⟨(S + W (16 * j + i) % 2).toNat, by omega⟩
      rw [hq, ← iz_n, pk_andN (by omega) 1 (by decide)]
      rw [hq] at no yes
      have no := no q rfl
      have yes := yes q rfl
      rw [← iz_n] at no yes
      refine pk_eq (q % 2 ^ 1) 0 (fun z => nm_r (nI_1 i) (no ?_)) (fun z => yes ?_)
      · rw [if_neg n0]; omega
      · rw [if_neg n0]; omega
theorem xx_inside {j : Nat} (hj : j < 12) {od : Int32} (ho : od = 0 ∨ od = 1) {W T : Nat → Int} (hw : wi W a_winding a_crossings) (hb : ∀ c, c < 192 → -100 ≤ W c ∧ W c ≤ 100)
    (hT : ∀ i, i < 16 → sm (fun k => W (16 * j + k)) (i + 1) = T i) {post : Int32 → Prop}
    (h : ∀ m : Int32, (∀ i : Nat, i < 32 → (bt m i = true ↔ (i < 16 ∧ (if od = 0 then T i ≠ 0 else T i % 2 = 1)))) → post m) : wpX_inside post (f_drafted, f_revisions, f_depth, f_known, f_saved, f_edges, f_counted, f_begun, f_startX, f_startY, f_nowX, f_nowY, f_low, f_high, f_pointX, f_pointY, f_layer, f_fault, f_faultAt, f_units, f_used, a_draftKind, a_draftValue, a_streamOf, a_sizes, a_before, a_newest, a_opCount, a_ops, a_opAt, a_numbers, a_running, a_next, a_floor, a_mix, a_matrix, a_colour, a_width, a_clip, a_x1, a_y1, a_x2, a_y2, a_extra, a_winding, a_crossings, a_pixels, a_painter) (nI j) od := by
  unfold wpX_inside
  have : wX_inside_8 post (nI j) od f_drafted f_revisions f_depth f_known f_saved f_edges f_counted f_begun f_startX f_startY f_nowX f_nowY f_low f_high f_pointX f_pointY f_layer f_fault f_faultAt f_units f_used a_draftKind a_draftValue a_streamOf a_sizes a_before a_newest a_opCount a_ops a_opAt a_numbers a_running a_next a_floor a_mix a_matrix a_colour a_width a_clip a_x1 a_y1 a_x2 a_y2 a_extra a_winding a_crossings a_pixels a_painter 17 0 (iZ (if od = 0 then sm (fun k => W (16 * j + k)) 0 else sm (fun k => W (16 * j + k) % 2) 0)) (nI 0) := in_loop hj ho hw hb hT h 16 0 (by omega) 17 (by omega) 0 (fun i hi => by rw [b_0]; constructor <;> intro z; exact absurd z (by decide); omega)
  refine ⟨17, ?_⟩
  have e : (if od = 0 then sm (fun k => W (16 * j + k)) 0 else sm (fun k => W (16 * j + k) % 2) 0) = 0 := by split <;> rfl
  rw [e] at this
  exact this
theorem xx_fail {post : SX → Prop} {w : Int32} {pl : Nat} (hf : fl f_depth a_running a_next a_streamOf a_opAt pl) (h : post (f_drafted, f_revisions, f_depth, f_known, f_saved, f_edges, f_counted, f_begun, f_startX, f_startY, f_nowX, f_nowY, f_low, f_high, f_pointX, f_pointY, f_layer, w, nI pl, f_units, f_used, a_draftKind, a_draftValue, a_streamOf, a_sizes, a_before, a_newest, a_opCount, a_ops, a_opAt, a_numbers, a_running, a_next, a_floor, a_mix, a_matrix, a_colour, a_width, a_clip, a_x1, a_y1, a_x2, a_y2, a_extra, a_winding, a_crossings, a_pixels, a_painter)) : wpX_fail post (f_drafted, f_revisions, f_depth, f_known, f_saved, f_edges, f_counted, f_begun, f_startX, f_startY, f_nowX, f_nowY, f_low, f_high, f_pointX, f_pointY, f_layer, f_fault, f_faultAt, f_units, f_used, a_draftKind, a_draftValue, a_streamOf, a_sizes, a_before, a_newest, a_opCount, a_ops, a_opAt, a_numbers, a_running, a_next, a_floor, a_mix, a_matrix, a_colour, a_width, a_clip, a_x1, a_y1, a_x2, a_y2, a_extra, a_winding, a_crossings, a_pixels, a_painter) w := by
  obtain ⟨d, r, n, σ, p, rfl, hd, hr, hr2, hn, hn2, hs, ha, rfl, h1, h2⟩ := hf
  unfold wpX_fail
  refine nm_r (nI_pred d) ⟨vp_in_nI hd (by omega), nm_r (e' := nI r) (by rw [nI_clamp (by omega), hr]) ⟨vp_in_nI hr2 (by omega), vp_in_nI hd (by omega), ?_⟩⟩
  have e : (40 : Int32) * nI r + a_next (nI d).toNatClampNeg - 1 = nI (40 * r + n) := by
    rw [nI_clamp (by omega), hn, nj_ma 40 r (n + 1), ← Nat.add_assoc, nI_pred]
  rw [e]
  refine ⟨vp_in_nI (by omega) (by omega), nm_r (e' := nI (64 * σ + p)) ?_ h⟩
  rw [nI_clamp (by omega), nI_clamp (by omega), hs, ha]
  exact nj_ma 64 σ p
theorem xp_loop {j l s pl : Nat} {mask c : Int32} {H : Nat → Bool} {px pt : Nat → Int32} (hj : j < 12) (hl : l < 7) (hs : s < 7) (hc : a_colour s = c) (hc2 : 0 ≤ c.toInt ∧ c.toInt ≤ 255) (hpl : pl < 400)
    (hH : ∀ i, i < 16 → bt mask i = H (16 * j + i)) {post : SX → Prop} (h : post (f_drafted, f_revisions, f_depth, f_known, nI s, f_edges, f_counted, f_begun, f_startX, f_startY, f_nowX, f_nowY, f_low, f_high, f_pointX, f_pointY, nI l, f_fault, f_faultAt, f_units, f_used, a_draftKind, a_draftValue, a_streamOf, a_sizes, a_before, a_newest, a_opCount, a_ops, a_opAt, a_numbers, a_running, a_next, a_floor, a_mix, a_matrix, a_colour, a_width, a_clip, a_x1, a_y1, a_x2, a_y2, a_extra, a_winding, a_crossings, pf H l c px (16 * j + 16), pf H l (nI pl) pt (16 * j + 16))) :
    ∀ k i, i + k = 16 → ∀ n, k < n → wX_paint_50 post (nI j) mask (nI pl) f_drafted f_revisions f_depth f_known (nI s) f_edges f_counted f_begun f_startX f_startY f_nowX f_nowY f_low f_high f_pointX f_pointY (nI l) f_fault f_faultAt f_units f_used n (nI i) a_draftKind a_draftValue a_streamOf a_sizes a_before a_newest a_opCount a_ops a_opAt a_numbers a_running a_next a_floor a_mix a_matrix a_colour a_width a_clip a_x1 a_y1 a_x2 a_y2 a_extra a_winding a_crossings (pf H l c px (16 * j + i)) (pf H l (nI pl) pt (16 * j + i)) := by
  intro k
  induction k with
  | zero =>
    intro i hi n hn
    obtain ⟨n, rfl⟩ : ∃ n', n = n' + 1 := ⟨n - 1, by omega⟩
    rw [wX_paint_50]
    have e : i = 16 := by omega
    subst e
    exact br_t (nI_le (a := 16) (by omega) (by omega)) h
  | succ k ih =>
    intro i hi n hn
    obtain ⟨n, rfl⟩ : ∃ n', n = n' + 1 := ⟨n - 1, by omega⟩
    rw [wX_paint_50]
    refine br_f (nI_ge (b := 16) (by omega) (by omega)) ?_
    have nx := ih (i + 1) (by omega) n (by omega)
    rw [← Nat.add_assoc] at nx
    cases hb : H (16 * j + i)
    · refine br_t ((b_tsti mask (by omega)).mpr (by rw [hH i (by omega), hb])) (nm_r (nI_1 i) ?_)
      rw [pf_f (c := c) (a := px) hb, pf_f (c := nI pl) (a := pt) hb]
      exact nx
    · refine br_f (fun z => ?_) (nm_r (e' := nI (192 * l + (16 * j + i))) ?_ ⟨vp_in_nI hs (by omega), vp_in_nI (by omega) (by omega), nm_r (e' := pf H l c px (16 * j + i + 1)) ?_ ⟨vp_in_nI (by omega) (by omega), nm_r (e' := pf H l (nI pl) pt (16 * j + i + 1)) ?_ (nm_r (nI_1 i) nx)⟩⟩)
      · rw [b_tsti mask (by omega), hH i (by omega), hb] at z
        exact absurd z (by decide)
      · rw [nj_mul 192 l, nj_mul 16 j, nI_add, nI_add, Nat.add_assoc]
      · rw [nI_clamp (by omega), nI_clamp (by omega), hc, vx_s (by omega), pf_t hb]
      · rw [nI_clamp (by omega), in_s (by omega), vn_s (by omega), pf_t hb]
theorem xx_paint {j l s pl : Nat} {mask c : Int32} {H : Nat → Bool} {px pt : Nat → Int32} (hj : j < 12) (hl : l < 7) (hs : s < 7) (hc : a_colour s = c) (hc2 : 0 ≤ c.toInt ∧ c.toInt ≤ 255) (hf : fl f_depth a_running a_next a_streamOf a_opAt pl)
    (hH : ∀ i, i < 16 → bt mask i = H (16 * j + i)) {post : SX → Prop} (h : post (f_drafted, f_revisions, f_depth, f_known, nI s, f_edges, f_counted, f_begun, f_startX, f_startY, f_nowX, f_nowY, f_low, f_high, f_pointX, f_pointY, nI l, f_fault, f_faultAt, f_units, f_used, a_draftKind, a_draftValue, a_streamOf, a_sizes, a_before, a_newest, a_opCount, a_ops, a_opAt, a_numbers, a_running, a_next, a_floor, a_mix, a_matrix, a_colour, a_width, a_clip, a_x1, a_y1, a_x2, a_y2, a_extra, a_winding, a_crossings, pf H l c px (16 * j + 16), pf H l (nI pl) pt (16 * j + 16))) :
    wpX_paint post (f_drafted, f_revisions, f_depth, f_known, nI s, f_edges, f_counted, f_begun, f_startX, f_startY, f_nowX, f_nowY, f_low, f_high, f_pointX, f_pointY, nI l, f_fault, f_faultAt, f_units, f_used, a_draftKind, a_draftValue, a_streamOf, a_sizes, a_before, a_newest, a_opCount, a_ops, a_opAt, a_numbers, a_running, a_next, a_floor, a_mix, a_matrix, a_colour, a_width, a_clip, a_x1, a_y1, a_x2, a_y2, a_extra, a_winding, a_crossings, pf H l c px (16 * j), pf H l (nI pl) pt (16 * j)) (nI j) mask := by
  obtain ⟨d, r, n, σ, p, rfl, hd, hr, hr2, hn, hn2, hss, ha, rfl, h1, h2⟩ := hf
  unfold wpX_paint
  dsimp only
  have e : (40 : Int32) * nI r + a_next d - 1 = nI (40 * r + n) := by
    rw [hn, nj_ma 40 r (n + 1), ← Nat.add_assoc, nI_pred]
  have e4 : (64 : Int32) * a_streamOf r + a_opAt (40 * r + n) = nI (64 * σ + p) := by
    rw [hss, ha]; exact nj_ma 64 σ p
  rw [nI_pred, nI_clamp (by omega)]
  refine ⟨vp_in_nI hd (by omega), nm_r (e' := nI r) hr ⟨vp_in_nI hr2 (by omega), vp_in_nI hd (by omega), ?_⟩⟩
  rw [e]
  refine ⟨vp_in_nI (by omega) (by omega), nm_r (e' := nI (64 * σ + p)) ?_ ⟨17, ?_⟩⟩
  · rw [nI_clamp (by omega), nI_clamp (by omega), e4]
  · exact xp_loop hj hl hs hc hc2 (by omega) hH h 16 0 (by omega) 17 (by omega)
theorem xx_point {s pl : Nat} {x y : Int} {post : Int32 → SX → Prop} (hs : s < 7) (hM : mxr s a_matrix) (hx : -2000 ≤ x ∧ x ≤ 2000) (hy : -2000 ≤ y ∧ y ≤ 2000) (hf : fl f_depth a_running a_next a_streamOf a_opAt pl)
    (h1 : (-4000 ≤ pX a_matrix s x y ∧ pX a_matrix s x y ≤ 4000) → (-4000 ≤ pY a_matrix s x y ∧ pY a_matrix s x y ≤ 4000) → post 1 (f_drafted, f_revisions, f_depth, f_known, nI s, f_edges, f_counted, f_begun, f_startX, f_startY, f_nowX, f_nowY, f_low, f_high, iZ (pX a_matrix s x y), iZ (pY a_matrix s x y), f_layer, f_fault, f_faultAt, f_units, f_used, a_draftKind, a_draftValue, a_streamOf, a_sizes, a_before, a_newest, a_opCount, a_ops, a_opAt, a_numbers, a_running, a_next, a_floor, a_mix, a_matrix, a_colour, a_width, a_clip, a_x1, a_y1, a_x2, a_y2, a_extra, a_winding, a_crossings, a_pixels, a_painter))
    (h0 : ¬ ((-4000 ≤ pX a_matrix s x y ∧ pX a_matrix s x y ≤ 4000) ∧ (-4000 ≤ pY a_matrix s x y ∧ pY a_matrix s x y ≤ 4000)) → post 0 (f_drafted, f_revisions, f_depth, f_known, nI s, f_edges, f_counted, f_begun, f_startX, f_startY, f_nowX, f_nowY, f_low, f_high, iZ (pX a_matrix s x y), iZ (pY a_matrix s x y), f_layer, 3, nI pl, f_units, f_used, a_draftKind, a_draftValue, a_streamOf, a_sizes, a_before, a_newest, a_opCount, a_ops, a_opAt, a_numbers, a_running, a_next, a_floor, a_mix, a_matrix, a_colour, a_width, a_clip, a_x1, a_y1, a_x2, a_y2, a_extra, a_winding, a_crossings, a_pixels, a_painter)) :
    wpX_point post (f_drafted, f_revisions, f_depth, f_known, nI s, f_edges, f_counted, f_begun, f_startX, f_startY, f_nowX, f_nowY, f_low, f_high, f_pointX, f_pointY, f_layer, f_fault, f_faultAt, f_units, f_used, a_draftKind, a_draftValue, a_streamOf, a_sizes, a_before, a_newest, a_opCount, a_ops, a_opAt, a_numbers, a_running, a_next, a_floor, a_mix, a_matrix, a_colour, a_width, a_clip, a_x1, a_y1, a_x2, a_y2, a_extra, a_winding, a_crossings, a_pixels, a_painter) (iZ x) (iZ y) := by
  have bx := pX_b hM hx hy
  have by_ := pY_b hM hx hy
  have ex := pX_z a_matrix s x y
  have ey := pY_z a_matrix s x y
  unfold wpX_point
  refine nm_r (nj_mul 6 s) ?_
  rw [nj_a (c := 1) (6 * s) 1, nj_a (c := 2) (6 * s) 2, nj_a (c := 3) (6 * s) 3, nj_a (c := 4) (6 * s) 4, nj_a (c := 5) (6 * s) 5, nI_clamp (by omega), nI_clamp (by omega), nI_clamp (by omega), nI_clamp (by omega), nI_clamp (by omega), nI_clamp (by omega)]
  refine ⟨vp_in_nI (by omega) (by omega), vp_in_nI (by omega) (by omega), vp_in_nI (by omega) (by omega), nm_r ex ⟨vp_in_nI (by omega) (by omega), vp_in_nI (by omega) (by omega), vp_in_nI (by omega) (by omega), nm_r ey ?_⟩⟩
  generalize pX a_matrix s x y = u at *
  generalize pY a_matrix s x y = v at *
  have bad : ¬ ((-4000 ≤ u ∧ u ≤ 4000) ∧ (-4000 ≤ v ∧ v ≤ 4000)) → wX_point_118 post f_drafted f_revisions f_depth f_known (nI s) f_edges f_counted f_begun f_startX f_startY f_nowX f_nowY f_low f_high (iZ u) (iZ v) f_layer f_fault f_faultAt f_units f_used a_draftKind a_draftValue a_streamOf a_sizes a_before a_newest a_opCount a_ops a_opAt a_numbers a_running a_next a_floor a_mix a_matrix a_colour a_width a_clip a_x1 a_y1 a_x2 a_y2 a_extra a_winding a_crossings a_pixels a_painter := by
    intro z
    unfold wX_point_118 wX_point_119
    refine br_t rfl (xx_fail hf ⟨narrow_b0, h0 z⟩)
  refine zk_lt u (-4000) (fun z => bad (by omega)) (fun z1 => ?_) rfl (by decide)
  refine zk_lt 4000 u (fun z => bad (by omega)) (fun z2 => ?_) (by decide)
  refine zk_lt v (-4000) (fun z => bad (by omega)) (fun z3 => ?_) rfl (by decide)
  refine zk_lt 4000 v (fun z => bad (by omega)) (fun z4 => ?_) (by decide)
  unfold wX_point_119
  exact br_f (by decide) ⟨narrow_b1, h1 ⟨by omega, by omega⟩ ⟨by omega, by omega⟩⟩
theorem xx_edge {E : Nat} {x y nx ny : Int} {post : SX → Prop} (hE : E < 56) (hx : -4000 ≤ x ∧ x ≤ 4000) (hy : -4000 ≤ y ∧ y ≤ 4000) (hnx : -4000 ≤ nx ∧ nx ≤ 4000) (hny : -4000 ≤ ny ∧ ny ≤ 4000)
    (h : post (f_drafted, f_revisions, f_depth, f_known, f_saved, nI (E + 1), f_counted, f_begun, f_startX, f_startY, iZ x, iZ y, f_low, f_high, f_pointX, f_pointY, f_layer, f_fault, f_faultAt, f_units, f_used, a_draftKind, a_draftValue, a_streamOf, a_sizes, a_before, a_newest, a_opCount, a_ops, a_opAt, a_numbers, a_running, a_next, a_floor, a_mix, a_matrix, a_colour, a_width, a_clip, upd a_x1 E (iZ nx), upd a_y1 E (iZ ny), upd a_x2 E (iZ x), upd a_y2 E (iZ y), upd a_extra E 0, a_winding, a_crossings, a_pixels, a_painter)) :
    wpX_edge post (f_drafted, f_revisions, f_depth, f_known, f_saved, nI E, f_counted, f_begun, f_startX, f_startY, iZ nx, iZ ny, f_low, f_high, f_pointX, f_pointY, f_layer, f_fault, f_faultAt, f_units, f_used, a_draftKind, a_draftValue, a_streamOf, a_sizes, a_before, a_newest, a_opCount, a_ops, a_opAt, a_numbers, a_running, a_next, a_floor, a_mix, a_matrix, a_colour, a_width, a_clip, a_x1, a_y1, a_x2, a_y2, a_extra, a_winding, a_crossings, a_pixels, a_painter) (iZ x) (iZ y) := by
  unfold wpX_edge
  dsimp only
  rw [iz_s (by omega), iz_s (by omega), iz_s (by omega), iz_s (by omega), vz_s (by omega), vz_s (by omega), vz_s (by omega), vz_s (by omega), vb_0, nI_clamp (by omega)]
  have hi : vp_in (nI E) 56 := vp_in_nI hE (by omega)
  exact ⟨hi, nm_e ⟨hi, nm_e ⟨hi, nm_e ⟨hi, nm_e (nm_r (nI_1 E) ⟨hi, nm_e h⟩)⟩⟩⟩⟩
theorem xx_finish {E : Nat} {nx ny sx sy : Int} {post : SX → Prop} (hE : E < 56) (hx : -4000 ≤ sx ∧ sx ≤ 4000) (hy : -4000 ≤ sy ∧ sy ≤ 4000) (hnx : -4000 ≤ nx ∧ nx ≤ 4000) (hny : -4000 ≤ ny ∧ ny ≤ 4000)
    (h0 : nx = sx → ny = sy → post (f_drafted, f_revisions, f_depth, f_known, f_saved, nI E, f_counted, 1, iZ sx, iZ sy, iZ nx, iZ ny, f_low, f_high, f_pointX, f_pointY, f_layer, f_fault, f_faultAt, f_units, f_used, a_draftKind, a_draftValue, a_streamOf, a_sizes, a_before, a_newest, a_opCount, a_ops, a_opAt, a_numbers, a_running, a_next, a_floor, a_mix, a_matrix, a_colour, a_width, a_clip, a_x1, a_y1, a_x2, a_y2, a_extra, a_winding, a_crossings, a_pixels, a_painter))
    (h1 : ¬ (nx = sx ∧ ny = sy) → post (f_drafted, f_revisions, f_depth, f_known, f_saved, nI (E + 1), f_counted, 1, iZ sx, iZ sy, iZ sx, iZ sy, f_low, f_high, f_pointX, f_pointY, f_layer, f_fault, f_faultAt, f_units, f_used, a_draftKind, a_draftValue, a_streamOf, a_sizes, a_before, a_newest, a_opCount, a_ops, a_opAt, a_numbers, a_running, a_next, a_floor, a_mix, a_matrix, a_colour, a_width, a_clip, upd a_x1 E (iZ nx), upd a_y1 E (iZ ny), upd a_x2 E (iZ sx), upd a_y2 E (iZ sy), upd a_extra E 1, a_winding, a_crossings, a_pixels, a_painter)) :
    wpX_finish post (f_drafted, f_revisions, f_depth, f_known, f_saved, nI E, f_counted, 1, iZ sx, iZ sy, iZ nx, iZ ny, f_low, f_high, f_pointX, f_pointY, f_layer, f_fault, f_faultAt, f_units, f_used, a_draftKind, a_draftValue, a_streamOf, a_sizes, a_before, a_newest, a_opCount, a_ops, a_opAt, a_numbers, a_running, a_next, a_floor, a_mix, a_matrix, a_colour, a_width, a_clip, a_x1, a_y1, a_x2, a_y2, a_extra, a_winding, a_crossings, a_pixels, a_painter) := by
  have go : ¬ (nx = sx ∧ ny = sy) → wX_finish_30 post f_drafted f_revisions f_depth f_known f_saved (nI E) f_counted 1 (iZ sx) (iZ sy) (iZ nx) (iZ ny) f_low f_high f_pointX f_pointY f_layer f_fault f_faultAt f_units f_used a_draftKind a_draftValue a_streamOf a_sizes a_before a_newest a_opCount a_ops a_opAt a_numbers a_running a_next a_floor a_mix a_matrix a_colour a_width a_clip a_x1 a_y1 a_x2 a_y2 a_extra a_winding a_crossings a_pixels a_painter := by
    intro z
    unfold wX_finish_30
    refine xx_edge hE hx hy hnx hny ⟨vp_in_nI hE (by omega), nm_r (e' := upd a_extra E 1) ?_ (h1 z)⟩
    rw [nI_clamp (by omega), vb_1]
    funext q
    by_cases c : q = E
    · subst c; rw [pk_us, pk_us]
    · rw [pk_un c, pk_un c, pk_un c]
  unfold wpX_finish
  refine br_f (by decide) ?_
  refine zk_eq nx sx (fun c => ?_) (fun c => go (by omega))
  refine zk_eq ny sy (fun c2 => h0 c c2) (fun c2 => go (by omega))
theorem xx_line {E C pl : Nat} {x y nx ny : Int} {post : SX → Prop} (hb : f_begun = 0 ∨ f_begun = 1) (hE : C < 24 → E < 56) (hC : C ≤ 24) (hx : -4000 ≤ x ∧ x ≤ 4000) (hy : -4000 ≤ y ∧ y ≤ 4000) (hnx : -4000 ≤ nx ∧ nx ≤ 4000) (hny : -4000 ≤ ny ∧ ny ≤ 4000)
    (hf : fl f_depth a_running a_next a_streamOf a_opAt pl)
    (h0 : f_begun = 0 → post (f_drafted, f_revisions, f_depth, f_known, f_saved, nI E, nI C, f_begun, f_startX, f_startY, iZ nx, iZ ny, f_low, f_high, f_pointX, f_pointY, f_layer, 4, nI pl, f_units, f_used, a_draftKind, a_draftValue, a_streamOf, a_sizes, a_before, a_newest, a_opCount, a_ops, a_opAt, a_numbers, a_running, a_next, a_floor, a_mix, a_matrix, a_colour, a_width, a_clip, a_x1, a_y1, a_x2, a_y2, a_extra, a_winding, a_crossings, a_pixels, a_painter))
    (h1 : f_begun = 1 → C = 24 → post (f_drafted, f_revisions, f_depth, f_known, f_saved, nI E, nI C, f_begun, f_startX, f_startY, iZ nx, iZ ny, f_low, f_high, f_pointX, f_pointY, f_layer, 5, nI pl, f_units, f_used, a_draftKind, a_draftValue, a_streamOf, a_sizes, a_before, a_newest, a_opCount, a_ops, a_opAt, a_numbers, a_running, a_next, a_floor, a_mix, a_matrix, a_colour, a_width, a_clip, a_x1, a_y1, a_x2, a_y2, a_extra, a_winding, a_crossings, a_pixels, a_painter))
    (h2 : f_begun = 1 → C < 24 → post (f_drafted, f_revisions, f_depth, f_known, f_saved, nI (E + 1), nI (C + 1), f_begun, f_startX, f_startY, iZ x, iZ y, f_low, f_high, f_pointX, f_pointY, f_layer, f_fault, f_faultAt, f_units, f_used, a_draftKind, a_draftValue, a_streamOf, a_sizes, a_before, a_newest, a_opCount, a_ops, a_opAt, a_numbers, a_running, a_next, a_floor, a_mix, a_matrix, a_colour, a_width, a_clip, upd a_x1 E (iZ nx), upd a_y1 E (iZ ny), upd a_x2 E (iZ x), upd a_y2 E (iZ y), upd a_extra E 0, a_winding, a_crossings, a_pixels, a_painter)) :
    wpX_line post (f_drafted, f_revisions, f_depth, f_known, f_saved, nI E, nI C, f_begun, f_startX, f_startY, iZ nx, iZ ny, f_low, f_high, f_pointX, f_pointY, f_layer, f_fault, f_faultAt, f_units, f_used, a_draftKind, a_draftValue, a_streamOf, a_sizes, a_before, a_newest, a_opCount, a_ops, a_opAt, a_numbers, a_running, a_next, a_floor, a_mix, a_matrix, a_colour, a_width, a_clip, a_x1, a_y1, a_x2, a_y2, a_extra, a_winding, a_crossings, a_pixels, a_painter) (iZ x) (iZ y) := by
  unfold wpX_line
  rcases hb with hb | hb
  · refine br_t hb ?_
    unfold wX_line_16
    refine br_t hb ?_
    unfold wX_line_29
    exact xx_fail hf (h0 hb)
  · have n0 : ¬ f_begun = 0 := by rw [hb]; decide
    refine br_f n0 ?_
    refine pk_eq C 24 (fun c => ?_) (fun c => ?_)
    · unfold wX_line_16
      refine br_f n0 ?_
      unfold wX_line_29
      exact xx_fail hf (h1 hb c)
    · refine nm_r (nI_1 C) ?_
      exact xx_edge (hE (by omega)) hx hy hnx hny (h2 hb (by omega))
end
end
section
/-! Y: counts, inside, touches, drawn, fill, cut -/
noncomputable def dB (P : Prop) : Bool := @decide P (Classical.propDecidable P)
theorem dB_t {P : Prop} : dB P = true ↔ P := @decide_eq_true_iff P (Classical.propDecidable P)
theorem dB_f {P : Prop} : dB P = false ↔ ¬ P := by
  constructor
  · intro h p
    rw [dB_t.mpr p] at h
    exact absurd h (by decide)
  · intro h
    cases e : dB P
    · rfl
    · exact absurd (dB_t.mp e) h
def rg (x : Int32) : Prop := -4000 ≤ x.toInt ∧ x.toInt ≤ 4000
def cw (px py : Int) (a b c d : Int32) : Int := cn a.toInt b.toInt c.toInt d.toInt px py
theorem lz_x (x : Int32) : x.toInt64 = lZ x.toInt := rfl
theorem cw_sq (px py : Int) (a b c d : Int32) : cw px py a b c d * cw px py a b c d = 0 ∨ cw px py a b c d * cw px py a b c d = 1 := by
  rcases cn_01 a.toInt b.toInt c.toInt d.toInt px py with h | h | h
  · left; unfold cw; rw [h]; rfl
  · right; unfold cw; rw [h]; rfl
  · right; unfold cw; rw [h]; rfl
theorem cw_b (px py : Int) (a b c d : Int32) : -1 ≤ cw px py a b c d ∧ cw px py a b c d ≤ 1 := by
  rcases cn_01 a.toInt b.toInt c.toInt d.toInt px py with h | h | h <;> unfold cw <;> rw [h] <;> omega
def tyS (px py : Int) (C Q : Nat) (fx fy tx ty ex ey bx by_ : Nat → Int32) : Int :=
  sm (fun e => cw px py (fx e) (fy e) (tx e) (ty e)) C + sm (fun k => cw px py (ex k) (ey k) (bx k) (by_ k)) Q
section
variable {g_revisions g_shown g_level g_layer g_depth g_parts g_edges g_operands g_units g_fault g_where g_partEdges : Int32} {b_stream b_length b_kind b_num b_matrix b_colour b_width b_clip b_paint b_painter b_running b_at b_saves b_below b_mixture b_beginX b_beginY b_endX b_endY b_fromX b_fromY b_toX b_toY b_operand : Nat → Int32}
theorem yy_counts {x1 y1 x2 y2 px py : Int} {post : Int32 → Prop} (b1 : -4000 ≤ x1 ∧ x1 ≤ 4000) (b2 : -4000 ≤ y1 ∧ y1 ≤ 4000) (b3 : -4000 ≤ x2 ∧ x2 ≤ 4000) (b4 : -4000 ≤ y2 ∧ y2 ≤ 4000) (b5 : 0 ≤ px ∧ px ≤ 200) (b6 : 0 ≤ py ∧ py ≤ 200)
    (h : post (iZ (cn x1 y1 x2 y2 px py))) : wpY_counts post (g_revisions, g_shown, g_level, g_layer, g_depth, g_parts, g_edges, g_operands, g_units, g_fault, g_where, g_partEdges, b_stream, b_length, b_kind, b_num, b_matrix, b_colour, b_width, b_clip, b_paint, b_painter, b_running, b_at, b_saves, b_below, b_mixture, b_beginX, b_beginY, b_endX, b_endY, b_fromX, b_fromY, b_toX, b_toY, b_operand) (lZ x1) (lZ y1) (lZ x2) (lZ y2) (lZ px) (lZ py) := by
  have e1 : (2 : Int64) * lZ y1 = lZ (2 * y1) := by rw [ll_2, lz_mul]
  have e2 : (2 : Int64) * lZ y2 = lZ (2 * y2) := by rw [ll_2, lz_mul]
  have e3 : (lZ x2 - lZ x1) * (lZ py - 2 * lZ y1) = lZ ((x2 - x1) * (py - 2 * y1)) := by rw [ll_2, lz_mul, lz_sub, lz_sub, lz_mul]
  have e4 : (lZ px - 2 * lZ x1) * (lZ y2 - lZ y1) = lZ ((px - 2 * x1) * (y2 - y1)) := by rw [ll_2, lz_mul, lz_sub, lz_sub, lz_mul]
  have p1 := pb 8000 8200 (a := x2 - x1) (b := py - 2 * y1) (by omega) (by omega)
  have p2 := pb 8200 8000 (a := px - 2 * x1) (b := y2 - y1) (by omega) (by omega)
  have no : ¬ (2 * y1 < py ∧ py < 2 * y2) → wY_counts_27 post (lZ x1) (lZ y1) (lZ x2) (lZ y2) (lZ px) (lZ py) g_revisions g_shown g_level g_layer g_depth g_parts g_edges g_operands g_units g_fault g_where g_partEdges b_stream b_length b_kind b_num b_matrix b_colour b_width b_clip b_paint b_painter b_running b_at b_saves b_below b_mixture b_beginX b_beginY b_endX b_endY b_fromX b_fromY b_toX b_toY b_operand := by
    intro c
    have z0 : ¬ (2 * y2 < py ∧ py < 2 * y1) → wY_counts_57 post (lZ x1) (lZ y1) (lZ x2) (lZ y2) (lZ px) (lZ py) 0 g_revisions g_shown g_level g_layer g_depth g_parts g_edges g_operands g_units g_fault g_where g_partEdges b_stream b_length b_kind b_num b_matrix b_colour b_width b_clip b_paint b_painter b_running b_at b_saves b_below b_mixture b_beginX b_beginY b_endX b_endY b_fromX b_fromY b_toX b_toY b_operand := by
      intro c2
      unfold wY_counts_57 wY_counts_58
      refine br_t rfl (br_t rfl ?_)
      unfold cn at h
      rw [if_neg c, if_neg c2] at h
      exact h
    unfold wY_counts_27 wY_counts_28
    refine lk_le py (2 * y2) (fun z => z0 (by omega)) (fun z => ?_) rfl e2
    refine lk_le (2 * y1) py (fun z => z0 (by omega)) (fun z2 => ?_) e1
    unfold wY_counts_58
    refine br_t rfl (br_f (by decide) ?_)
    unfold wY_counts_72
    refine nm_r e3 (nm_r e4 (br_t rfl ?_))
    unfold cn at h
    rw [if_neg c, if_pos ⟨z, z2⟩] at h
    refine lk_le _ _ (fun q => ?_) (fun q => ?_) rfl rfl (by omega) (by omega)
    · rw [if_neg (by omega)] at h; exact h
    · rw [if_pos q] at h; exact h
  unfold wpY_counts
  refine lk_le py (2 * y1) (fun z => no (by omega)) (fun z => ?_) rfl e1
  refine lk_le (2 * y2) py (fun z => no (by omega)) (fun z2 => ?_) e2
  have yes : wY_counts_72 post (lZ x1) (lZ y1) (lZ x2) (lZ y2) (lZ px) (lZ py) 1 g_revisions g_shown g_level g_layer g_depth g_parts g_edges g_operands g_units g_fault g_where g_partEdges b_stream b_length b_kind b_num b_matrix b_colour b_width b_clip b_paint b_painter b_running b_at b_saves b_below b_mixture b_beginX b_beginY b_endX b_endY b_fromX b_fromY b_toX b_toY b_operand := by
    unfold wY_counts_72
    refine nm_r e3 (nm_r e4 (br_f (by decide) ?_))
    unfold cn at h
    rw [if_pos ⟨z, z2⟩] at h
    refine lk_le _ _ (fun q => ?_) (fun q => ?_) rfl rfl (by omega) (by omega)
    · rw [if_neg (by omega)] at h; exact h
    · rw [if_pos q] at h; exact h
  have y58 : ∀ z0 : Int32, wY_counts_58 post (lZ x1) (lZ y1) (lZ x2) (lZ y2) (lZ px) (lZ py) 1 z0 g_revisions g_shown g_level g_layer g_depth g_parts g_edges g_operands g_units g_fault g_where g_partEdges b_stream b_length b_kind b_num b_matrix b_colour b_width b_clip b_paint b_painter b_running b_at b_saves b_below b_mixture b_beginX b_beginY b_endX b_endY b_fromX b_fromY b_toX b_toY b_operand := fun z0 => br_f (by decide) yes
  unfold wY_counts_28
  refine lk_le py (2 * y2) (fun z => ?_) (fun z => ?_) rfl e2
  · exact y58 0
  · refine lk_le (2 * y1) py (fun z => ?_) (fun z2 => ?_) e1
    · exact y58 0
    · exact y58 1
theorem yi_108 {Q : Nat} {px py : Int} {od : Int32} {post : Int32 → Prop} (hQ : Q ≤ 30) (b5 : 0 ≤ px ∧ px ≤ 200) (b6 : 0 ≤ py ∧ py ≤ 200) (ho : od = 0 ∨ od = 1)
    (r2 : ∀ k, k < Q → rg (b_endX k) ∧ rg (b_endY k) ∧ rg (b_beginX k) ∧ rg (b_beginY k)) {S0 : Int} {M0 : Nat} (hS0 : -100 ≤ S0 ∧ S0 ≤ 100) (hM0 : M0 ≤ 100) (hp0 : (M0 : Int) % 2 = S0 % 2) {T : Int}
    (hT : T = S0 + sm (fun k => cw px py (b_endX k) (b_endY k) (b_beginX k) (b_beginY k)) Q)
    (h1 : (if od = 0 then T ≠ 0 else T % 2 = 1) → post 1) (h0 : ¬ (if od = 0 then T ≠ 0 else T % 2 = 1) → post 0) :
    ∀ d k, k + d = Q → ∀ n, d < n → ∀ (M : Nat), M ≤ M0 + k → (M : Int) % 2 = (S0 + sm (fun k => cw px py (b_endX k) (b_endY k) (b_beginX k) (b_beginY k)) k) % 2 →
      wY_inside_108 post od (lZ px) (lZ py) g_revisions g_shown g_level g_layer g_depth (nI Q) g_edges g_operands g_units g_fault g_where g_partEdges b_stream b_length b_kind b_num b_matrix b_colour b_width b_clip b_paint b_painter b_running b_at b_saves b_below b_mixture b_beginX b_beginY b_endX b_endY b_fromX b_fromY b_toX b_toY b_operand n (iZ (S0 + sm (fun k => cw px py (b_endX k) (b_endY k) (b_beginX k) (b_beginY k)) k)) (nI M) (nI k) := by
  intro d
  induction d with
  | zero =>
    intro k hk n hn M hM hp
    obtain ⟨n, rfl⟩ : ∃ n', n = n' + 1 := ⟨n - 1, by omega⟩
    have e : k = Q := by omega
    subst e
    have bs := sm_b (f := fun k => cw px py (b_endX k) (b_endY k) (b_beginX k) (b_beginY k)) (m := 1) (n := k) (fun k hk => cw_b ..)
    rw [wY_inside_108]
    refine br_t (nI_le (by omega) (by omega)) ?_
    rw [← hT] at hp ⊢
    rcases ho with ho | ho
    · subst ho
      rw [if_pos rfl] at h1 h0
      refine br_t rfl ?_
      refine zk_eq T 0 (fun z => h0 (fun q => q z)) (fun z => h1 z) rfl li_0
    · subst ho
      have n0 : ¬ (1 : Int32) = 0 := by decide
      rw [if_neg n0] at h1 h0
      refine br_f n0 ⟨by decide, ?_⟩
      have e2 : nI M - nI M / 2 * 2 = nI (M % 2) := pk_rem (d := 2) (by omega) (by omega) (by omega)
      rw [e2]
      refine pk_eq (M % 2) 1 (fun z => h1 (by omega)) (fun z => h0 (by omega))
  | succ d ih =>
    intro k hk n hn M hM hp
    obtain ⟨n, rfl⟩ : ∃ n', n = n' + 1 := ⟨n - 1, by omega⟩
    rw [wY_inside_108]
    have hi : vp_in (nI k) 30 := vp_in_nI (by omega) (by omega)
    obtain ⟨g1, g2, g3, g4⟩ := r2 k (by omega)
    refine br_f (nI_ge (by omega) (by omega)) ⟨hi, hi, hi, hi, ?_⟩
    rw [nI_clamp (by omega), lz_x, lz_x, lz_x, lz_x]
    refine yy_counts g1 g2 g3 g4 b5 b6 ?_
    have nx := ih (k + 1) (by omega) n (by omega)
    rw [sm_s] at nx
    have sq := cw_sq px py (b_endX k) (b_endY k) (b_beginX k) (b_beginY k)
    have cb := cw_b px py (b_endX k) (b_endY k) (b_beginX k) (b_beginY k)
    unfold cw at nx hp sq cb ⊢
    generalize cn (b_endX k).toInt (b_endY k).toInt (b_beginX k).toInt (b_beginY k).toInt px py = c at *
    rcases sq with sq | sq
    · refine nm_r (e' := iZ (S0 + (sm (fun k => cn (b_endX k).toInt (b_endY k).toInt (b_beginX k).toInt (b_beginY k).toInt px py) k + c))) (by rw [iz_add, Int.add_assoc]) (nm_r (e' := nI (M + 0)) (by rw [iz_mul, sq, iz_n, iz_n, iz_add]; rfl) (nm_r (nI_1 k) (nx _ (by omega) ?_)))
      have : c = 0 := by
        rcases Int.lt_trichotomy c 0 with z | z | z
        · have : c = -1 := by omega
          subst this; exact absurd sq (by decide)
        · exact z
        · have : c = 1 := by omega
          subst this; exact absurd sq (by decide)
      omega
    · refine nm_r (e' := iZ (S0 + (sm (fun k => cn (b_endX k).toInt (b_endY k).toInt (b_beginX k).toInt (b_beginY k).toInt px py) k + c))) (by rw [iz_add, Int.add_assoc]) (nm_r (e' := nI (M + 1)) (by rw [iz_mul, sq, iz_n, iz_n, iz_add]; rfl) (nm_r (nI_1 k) (nx _ (by omega) ?_)))
      have : c = 1 ∨ c = -1 := by
        rcases Int.lt_trichotomy c 0 with z | z | z
        · omega
        · subst z; exact absurd sq (by decide)
        · omega
      omega
theorem yi_32 {C Q : Nat} {px py : Int} {od : Int32} {post : Int32 → Prop} (hC : C ≤ 24) (hQ : Q ≤ 30) (b5 : 0 ≤ px ∧ px ≤ 200) (b6 : 0 ≤ py ∧ py ≤ 200) (ho : od = 0 ∨ od = 1)
    (r1 : ∀ e, e < C → rg (b_fromX e) ∧ rg (b_fromY e) ∧ rg (b_toX e) ∧ rg (b_toY e)) (r2 : ∀ k, k < Q → rg (b_endX k) ∧ rg (b_endY k) ∧ rg (b_beginX k) ∧ rg (b_beginY k)) {T : Int}
    (hT : T = tyS px py C Q b_fromX b_fromY b_toX b_toY b_endX b_endY b_beginX b_beginY)
    (h1 : (if od = 0 then T ≠ 0 else T % 2 = 1) → post 1) (h0 : ¬ (if od = 0 then T ≠ 0 else T % 2 = 1) → post 0) :
    ∀ d k, k + d = C → ∀ n, d < n → ∀ (M : Nat), M ≤ k → (M : Int) % 2 = (sm (fun k => cw px py (b_fromX k) (b_fromY k) (b_toX k) (b_toY k)) k) % 2 →
      wY_inside_32 post od (lZ px) (lZ py) g_revisions g_shown g_level g_layer g_depth (nI Q) (nI C) g_operands g_units g_fault g_where g_partEdges b_stream b_length b_kind b_num b_matrix b_colour b_width b_clip b_paint b_painter b_running b_at b_saves b_below b_mixture b_beginX b_beginY b_endX b_endY b_fromX b_fromY b_toX b_toY b_operand n (iZ (sm (fun k => cw px py (b_fromX k) (b_fromY k) (b_toX k) (b_toY k)) k)) (nI M) (nI k) := by
  intro d
  induction d with
  | zero =>
    intro k hk n hn M hM hp
    obtain ⟨n, rfl⟩ : ∃ n', n = n' + 1 := ⟨n - 1, by omega⟩
    have e : k = C := by omega
    subst e
    have bs := sm_b (f := fun k => cw px py (b_fromX k) (b_fromY k) (b_toX k) (b_toY k)) (m := 1) (n := k) (fun k hk => cw_b ..)
    rw [wY_inside_32]
    refine br_t (nI_le (by omega) (by omega)) ⟨Q + 1, ?_⟩
    have : wY_inside_108 post od (lZ px) (lZ py) g_revisions g_shown g_level g_layer g_depth (nI Q) (nI k) g_operands g_units g_fault g_where g_partEdges b_stream b_length b_kind b_num b_matrix b_colour b_width b_clip b_paint b_painter b_running b_at b_saves b_below b_mixture b_beginX b_beginY b_endX b_endY b_fromX b_fromY b_toX b_toY b_operand (Q + 1) (iZ (sm (fun k => cw px py (b_fromX k) (b_fromY k) (b_toX k) (b_toY k)) k + sm (fun k => cw px py (b_endX k) (b_endY k) (b_beginX k) (b_beginY k)) 0)) (nI M) (nI 0) := yi_108 (M0 := M) hQ b5 b6 ho r2 (S0 := sm (fun k => cw px py (b_fromX k) (b_fromY k) (b_toX k) (b_toY k)) k) (by omega) (by omega) hp hT h1 h0 Q 0 (by omega) (Q + 1) (by omega) M (by omega) (by show _ = (_ + (0 : Int)) % 2; rw [Int.add_zero]; exact hp)
    rw [show sm (fun k => cw px py (b_endX k) (b_endY k) (b_beginX k) (b_beginY k)) 0 = 0 from rfl, Int.add_zero] at this
    exact this
  | succ d ih =>
    intro k hk n hn M hM hp
    obtain ⟨n, rfl⟩ : ∃ n', n = n' + 1 := ⟨n - 1, by omega⟩
    rw [wY_inside_32]
    have hi : vp_in (nI k) 24 := vp_in_nI (by omega) (by omega)
    obtain ⟨g1, g2, g3, g4⟩ := r1 k (by omega)
    refine br_f (nI_ge (by omega) (by omega)) ⟨hi, hi, hi, hi, ?_⟩
    rw [nI_clamp (by omega), lz_x, lz_x, lz_x, lz_x]
    refine yy_counts g1 g2 g3 g4 b5 b6 ?_
    have nx := ih (k + 1) (by omega) n (by omega)
    rw [sm_s] at nx
    have sq := cw_sq px py (b_fromX k) (b_fromY k) (b_toX k) (b_toY k)
    have cb := cw_b px py (b_fromX k) (b_fromY k) (b_toX k) (b_toY k)
    unfold cw at nx hp sq cb ⊢
    generalize cn (b_fromX k).toInt (b_fromY k).toInt (b_toX k).toInt (b_toY k).toInt px py = c at *
    rcases sq with sq | sq
    · refine nm_r (iz_add _ _) (nm_r (e' := nI (M + 0)) (by rw [iz_mul, sq, iz_n, iz_n, iz_add]; rfl) (nm_r (nI_1 k) (nx _ (by omega) ?_)))
      have : c = 0 := by
        rcases Int.lt_trichotomy c 0 with z | z | z
        · have : c = -1 := by omega
          subst this; exact absurd sq (by decide)
        · exact z
        · have : c = 1 := by omega
          subst this; exact absurd sq (by decide)
      omega
    · refine nm_r (iz_add _ _) (nm_r (e' := nI (M + 1)) (by rw [iz_mul, sq, iz_n, iz_n, iz_add]; rfl) (nm_r (nI_1 k) (nx _ (by omega) ?_)))
      have : c = 1 ∨ c = -1 := by
        rcases Int.lt_trichotomy c 0 with z | z | z
        · omega
        · subst z; exact absurd sq (by decide)
        · omega
      omega
theorem pix_x {p : Nat} (hp : p < 192) : ((8 * (nI p - nI p / 16 * 16)) + 5 : Int32).toInt64 = lZ (8 * ((p % 16 : Nat) : Int) + 5) := by
  rw [show nI p - nI p / 16 * 16 = nI (p % 16) from pk_rem (d := 16) (by omega) (by omega) (by omega), iz_n, li_8, li_5, iz_mul, iz_add, iz_l (by omega)]
theorem pix_y {p : Nat} (hp : p < 192) : ((8 * (nI p / 16)) + 5 : Int32).toInt64 = lZ (8 * ((p / 16 : Nat) : Int) + 5) := by
  rw [show nI p / 16 = nI (p / 16) from pk_div (d := 16) (by omega) (by omega) (by omega), iz_n, li_8, li_5, iz_mul, iz_add, iz_l (by omega)]
theorem yy_inside {p C Q : Nat} {od : Int32} {post : Int32 → Prop} (hp : p < 192) (hC : C ≤ 24) (hQ : Q ≤ 30) (ho : od = 0 ∨ od = 1)
    (r1 : ∀ e, e < C → rg (b_fromX e) ∧ rg (b_fromY e) ∧ rg (b_toX e) ∧ rg (b_toY e)) (r2 : ∀ k, k < Q → rg (b_endX k) ∧ rg (b_endY k) ∧ rg (b_beginX k) ∧ rg (b_beginY k)) {T : Int}
    (hT : T = tyS (8 * ((p % 16 : Nat) : Int) + 5) (8 * ((p / 16 : Nat) : Int) + 5) C Q b_fromX b_fromY b_toX b_toY b_endX b_endY b_beginX b_beginY)
    (h1 : (if od = 0 then T ≠ 0 else T % 2 = 1) → post 1) (h0 : ¬ (if od = 0 then T ≠ 0 else T % 2 = 1) → post 0) :
    wpY_inside post (g_revisions, g_shown, g_level, g_layer, g_depth, nI Q, nI C, g_operands, g_units, g_fault, g_where, g_partEdges, b_stream, b_length, b_kind, b_num, b_matrix, b_colour, b_width, b_clip, b_paint, b_painter, b_running, b_at, b_saves, b_below, b_mixture, b_beginX, b_beginY, b_endX, b_endY, b_fromX, b_fromY, b_toX, b_toY, b_operand) (nI p) od := by
  unfold wpY_inside
  refine ⟨by decide, nm_r (pix_x hp) ⟨by decide, nm_r (pix_y hp) ⟨C + 1, ?_⟩⟩⟩
  exact yi_32 hC hQ (by omega) (by omega) ho r1 r2 hT h1 h0 C 0 (by omega) (C + 1) (by omega) 0 (by omega) rfl
theorem yy_touches {e : Nat} {px py w : Int} {post : Int32 → Prop} (he : e < 24) (r1 : rg (b_fromX e) ∧ rg (b_fromY e) ∧ rg (b_toX e) ∧ rg (b_toY e)) (b5 : 0 ≤ px ∧ px ≤ 200) (b6 : 0 ≤ py ∧ py ≤ 200) (bw : 0 ≤ w ∧ w ≤ 60)
    (h1 : tch (b_fromX e).toInt (b_fromY e).toInt (b_toX e).toInt (b_toY e).toInt w px py → post 1) (h0 : ¬ tch (b_fromX e).toInt (b_fromY e).toInt (b_toX e).toInt (b_toY e).toInt w px py → post 0) :
    wpY_touches post (g_revisions, g_shown, g_level, g_layer, g_depth, g_parts, g_edges, g_operands, g_units, g_fault, g_where, g_partEdges, b_stream, b_length, b_kind, b_num, b_matrix, b_colour, b_width, b_clip, b_paint, b_painter, b_running, b_at, b_saves, b_below, b_mixture, b_beginX, b_beginY, b_endX, b_endY, b_fromX, b_fromY, b_toX, b_toY, b_operand) (nI e) (lZ px) (lZ py) (lZ w) := by
  have hi : vp_in (nI e) 24 := vp_in_nI he (by omega)
  obtain ⟨g1, g2, g3, g4⟩ := r1
  unfold rg at g1 g2 g3 g4
  unfold wpY_touches
  dsimp only
  rw [nI_clamp (by omega)]
  have k1 := iz_of (b_fromX e)
  have k2 := iz_of (b_fromY e)
  have k3 := iz_of (b_toX e)
  have k4 := iz_of (b_toY e)
  generalize (b_fromX e).toInt = x1 at *
  generalize (b_fromY e).toInt = y1 at *
  generalize (b_toX e).toInt = x2 at *
  generalize (b_toY e).toInt = y2 at *
  rw [k1, k2, k3, k4]
  have n1 : ((2 : Int32) * iZ x1).toInt64 = lZ (2 * x1) := by rw [li_2, iz_mul, iz_l (by omega)]
  have n2 : ((2 : Int32) * iZ y1).toInt64 = lZ (2 * y1) := by rw [li_2, iz_mul, iz_l (by omega)]
  have n3 : ((2 : Int32) * iZ x2).toInt64 - lZ (2 * x1) = lZ (2 * x2 - 2 * x1) := by rw [li_2, iz_mul, iz_l (by omega), lz_sub]
  have n4 : ((2 : Int32) * iZ y2).toInt64 - lZ (2 * y1) = lZ (2 * y2 - 2 * y1) := by rw [li_2, iz_mul, iz_l (by omega), lz_sub]
  refine ⟨hi, nm_r n1 ⟨hi, nm_r n2 ⟨hi, nm_r n3 ⟨hi, nm_r n4 (nm_r (lz_sub _ _) (nm_r (lz_sub _ _) ?_))⟩⟩⟩⟩
  unfold tch at h1 h0
  have p1 := pb 16000 16000 (a := 2 * x2 - 2 * x1) (b := 2 * x2 - 2 * x1) (by omega) (by omega)
  have p2 := pb 16000 16000 (a := 2 * y2 - 2 * y1) (b := 2 * y2 - 2 * y1) (by omega) (by omega)
  have p3 := pb 8200 16000 (a := px - 2 * x1) (b := 2 * x2 - 2 * x1) (by omega) (by omega)
  have p4 := pb 8200 16000 (a := py - 2 * y1) (b := 2 * y2 - 2 * y1) (by omega) (by omega)
  have p5 := pb 60 60 (a := w) (b := w) (by omega) (by omega)
  have p6 := pb 8200 8200 (a := px - 2 * x1) (b := px - 2 * x1) (by omega) (by omega)
  have p7 := pb 8200 8200 (a := py - 2 * y1) (b := py - 2 * y1) (by omega) (by omega)
  have p8 := pb 24200 24200 (a := px - 2 * x1 - (2 * x2 - 2 * x1)) (b := px - 2 * x1 - (2 * x2 - 2 * x1)) (by omega) (by omega)
  have p9 := pb 24200 24200 (a := py - 2 * y1 - (2 * y2 - 2 * y1)) (b := py - 2 * y1 - (2 * y2 - 2 * y1)) (by omega) (by omega)
  have p10 := pb 16000 8200 (a := 2 * x2 - 2 * x1) (b := py - 2 * y1) (by omega) (by omega)
  have p11 := pb 16000 8200 (a := 2 * y2 - 2 * y1) (b := px - 2 * x1) (by omega) (by omega)
  have p12 := pb 300000000 300000000 (a := (2 * x2 - 2 * x1) * (py - 2 * y1) - (2 * y2 - 2 * y1) * (px - 2 * x1)) (b := (2 * x2 - 2 * x1) * (py - 2 * y1) - (2 * y2 - 2 * y1) * (px - 2 * x1)) (by omega) (by omega)
  have p13 := pb 3600 512000000 (a := w * w) (b := (2 * x2 - 2 * x1) * (2 * x2 - 2 * x1) + (2 * y2 - 2 * y1) * (2 * y2 - 2 * y1)) (by omega) (by omega)
  refine nm_r (e' := lZ ((2 * x2 - 2 * x1) * (2 * x2 - 2 * x1) + (2 * y2 - 2 * y1) * (2 * y2 - 2 * y1))) (by rw [lz_mul, lz_mul, lz_add]) (nm_r (e' := lZ ((px - 2 * x1) * (2 * x2 - 2 * x1) + (py - 2 * y1) * (2 * y2 - 2 * y1))) (by rw [lz_mul, lz_mul, lz_add]) ?_)
  refine lk_lt 0 ((px - 2 * x1) * (2 * x2 - 2 * x1) + (py - 2 * y1) * (2 * y2 - 2 * y1)) (fun c => ?_) (fun c => ?_) ll_0 rfl (by omega) (by omega)
  · rw [if_pos c] at h1 h0
    refine lk_lt _ _ (fun c2 => ?_) (fun c2 => ?_) rfl rfl (by omega) (by omega)
    · rw [if_pos c2] at h1 h0
      refine nm_r (e' := lZ ((2 * x2 - 2 * x1) * (py - 2 * y1) - (2 * y2 - 2 * y1) * (px - 2 * x1))) (by rw [lz_mul, lz_mul, lz_sub]) ?_
      rw [lz_mul, lz_mul, lz_mul]
      refine lk_lt _ _ (fun c3 => h0 (by omega)) (fun c3 => h1 (by omega)) rfl rfl (by omega) (by omega)
    · rw [if_neg (by omega)] at h1 h0
      rw [lz_sub, lz_sub, lz_mul, lz_mul, lz_mul, lz_add]
      refine lk_lt _ _ (fun c3 => h0 (by omega)) (fun c3 => h1 (by omega)) rfl rfl (by omega) (by omega)
  · rw [if_neg (by omega)] at h1 h0
    rw [lz_mul, lz_mul, lz_mul, lz_add]
    refine lk_lt _ _ (fun c3 => h0 (by omega)) (fun c3 => h1 (by omega)) rfl rfl (by omega) (by omega)
theorem yd_loop {p C s : Nat} {w : Int} {post : Int32 → Prop} (hp : p < 192) (hC : C ≤ 24) (hs : s < 7) (hw : b_width s = iZ w) (bw : 0 ≤ w ∧ w ≤ 60)
    (r1 : ∀ e, e < C → rg (b_fromX e) ∧ rg (b_fromY e) ∧ rg (b_toX e) ∧ rg (b_toY e))
    (h1 : (∃ e, e < C ∧ tch (b_fromX e).toInt (b_fromY e).toInt (b_toX e).toInt (b_toY e).toInt w (8 * ((p % 16 : Nat) : Int) + 5) (8 * ((p / 16 : Nat) : Int) + 5)) → post 1)
    (h0 : ¬ (∃ e, e < C ∧ tch (b_fromX e).toInt (b_fromY e).toInt (b_toX e).toInt (b_toY e).toInt w (8 * ((p % 16 : Nat) : Int) + 5) (8 * ((p / 16 : Nat) : Int) + 5)) → post 0) :
    ∀ d k, k + d = C → ∀ n, d < n → ∀ f : Int32, ((f = 0 ∧ ∀ e, e < k → ¬ tch (b_fromX e).toInt (b_fromY e).toInt (b_toX e).toInt (b_toY e).toInt w (8 * ((p % 16 : Nat) : Int) + 5) (8 * ((p / 16 : Nat) : Int) + 5)) ∨ (f = 1 ∧ ∃ e, e < C ∧ tch (b_fromX e).toInt (b_fromY e).toInt (b_toX e).toInt (b_toY e).toInt w (8 * ((p % 16 : Nat) : Int) + 5) (8 * ((p / 16 : Nat) : Int) + 5))) →
      wY_drawn_4 post (nI p) g_revisions g_shown (nI s) g_layer g_depth g_parts (nI C) g_operands g_units g_fault g_where g_partEdges b_stream b_length b_kind b_num b_matrix b_colour b_width b_clip b_paint b_painter b_running b_at b_saves b_below b_mixture b_beginX b_beginY b_endX b_endY b_fromX b_fromY b_toX b_toY b_operand n f (nI k) := by
  intro d
  induction d with
  | zero =>
    intro k hk n hn f hf
    obtain ⟨n, rfl⟩ : ∃ n', n = n' + 1 := ⟨n - 1, by omega⟩
    have e : k = C := by omega
    subst e
    rw [wY_drawn_4]
    refine br_t (nI_le (by omega) (by omega)) ?_
    rcases hf with ⟨rfl, z⟩ | ⟨rfl, z⟩
    · exact ⟨narrow_b0, h0 (fun ⟨e, he, ht⟩ => z e he ht)⟩
    · exact ⟨narrow_b1, h1 z⟩
  | succ d ih =>
    intro k hk n hn f hf
    obtain ⟨n, rfl⟩ : ∃ n', n = n' + 1 := ⟨n - 1, by omega⟩
    rw [wY_drawn_4]
    refine br_f (nI_ge (by omega) (by omega)) ⟨by decide, by decide, vp_in_nI hs (by omega), ?_⟩
    have nx := ih (k + 1) (by omega) n (by omega)
    rw [pix_x hp, pix_y hp, nI_clamp (n := s) (by omega), hw, iz_l (by omega)]
    refine yy_touches (by omega) (r1 k (by omega)) (by omega) (by omega) bw (fun ht => ?_) (fun ht => ?_)
    · have y1 := nx 1 (Or.inr ⟨rfl, k, by omega, ht⟩)
      rcases hf with ⟨rfl, z⟩ | ⟨rfl, z⟩
      · exact br_t rfl (br_f (by decide) (nm_r (nI_1 k) y1))
      · exact br_f (by decide) (nm_r (nI_1 k) y1)
    · rcases hf with ⟨rfl, z⟩ | ⟨rfl, z⟩
      · refine br_t rfl (br_t rfl (nm_r (nI_1 k) (nx 0 (Or.inl ⟨rfl, fun e he => ?_⟩))))
        rcases Nat.lt_or_ge e k with c | c
        · exact z e c
        · have : e = k := by omega
          subst this; exact ht
      · exact br_f (by decide) (nm_r (nI_1 k) (nx 1 (Or.inr ⟨rfl, z⟩)))
/-- what the reference asks of a pixel at a painting or clipping operator -/
def hitY (k C Q : Nat) (w : Int) (fx fy tx ty ex ey bx by_ : Nat → Int32) (p : Nat) : Prop :=
  if k = 15 then ∃ e, e < C ∧ tch (fx e).toInt (fy e).toInt (tx e).toInt (ty e).toInt w (8 * ((p % 16 : Nat) : Int) + 5) (8 * ((p / 16 : Nat) : Int) + 5)
  else if k = 6 ∨ k = 8 then tyS (8 * ((p % 16 : Nat) : Int) + 5) (8 * ((p / 16 : Nat) : Int) + 5) C Q fx fy tx ty ex ey bx by_ % 2 = 1
  else tyS (8 * ((p % 16 : Nat) : Int) + 5) (8 * ((p / 16 : Nat) : Int) + 5) C Q fx fy tx ty ex ey bx by_ ≠ 0
theorem yf_loop {k C Q s l : Nat} {w : Int} {pl c : Int32} {H : Nat → Bool} {pa pt : Nat → Int32} {post : SY → Prop} (hk : k = 15 ∨ k = 6 ∨ k = 5) (hC : C ≤ 24) (hQ : Q ≤ 30) (hs : s < 7) (hl : l < 7) (hw : b_width s = iZ w) (bw : 0 ≤ w ∧ w ≤ 60) (hc : b_colour s = c)
    (r1 : ∀ e, e < C → rg (b_fromX e) ∧ rg (b_fromY e) ∧ rg (b_toX e) ∧ rg (b_toY e)) (r2 : ∀ k, k < Q → rg (b_endX k) ∧ rg (b_endY k) ∧ rg (b_beginX k) ∧ rg (b_beginY k))
    (hH : ∀ p, p < 192 → (H p = true ↔ (hitY k C Q w b_fromX b_fromY b_toX b_toY b_endX b_endY b_beginX b_beginY p ∧ ¬ b_clip (192 * s + p) = 0)))
    (h : post (g_revisions, g_shown, nI s, nI l, g_depth, nI Q, nI C, g_operands, g_units, g_fault, g_where, g_partEdges, b_stream, b_length, b_kind, b_num, b_matrix, b_colour, b_width, b_clip, pf H l c pa 192, pf H l pl pt 192, b_running, b_at, b_saves, b_below, b_mixture, b_beginX, b_beginY, b_endX, b_endY, b_fromX, b_fromY, b_toX, b_toY, b_operand)) :
    ∀ d p, p + d = 192 → ∀ n, d < n → wY_fill_2 post (nI k) pl g_revisions g_shown (nI s) (nI l) g_depth (nI Q) (nI C) g_operands g_units g_fault g_where g_partEdges n (nI p) b_stream b_length b_kind b_num b_matrix b_colour b_width b_clip (pf H l c pa p) (pf H l pl pt p) b_running b_at b_saves b_below b_mixture b_beginX b_beginY b_endX b_endY b_fromX b_fromY b_toX b_toY b_operand := by
  intro d
  induction d with
  | zero =>
    intro p hp n hn
    obtain ⟨n, rfl⟩ : ∃ n', n = n' + 1 := ⟨n - 1, by omega⟩
    have e : p = 192 := by omega
    subst e
    rw [wY_fill_2]
    exact br_t (nI_le (a := 192) (by omega) (by omega)) h
  | succ d ih =>
    intro p hp n hn
    obtain ⟨n, rfl⟩ : ∃ n', n = n' + 1 := ⟨n - 1, by omega⟩
    have nx := ih (p + 1) (by omega) n (by omega)
    have hHp := hH p (by omega)
    have ei : (192 : Int32) * nI s + nI p = nI (192 * s + p) := nj_ma 192 s p
    have el : (192 : Int32) * nI l + nI p = nI (192 * l + p) := nj_ma 192 l p
    have yes : hitY k C Q w b_fromX b_fromY b_toX b_toY b_endX b_endY b_beginX b_beginY p → wY_fill_39 post (wY_fill_2 post (nI k) pl g_revisions g_shown (nI s) (nI l) g_depth (nI Q) (nI C) g_operands g_units g_fault g_where g_partEdges n) (nI k) pl (nI p) 1 g_revisions g_shown (nI s) (nI l) g_depth (nI Q) (nI C) g_operands g_units g_fault g_where g_partEdges b_stream b_length b_kind b_num b_matrix b_colour b_width b_clip (pf H l c pa p) (pf H l pl pt p) b_running b_at b_saves b_below b_mixture b_beginX b_beginY b_endX b_endY b_fromX b_fromY b_toX b_toY b_operand := by
      intro hit
      unfold wY_fill_39
      rw [ei, el, nI_clamp (by omega), nI_clamp (by omega), nI_clamp (n := s) (by omega), hc]
      refine br_f (by decide) ⟨vp_in_nI (by omega) (by omega), ?_⟩
      refine br_c (fun z => ?_) (fun z => ?_)
      · have hb : H p = false := by
          cases e : H p
          · rfl
          · exact absurd z (hHp.mp e).2
        refine nm_r (nI_1 p) ?_
        rw [pf_f (c := c) (a := pa) hb, pf_f (c := pl) (a := pt) hb]
        exact nx
      · have hb : H p = true := hHp.mpr ⟨hit, z⟩
        refine ⟨vp_in_nI hs (by omega), vp_in_nI (by omega) (by omega), nm_r (pf_t hb) ⟨vp_in_nI (by omega) (by omega), nm_r (pf_t hb) (nm_r (nI_1 p) nx)⟩⟩
    have no : ¬ hitY k C Q w b_fromX b_fromY b_toX b_toY b_endX b_endY b_beginX b_beginY p → wY_fill_39 post (wY_fill_2 post (nI k) pl g_revisions g_shown (nI s) (nI l) g_depth (nI Q) (nI C) g_operands g_units g_fault g_where g_partEdges n) (nI k) pl (nI p) 0 g_revisions g_shown (nI s) (nI l) g_depth (nI Q) (nI C) g_operands g_units g_fault g_where g_partEdges b_stream b_length b_kind b_num b_matrix b_colour b_width b_clip (pf H l c pa p) (pf H l pl pt p) b_running b_at b_saves b_below b_mixture b_beginX b_beginY b_endX b_endY b_fromX b_fromY b_toX b_toY b_operand := by
      intro hit
      unfold wY_fill_39
      have hb : H p = false := by
        cases e : H p
        · rfl
        · exact absurd (hHp.mp e).1 hit
      refine br_t rfl (nm_r (nI_1 p) ?_)
      rw [pf_f (c := c) (a := pa) hb, pf_f (c := pl) (a := pt) hb]
      exact nx
    rw [wY_fill_2]
    refine br_f (nI_ge (b := 192) (by omega) (by omega)) ?_
    rcases hk with rfl | rfl | rfl
    · refine br_t rfl ?_
      unfold wpY_drawn
      unfold hitY at yes no
      rw [if_pos rfl] at yes no
      exact ⟨C + 1, yd_loop (by omega) hC hs hw bw r1 yes no C 0 (by omega) (C + 1) (by omega) 0 (Or.inl ⟨rfl, fun e he => absurd he (Nat.not_lt_zero e)⟩)⟩
    · refine br_f (by decide) (br_t rfl ?_)
      unfold wY_fill_36
      unfold hitY at yes no
      rw [if_neg (by decide), if_pos (by decide)] at yes no
      refine yy_inside (by omega) hC hQ (Or.inr rfl) r1 r2 rfl (fun z => yes ?_) (fun z => no ?_)
      · rw [if_neg (by decide)] at z; exact z
      · rw [if_neg (by decide)] at z; exact z
    · refine br_f (by decide) (br_f (by decide) ?_)
      unfold wY_fill_36
      unfold hitY at yes no
      rw [if_neg (by decide), if_neg (by decide)] at yes no
      refine yy_inside (by omega) hC hQ (Or.inl rfl) r1 r2 rfl (fun z => yes ?_) (fun z => no ?_)
      · rw [if_pos rfl] at z; exact z
      · rw [if_pos rfl] at z; exact z
theorem yy_fill {k C Q s l : Nat} {w : Int} {pl c : Int32} {H : Nat → Bool} {post : SY → Prop} (hk : k = 15 ∨ k = 6 ∨ k = 5) (hC : C ≤ 24) (hQ : Q ≤ 30) (hs : s < 7) (hl : l < 7) (hw : b_width s = iZ w) (bw : 0 ≤ w ∧ w ≤ 60) (hc : b_colour s = c)
    (r1 : ∀ e, e < C → rg (b_fromX e) ∧ rg (b_fromY e) ∧ rg (b_toX e) ∧ rg (b_toY e)) (r2 : ∀ k, k < Q → rg (b_endX k) ∧ rg (b_endY k) ∧ rg (b_beginX k) ∧ rg (b_beginY k))
    (hH : ∀ p, p < 192 → (H p = true ↔ (hitY k C Q w b_fromX b_fromY b_toX b_toY b_endX b_endY b_beginX b_beginY p ∧ ¬ b_clip (192 * s + p) = 0)))
    (h : post (g_revisions, g_shown, nI s, nI l, g_depth, nI Q, nI C, g_operands, g_units, g_fault, g_where, g_partEdges, b_stream, b_length, b_kind, b_num, b_matrix, b_colour, b_width, b_clip, pf H l c b_paint 192, pf H l pl b_painter 192, b_running, b_at, b_saves, b_below, b_mixture, b_beginX, b_beginY, b_endX, b_endY, b_fromX, b_fromY, b_toX, b_toY, b_operand)) :
    wpY_fill post (g_revisions, g_shown, nI s, nI l, g_depth, nI Q, nI C, g_operands, g_units, g_fault, g_where, g_partEdges, b_stream, b_length, b_kind, b_num, b_matrix, b_colour, b_width, b_clip, b_paint, b_painter, b_running, b_at, b_saves, b_below, b_mixture, b_beginX, b_beginY, b_endX, b_endY, b_fromX, b_fromY, b_toX, b_toY, b_operand) (nI k) pl := by
  unfold wpY_fill
  refine ⟨193, ?_⟩
  have := yf_loop hk hC hQ hs hl hw bw hc r1 r2 hH h 192 0 (by omega) 193 (by omega)
  rw [pf_0, pf_0] at this
  exact this
def cf (H : Nat → Bool) (s : Nat) (a : Nat → Int32) (m : Nat) : Nat → Int32 :=
  fun q => if 192 * s ≤ q ∧ q < 192 * s + m then (if H (q - 192 * s) = true then 1 else 0) else a q
theorem cf_0 (H : Nat → Bool) (s : Nat) (a : Nat → Int32) : cf H s a 0 = a := by
  funext q
  exact if_neg (by omega)
theorem cf_s {H : Nat → Bool} {s m : Nat} {a : Nat → Int32} {v : Int32} (hv : v = if H m = true then 1 else 0) : upd (cf H s a m) (192 * s + m) v = cf H s a (m + 1) := by
  funext q
  by_cases e : q = 192 * s + m
  · subst e
    rw [pk_us]
    unfold cf
    rw [if_pos ⟨by omega, by omega⟩, show 192 * s + m - 192 * s = m by omega]
    exact hv
  · rw [pk_un e]
    unfold cf
    by_cases c1 : 192 * s ≤ q ∧ q < 192 * s + m
    · rw [if_pos c1, if_pos (c := 192 * s ≤ q ∧ q < 192 * s + (m + 1)) ⟨c1.1, by omega⟩]
    · rw [if_neg c1, if_neg (c := 192 * s ≤ q ∧ q < 192 * s + (m + 1)) (fun z => c1 ⟨z.1, by omega⟩)]
theorem yc_loop {k C Q s : Nat} {w : Int} {H : Nat → Bool} {ca : Nat → Int32} {post : SY → Prop} (hk : k = 7 ∨ k = 8) (hC : C ≤ 24) (hQ : Q ≤ 30) (hs : s < 7)
    (r1 : ∀ e, e < C → rg (b_fromX e) ∧ rg (b_fromY e) ∧ rg (b_toX e) ∧ rg (b_toY e)) (r2 : ∀ k, k < Q → rg (b_endX k) ∧ rg (b_endY k) ∧ rg (b_beginX k) ∧ rg (b_beginY k))
    (hH : ∀ p, p < 192 → (H p = true ↔ (hitY k C Q w b_fromX b_fromY b_toX b_toY b_endX b_endY b_beginX b_beginY p ∧ ¬ ca (192 * s + p) = 0)))
    (h : post (g_revisions, g_shown, nI s, g_layer, g_depth, nI Q, nI C, g_operands, g_units, g_fault, g_where, g_partEdges, b_stream, b_length, b_kind, b_num, b_matrix, b_colour, b_width, cf H s ca 192, b_paint, b_painter, b_running, b_at, b_saves, b_below, b_mixture, b_beginX, b_beginY, b_endX, b_endY, b_fromX, b_fromY, b_toX, b_toY, b_operand)) :
    ∀ d p, p + d = 192 → ∀ n, d < n → wY_cut_2 post (nI k) g_revisions g_shown (nI s) g_layer g_depth (nI Q) (nI C) g_operands g_units g_fault g_where g_partEdges n (nI p) b_stream b_length b_kind b_num b_matrix b_colour b_width (cf H s ca p) b_paint b_painter b_running b_at b_saves b_below b_mixture b_beginX b_beginY b_endX b_endY b_fromX b_fromY b_toX b_toY b_operand := by
  intro d
  induction d with
  | zero =>
    intro p hp n hn
    obtain ⟨n, rfl⟩ : ∃ n', n = n' + 1 := ⟨n - 1, by omega⟩
    have e : p = 192 := by omega
    subst e
    rw [wY_cut_2]
    exact br_t (nI_le (a := 192) (by omega) (by omega)) h
  | succ d ih =>
    intro p hp n hn
    obtain ⟨n, rfl⟩ : ∃ n', n = n' + 1 := ⟨n - 1, by omega⟩
    have nx := ih (p + 1) (by omega) n (by omega)
    have hHp := hH p (by omega)
    have ei : (192 : Int32) * nI s + nI p = nI (192 * s + p) := nj_ma 192 s p
    have hin : vp_in (nI (192 * s + p)) 1344 := vp_in_nI (by omega) (by omega)
    have ecl : cf H s ca p (192 * s + p) = ca (192 * s + p) := if_neg (by omega)
    rw [wY_cut_2]
    refine br_f (nI_ge (b := 192) (by omega) (by omega)) ?_
    rcases hk with rfl | rfl
    · refine br_f (by decide) ?_
      unfold wY_cut_22
      rw [ei, nI_clamp (by omega)]
      unfold hitY at hHp
      rw [if_neg (by decide), if_neg (by decide)] at hHp
      refine yy_inside (by omega) hC hQ (Or.inl rfl) r1 r2 rfl (fun z => ⟨hin, br_c (fun c => ?_) (fun c => br_f (by decide) ?_)⟩) (fun z => ⟨hin, br_c (fun c => ?_) (fun c => br_t rfl ?_)⟩)
      all_goals rw [ecl] at c
      all_goals rw [if_pos rfl] at z
      · exact ⟨hin, nm_r (cf_s (by rw [if_neg (fun q => (hHp.mp q).2 c), vb_0])) (nm_r (nI_1 p) nx)⟩
      · exact ⟨hin, nm_r (cf_s (by rw [if_pos (hHp.mpr ⟨z, c⟩), vb_1])) (nm_r (nI_1 p) nx)⟩
      · exact ⟨hin, nm_r (cf_s (by rw [if_neg (fun q => (hHp.mp q).2 c), vb_0])) (nm_r (nI_1 p) nx)⟩
      · exact ⟨hin, nm_r (cf_s (by rw [if_neg (fun q => z (hHp.mp q).1), vb_0])) (nm_r (nI_1 p) nx)⟩
    · refine br_t rfl ?_
      unfold wY_cut_22
      rw [ei, nI_clamp (by omega)]
      unfold hitY at hHp
      rw [if_neg (by decide), if_pos (by decide)] at hHp
      refine yy_inside (by omega) hC hQ (Or.inr rfl) r1 r2 rfl (fun z => ⟨hin, br_c (fun c => ?_) (fun c => br_f (by decide) ?_)⟩) (fun z => ⟨hin, br_c (fun c => ?_) (fun c => br_t rfl ?_)⟩)
      all_goals rw [ecl] at c
      all_goals rw [if_neg (by decide)] at z
      · exact ⟨hin, nm_r (cf_s (by rw [if_neg (fun q => (hHp.mp q).2 c), vb_0])) (nm_r (nI_1 p) nx)⟩
      · exact ⟨hin, nm_r (cf_s (by rw [if_pos (hHp.mpr ⟨z, c⟩), vb_1])) (nm_r (nI_1 p) nx)⟩
      · exact ⟨hin, nm_r (cf_s (by rw [if_neg (fun q => (hHp.mp q).2 c), vb_0])) (nm_r (nI_1 p) nx)⟩
      · exact ⟨hin, nm_r (cf_s (by rw [if_neg (fun q => z (hHp.mp q).1), vb_0])) (nm_r (nI_1 p) nx)⟩
theorem yy_cut {k C Q s : Nat} {w : Int} {H : Nat → Bool} {post : SY → Prop} (hk : k = 7 ∨ k = 8) (hC : C ≤ 24) (hQ : Q ≤ 30) (hs : s < 7)
    (r1 : ∀ e, e < C → rg (b_fromX e) ∧ rg (b_fromY e) ∧ rg (b_toX e) ∧ rg (b_toY e)) (r2 : ∀ k, k < Q → rg (b_endX k) ∧ rg (b_endY k) ∧ rg (b_beginX k) ∧ rg (b_beginY k))
    (hH : ∀ p, p < 192 → (H p = true ↔ (hitY k C Q w b_fromX b_fromY b_toX b_toY b_endX b_endY b_beginX b_beginY p ∧ ¬ b_clip (192 * s + p) = 0)))
    (h : post (g_revisions, g_shown, nI s, g_layer, g_depth, nI Q, nI C, g_operands, g_units, g_fault, g_where, g_partEdges, b_stream, b_length, b_kind, b_num, b_matrix, b_colour, b_width, cf H s b_clip 192, b_paint, b_painter, b_running, b_at, b_saves, b_below, b_mixture, b_beginX, b_beginY, b_endX, b_endY, b_fromX, b_fromY, b_toX, b_toY, b_operand)) :
    wpY_cut post (g_revisions, g_shown, nI s, g_layer, g_depth, nI Q, nI C, g_operands, g_units, g_fault, g_where, g_partEdges, b_stream, b_length, b_kind, b_num, b_matrix, b_colour, b_width, b_clip, b_paint, b_painter, b_running, b_at, b_saves, b_below, b_mixture, b_beginX, b_beginY, b_endX, b_endY, b_fromX, b_fromY, b_toX, b_toY, b_operand) (nI k) := by
  unfold wpY_cut
  refine ⟨193, ?_⟩
  have := yc_loop hk hC hQ hs r1 r2 hH h 192 0 (by omega) 193 (by omega)
  rw [cf_0] at this
  exact this
end
end
section
/-! X: stroke, area -/
def qrg (a b c d : Nat → Int32) (n : Nat) : Prop := ∀ e, e < n → rg (a e) ∧ rg (b e) ∧ rg (c e) ∧ rg (d e)
def tw (w px py : Int) (a b c d : Int32) : Prop := tch a.toInt b.toInt c.toInt d.toInt w px py
theorem b_c16 (x : Int32) : vp_nar .char ((x.toUInt32 % 65536).toInt32) = x &&& 65535 := by
  rw [pk_vc, pk_char, pk_and x 16 (by decide)]
theorem b_m16 (x : Int32) : ∃ v, v < 65536 ∧ x &&& 65535 = nI v := by
  refine ⟨x.toBitVec.toNat % 2 ^ 16, ?_, pk_and x 16 (by decide)⟩
  exact Nat.mod_lt _ (by decide)
section
variable {f_drafted f_revisions f_depth f_known f_saved f_edges f_counted f_begun f_startX f_startY f_nowX f_nowY f_low f_high f_pointX f_pointY f_layer f_fault f_faultAt f_units f_used : Int32} {a_draftKind a_draftValue a_streamOf a_sizes a_before a_newest a_opCount a_ops a_opAt a_numbers a_running a_next a_floor a_mix a_matrix a_colour a_width a_clip a_x1 a_y1 a_x2 a_y2 a_extra a_winding a_crossings a_pixels a_painter : Nat → Int32}
theorem xs_12 {j s E l pl : Nat} {w : Int} {c : Int32} {H : Nat → Bool} {px pt : Nat → Int32} {post : SX → Prop} {J2 : Int32 → Int32 → Int32 → Int32 → Int32 → Int32 → Int32 → Int32 → Int32 → Int32 → Int32 → Int32 → Int32 → Int32 → Int32 → Int32 → Int32 → Int32 → Int32 → Int32 → Int32 → Int32 → (Nat → Int32) → (Nat → Int32) → (Nat → Int32) → (Nat → Int32) → (Nat → Int32) → (Nat → Int32) → (Nat → Int32) → (Nat → Int32) → (Nat → Int32) → (Nat → Int32) → (Nat → Int32) → (Nat → Int32) → (Nat → Int32) → (Nat → Int32) → (Nat → Int32) → (Nat → Int32) → (Nat → Int32) → (Nat → Int32) → (Nat → Int32) → (Nat → Int32) → (Nat → Int32) → (Nat → Int32) → (Nat → Int32) → (Nat → Int32) → (Nat → Int32) → (Nat → Int32) → (Nat → Int32) → Prop}
    (hj : j < 12) (hs : s < 7) (hl : l < 7) (hE : E ≤ 56) (hw : a_width s = iZ w) (bw : 0 ≤ w ∧ w ≤ 60) (hc : a_colour s = c) (hc2 : 0 ≤ c.toInt ∧ c.toInt ≤ 255) (hf : fl f_depth a_running a_next a_streamOf a_opAt pl) (hr : qrg a_x1 a_y1 a_x2 a_y2 E)
    (hH : ∀ i : Nat, i < 16 → (H (16 * j + i) = true ↔ ((∃ e, e < E ∧ a_extra e = 0 ∧ tw w (8 * (i : Int) + 5) (8 * (j : Int) + 5) (a_x1 e) (a_y1 e) (a_x2 e) (a_y2 e)) ∧ bt (a_clip (12 * s + j)) i = true)))
    (hK : ∀ lo hi : Int32, J2 (nI (j + 1)) f_drafted f_revisions f_depth f_known (nI s) (nI E) f_counted f_begun f_startX f_startY f_nowX f_nowY lo hi f_pointX f_pointY (nI l) f_fault f_faultAt f_units f_used a_draftKind a_draftValue a_streamOf a_sizes a_before a_newest a_opCount a_ops a_opAt a_numbers a_running a_next a_floor a_mix a_matrix a_colour a_width a_clip a_x1 a_y1 a_x2 a_y2 a_extra a_winding a_crossings (pf H l c px (16 * j + 16)) (pf H l (nI pl) pt (16 * j + 16))) :
    ∀ d e, e + d = E → ∀ n, d < n → ∀ mask lo hi : Int32, (∀ i : Nat, i < 32 → (bt mask i = true ↔ (i < 16 ∧ ∃ e', e' < e ∧ a_extra e' = 0 ∧ tw w (8 * (i : Int) + 5) (8 * (j : Int) + 5) (a_x1 e') (a_y1 e') (a_x2 e') (a_y2 e')))) →
      wX_stroke_12 post J2 (nI j) n mask (nI e) f_drafted f_revisions f_depth f_known (nI s) (nI E) f_counted f_begun f_startX f_startY f_nowX f_nowY lo hi f_pointX f_pointY (nI l) f_fault f_faultAt f_units f_used a_draftKind a_draftValue a_streamOf a_sizes a_before a_newest a_opCount a_ops a_opAt a_numbers a_running a_next a_floor a_mix a_matrix a_colour a_width a_clip a_x1 a_y1 a_x2 a_y2 a_extra a_winding a_crossings (pf H l c px (16 * j)) (pf H l (nI pl) pt (16 * j)) := by
  intro d
  induction d with
  | zero =>
    intro e he n hn mask lo hi hm
    obtain ⟨n, rfl⟩ : ∃ n', n = n' + 1 := ⟨n - 1, by omega⟩
    have e0 : e = E := by omega
    subst e0
    rw [wX_stroke_12]
    refine br_t (nI_le (by omega) (by omega)) (br_c (fun z => nm_r (nI_1 j) ?_) (fun z => ?_))
    · have hz : ∀ i, i < 16 → H (16 * j + i) = false := by
        intro i hi'
        cases eb : H (16 * j + i)
        · rfl
        · have k1 := (hm i (by omega)).mpr ⟨hi', ((hH i hi').mp eb).1⟩
          rw [z, b_0] at k1
          exact absurd k1 (by decide)
      rw [pf_fs (c := c) (a := px) 16 hz, pf_fs (c := nI pl) (a := pt) 16 hz]
      exact hK lo hi
    · rw [nj_ma 12 s j, nI_clamp (by omega)]
      refine ⟨vp_in_nI (by omega) (by omega), ?_⟩
      refine xx_paint hj hl hs hc hc2 hf ?_ ?_
      · intro i hi'
        rw [Bool.eq_iff_iff, b_and, Bool.and_eq_true, hm i (by omega), hH i hi']
        constructor
        · intro q; exact ⟨q.1.2, q.2⟩
        · intro q; exact ⟨⟨hi', q.1⟩, q.2⟩
      · exact nm_r (nI_1 j) (hK lo hi)
  | succ d ih =>
    intro e he n hn mask lo hi hm
    obtain ⟨n, rfl⟩ : ∃ n', n = n' + 1 := ⟨n - 1, by omega⟩
    have e8 : (8 : Int32) * nI j + 5 = iZ (8 * j + 5) := by rw [iz_n, li_8, li_5, iz_mul, iz_add]
    obtain ⟨g1, g2, g3, g4⟩ := hr e (by omega)
    rw [wX_stroke_12]
    refine br_f (nI_ge (by omega) (by omega)) ⟨vp_in_nI (by omega) (by omega), ?_⟩
    rw [nI_clamp (by omega)]
    refine br_c (fun z => ?_) (fun z => nm_r (nI_1 e) (ih (e + 1) (by omega) n (by omega) mask lo hi fun i hi' => ?_))
    · rw [e8]
      refine xx_near (by omega) hs (iz_of _) (iz_of _) (iz_of _) (iz_of _) hw g1 g2 g3 g4 bw (by omega) ?_
      intro m l2 h2 hb
      refine nm_e (nm_r (nI_1 e) (ih (e + 1) (by omega) n (by omega) _ l2 h2 fun i hi' => ?_))
      rw [b_or, Bool.or_eq_true, hm i hi', hb i hi']
      constructor
      · rintro (⟨q, e', q1, q2⟩ | ⟨q, q1⟩)
        · exact ⟨q, e', by omega, q2⟩
        · exact ⟨q, e, by omega, z, q1⟩
      · rintro ⟨q, e', q1, q2, q3⟩
        rcases Nat.lt_or_ge e' e with t | t
        · exact Or.inl ⟨q, e', t, q2, q3⟩
        · have : e' = e := by omega
          subst this; exact Or.inr ⟨q, q3⟩
    · rw [hm i hi']
      constructor
      · rintro ⟨q, e', q1, q2⟩
        exact ⟨q, e', by omega, q2⟩
      · rintro ⟨q, e', q1, q2, q3⟩
        rcases Nat.lt_or_ge e' e with t | t
        · exact ⟨q, e', t, q2, q3⟩
        · have : e' = e := by omega
          subst this; exact absurd q2 z
theorem xx_stroke {s E l pl : Nat} {w : Int} {c : Int32} {H : Nat → Bool} {post : SX → Prop}
    (hs : s < 7) (hl : l < 7) (hE : E ≤ 56) (hw : a_width s = iZ w) (bw : 0 ≤ w ∧ w ≤ 60) (hc : a_colour s = c) (hc2 : 0 ≤ c.toInt ∧ c.toInt ≤ 255) (hf : fl f_depth a_running a_next a_streamOf a_opAt pl) (hr : qrg a_x1 a_y1 a_x2 a_y2 E)
    (hH : ∀ j i : Nat, j < 12 → i < 16 → (H (16 * j + i) = true ↔ ((∃ e, e < E ∧ a_extra e = 0 ∧ tw w (8 * (i : Int) + 5) (8 * (j : Int) + 5) (a_x1 e) (a_y1 e) (a_x2 e) (a_y2 e)) ∧ bt (a_clip (12 * s + j)) i = true)))
    (hK : ∀ lo hi : Int32, post (f_drafted, f_revisions, f_depth, f_known, nI s, nI E, f_counted, f_begun, f_startX, f_startY, f_nowX, f_nowY, lo, hi, f_pointX, f_pointY, nI l, f_fault, f_faultAt, f_units, f_used, a_draftKind, a_draftValue, a_streamOf, a_sizes, a_before, a_newest, a_opCount, a_ops, a_opAt, a_numbers, a_running, a_next, a_floor, a_mix, a_matrix, a_colour, a_width, a_clip, a_x1, a_y1, a_x2, a_y2, a_extra, a_winding, a_crossings, pf H l c a_pixels 192, pf H l (nI pl) a_painter 192)) :
    wpX_stroke post (f_drafted, f_revisions, f_depth, f_known, nI s, nI E, f_counted, f_begun, f_startX, f_startY, f_nowX, f_nowY, f_low, f_high, f_pointX, f_pointY, nI l, f_fault, f_faultAt, f_units, f_used, a_draftKind, a_draftValue, a_streamOf, a_sizes, a_before, a_newest, a_opCount, a_ops, a_opAt, a_numbers, a_running, a_next, a_floor, a_mix, a_matrix, a_colour, a_width, a_clip, a_x1, a_y1, a_x2, a_y2, a_extra, a_winding, a_crossings, a_pixels, a_painter) := by
  have loop : ∀ d j, j + d = 12 → ∀ n, d < n → ∀ lo hi : Int32, wX_stroke_2 post n (nI j) f_drafted f_revisions f_depth f_known (nI s) (nI E) f_counted f_begun f_startX f_startY f_nowX f_nowY lo hi f_pointX f_pointY (nI l) f_fault f_faultAt f_units f_used a_draftKind a_draftValue a_streamOf a_sizes a_before a_newest a_opCount a_ops a_opAt a_numbers a_running a_next a_floor a_mix a_matrix a_colour a_width a_clip a_x1 a_y1 a_x2 a_y2 a_extra a_winding a_crossings (pf H l c a_pixels (16 * j)) (pf H l (nI pl) a_painter (16 * j)) := by
    intro d
    induction d with
    | zero =>
      intro j hj n hn lo hi
      obtain ⟨n, rfl⟩ : ∃ n', n = n' + 1 := ⟨n - 1, by omega⟩
      have e : j = 12 := by omega
      subst e
      rw [wX_stroke_2]
      exact br_t (nI_le (a := 12) (by omega) (by omega)) (hK lo hi)
    | succ d ih =>
      intro j hj n hn lo hi
      obtain ⟨n, rfl⟩ : ∃ n', n = n' + 1 := ⟨n - 1, by omega⟩
      rw [wX_stroke_2]
      refine br_f (nI_ge (b := 12) (by omega) (by omega)) ⟨E + 1, ?_⟩
      refine xs_12 (by omega) hs hl hE hw bw hc hc2 hf hr (fun i hi' => hH j i (by omega) hi') ?_ E 0 (by omega) (E + 1) (by omega) 0 lo hi ?_
      · intro lo hi
        exact ih (j + 1) (by omega) n (by omega) lo hi
      · intro i hi'
        rw [b_0]
        constructor
        · intro z; exact absurd z (by decide)
        · rintro ⟨_, e', q, _⟩; omega
  unfold wpX_stroke
  refine ⟨13, ?_⟩
  have := loop 12 0 (by omega) 13 (by omega) f_low f_high
  rw [pf_0, pf_0] at this
  exact this
/-- what is inside after all sweeps -/
def txS (px py : Int) (E : Nat) (x1 y1 x2 y2 : Nat → Int32) : Int := sm (fun e => cw px py (x1 e) (y1 e) (x2 e) (y2 e)) E
theorem xa_74f {k s l pl E : Nat} {c od : Int32} {H : Nat → Bool} {W : Nat → Int} {px pt : Nat → Int32} {post : SX → Prop} (hk : (k = 5 ∧ od = 0) ∨ (k = 6 ∧ od = 1)) (hs : s < 7) (hl : l < 7) (hc : a_colour s = c) (hc2 : 0 ≤ c.toInt ∧ c.toInt ≤ 255) (hf : fl f_depth a_running a_next a_streamOf a_opAt pl)
    (hw : wi W a_winding a_crossings) (hb : ∀ c, c < 192 → -100 ≤ W c ∧ W c ≤ 100)
    (hT : ∀ j, j < 12 → ∀ i, i < 16 → sm (fun k => W (16 * j + k)) (i + 1) = txS (8 * (i : Int) + 5) (8 * (j : Int) + 5) E a_x1 a_y1 a_x2 a_y2)
    (hH : ∀ j i : Nat, j < 12 → i < 16 → (H (16 * j + i) = true ↔ ((if od = 0 then txS (8 * (i : Int) + 5) (8 * (j : Int) + 5) E a_x1 a_y1 a_x2 a_y2 ≠ 0 else txS (8 * (i : Int) + 5) (8 * (j : Int) + 5) E a_x1 a_y1 a_x2 a_y2 % 2 = 1) ∧ bt (a_clip (12 * s + j)) i = true)))
    (hK : post (f_drafted, f_revisions, f_depth, f_known, nI s, f_edges, f_counted, f_begun, f_startX, f_startY, f_nowX, f_nowY, f_low, f_high, f_pointX, f_pointY, nI l, f_fault, f_faultAt, f_units, f_used, a_draftKind, a_draftValue, a_streamOf, a_sizes, a_before, a_newest, a_opCount, a_ops, a_opAt, a_numbers, a_running, a_next, a_floor, a_mix, a_matrix, a_colour, a_width, a_clip, a_x1, a_y1, a_x2, a_y2, a_extra, a_winding, a_crossings, pf H l c px 192, pf H l (nI pl) pt 192)) :
    ∀ d j, j + d = 12 → ∀ n, d < n → wX_area_74 post (nI k) od n (nI j) f_drafted f_revisions f_depth f_known (nI s) f_edges f_counted f_begun f_startX f_startY f_nowX f_nowY f_low f_high f_pointX f_pointY (nI l) f_fault f_faultAt f_units f_used a_draftKind a_draftValue a_streamOf a_sizes a_before a_newest a_opCount a_ops a_opAt a_numbers a_running a_next a_floor a_mix a_matrix a_colour a_width a_clip a_x1 a_y1 a_x2 a_y2 a_extra a_winding a_crossings (pf H l c px (16 * j)) (pf H l (nI pl) pt (16 * j)) := by
  intro d
  induction d with
  | zero =>
    intro j hj n hn
    obtain ⟨n, rfl⟩ : ∃ n', n = n' + 1 := ⟨n - 1, by omega⟩
    have e : j = 12 := by omega
    subst e
    rw [wX_area_74]
    exact br_t (nI_le (a := 12) (by omega) (by omega)) hK
  | succ d ih =>
    intro j hj n hn
    obtain ⟨n, rfl⟩ : ∃ n', n = n' + 1 := ⟨n - 1, by omega⟩
    rw [wX_area_74]
    refine br_f (nI_ge (b := 12) (by omega) (by omega)) ?_
    refine xx_inside (by omega) (by rcases hk with ⟨_, h⟩ | ⟨_, h⟩; exact Or.inl h; exact Or.inr h) hw hb (hT j (by omega)) ?_
    intro m hm
    have go : wX_area_99 post (wX_area_74 post (nI k) od n) (nI k) od (nI j) m f_drafted f_revisions f_depth f_known (nI s) f_edges f_counted f_begun f_startX f_startY f_nowX f_nowY f_low f_high f_pointX f_pointY (nI l) f_fault f_faultAt f_units f_used a_draftKind a_draftValue a_streamOf a_sizes a_before a_newest a_opCount a_ops a_opAt a_numbers a_running a_next a_floor a_mix a_matrix a_colour a_width a_clip a_x1 a_y1 a_x2 a_y2 a_extra a_winding a_crossings (pf H l c px (16 * j)) (pf H l (nI pl) pt (16 * j)) := by
      unfold wX_area_99
      rw [nj_ma 12 s j, nI_clamp (by omega)]
      refine ⟨vp_in_nI (by omega) (by omega), ?_⟩
      refine xx_paint (by omega) hl hs hc hc2 hf ?_ ?_
      · intro i hi'
        rw [Bool.eq_iff_iff, b_and, Bool.and_eq_true, hm i (by omega), hH j i (by omega) hi']
        constructor
        · intro q; exact ⟨q.1.2, q.2⟩
        · intro q; exact ⟨⟨hi', q.1⟩, q.2⟩
      · exact nm_r (nI_1 j) (ih (j + 1) (by omega) n (by omega))
    rcases hk with ⟨rfl, _⟩ | ⟨rfl, _⟩
    · exact br_t rfl go
    · exact br_f (by decide) (br_t rfl go)
theorem xa_74c {k s E : Nat} {od : Int32} {W : Nat → Int} {c0 : Nat → Int32} {post : SX → Prop} (hk : (k = 7 ∧ od = 0) ∨ (k = 8 ∧ od = 1)) (hs : s < 7)
    (hw : wi W a_winding a_crossings) (hb : ∀ c, c < 192 → -100 ≤ W c ∧ W c ≤ 100)
    (hT : ∀ j, j < 12 → ∀ i, i < 16 → sm (fun k => W (16 * j + k)) (i + 1) = txS (8 * (i : Int) + 5) (8 * (j : Int) + 5) E a_x1 a_y1 a_x2 a_y2)
    (hK : ∀ cl : Nat → Int32, (∀ q, q < 12 * s → cl q = c0 q) → (∀ j, j < 12 → (∃ v, v < 65536 ∧ cl (12 * s + j) = nI v) ∧ ∀ i, i < 16 → (bt (cl (12 * s + j)) i = true ↔ ((if od = 0 then txS (8 * (i : Int) + 5) (8 * (j : Int) + 5) E a_x1 a_y1 a_x2 a_y2 ≠ 0 else txS (8 * (i : Int) + 5) (8 * (j : Int) + 5) E a_x1 a_y1 a_x2 a_y2 % 2 = 1) ∧ bt (c0 (12 * s + j)) i = true))) → post (f_drafted, f_revisions, f_depth, f_known, nI s, f_edges, f_counted, f_begun, f_startX, f_startY, f_nowX, f_nowY, f_low, f_high, f_pointX, f_pointY, f_layer, f_fault, f_faultAt, f_units, f_used, a_draftKind, a_draftValue, a_streamOf, a_sizes, a_before, a_newest, a_opCount, a_ops, a_opAt, a_numbers, a_running, a_next, a_floor, a_mix, a_matrix, a_colour, a_width, cl, a_x1, a_y1, a_x2, a_y2, a_extra, a_winding, a_crossings, a_pixels, a_painter)) :
    ∀ d j, j + d = 12 → ∀ n, d < n → ∀ cl : Nat → Int32, (∀ q, (q < 12 * s ∨ 12 * s + j ≤ q) → cl q = c0 q) → (∀ j', j' < j → (∃ v, v < 65536 ∧ cl (12 * s + j') = nI v) ∧ ∀ i, i < 16 → (bt (cl (12 * s + j')) i = true ↔ ((if od = 0 then txS (8 * (i : Int) + 5) (8 * (j' : Int) + 5) E a_x1 a_y1 a_x2 a_y2 ≠ 0 else txS (8 * (i : Int) + 5) (8 * (j' : Int) + 5) E a_x1 a_y1 a_x2 a_y2 % 2 = 1) ∧ bt (c0 (12 * s + j')) i = true))) →
      wX_area_74 post (nI k) od n (nI j) f_drafted f_revisions f_depth f_known (nI s) f_edges f_counted f_begun f_startX f_startY f_nowX f_nowY f_low f_high f_pointX f_pointY f_layer f_fault f_faultAt f_units f_used a_draftKind a_draftValue a_streamOf a_sizes a_before a_newest a_opCount a_ops a_opAt a_numbers a_running a_next a_floor a_mix a_matrix a_colour a_width cl a_x1 a_y1 a_x2 a_y2 a_extra a_winding a_crossings a_pixels a_painter := by
  intro d
  induction d with
  | zero =>
    intro j hj n hn cl h1 h2
    obtain ⟨n, rfl⟩ : ∃ n', n = n' + 1 := ⟨n - 1, by omega⟩
    have e : j = 12 := by omega
    subst e
    rw [wX_area_74]
    exact br_t (nI_le (a := 12) (by omega) (by omega)) (hK cl (fun q hq => h1 q (Or.inl hq)) h2)
  | succ d ih =>
    intro j hj n hn cl h1 h2
    obtain ⟨n, rfl⟩ : ∃ n', n = n' + 1 := ⟨n - 1, by omega⟩
    rw [wX_area_74]
    refine br_f (nI_ge (b := 12) (by omega) (by omega)) ?_
    refine xx_inside (by omega) (by rcases hk with ⟨_, h⟩ | ⟨_, h⟩; exact Or.inl h; exact Or.inr h) hw hb (hT j (by omega)) ?_
    intro m hm
    have go : vp_in ((12 : Int32) * nI s + nI j) 84 ∧ (vp_in ((12 : Int32) * nI s + nI j) 84 ∧ ∀ a_clip_158 : Nat → Int32, a_clip_158 = upd cl ((12 : Int32) * nI s + nI j).toNatClampNeg (vp_nar .char ((((cl ((12 : Int32) * nI s + nI j).toNatClampNeg) &&& m).toUInt32 % 65536).toInt32)) → ∀ x3_159 : Int32, x3_159 = nI j + 1 → wX_area_74 post (nI k) od n x3_159 f_drafted f_revisions f_depth f_known (nI s) f_edges f_counted f_begun f_startX f_startY f_nowX f_nowY f_low f_high f_pointX f_pointY f_layer f_fault f_faultAt f_units f_used a_draftKind a_draftValue a_streamOf a_sizes a_before a_newest a_opCount a_ops a_opAt a_numbers a_running a_next a_floor a_mix a_matrix a_colour a_width a_clip_158 a_x1 a_y1 a_x2 a_y2 a_extra a_winding a_crossings a_pixels a_painter) := by
      rw [nj_ma 12 s j, nI_clamp (by omega), b_c16, h1 (12 * s + j) (Or.inr (by omega))]
      refine ⟨vp_in_nI (by omega) (by omega), vp_in_nI (by omega) (by omega), nm_e (nm_r (nI_1 j) (ih (j + 1) (by omega) n (by omega) _ ?_ ?_))⟩
      · intro q hq
        rw [pk_un (by omega)]
        exact h1 q (by omega)
      · intro j' hj'
        rcases Nat.lt_or_ge j' j with t | t
        · rw [pk_un (by omega)]
          exact h2 j' t
        · have : j' = j := by omega
          subst this
          rw [pk_us]
          refine ⟨b_m16 _, fun i hi' => ?_⟩
          rw [b_and, b_and, b_65535, Bool.and_eq_true, Bool.and_eq_true, decide_eq_true_iff, hm i (by omega)]
          constructor
          · intro q; exact ⟨q.1.2.2, q.1.1⟩
          · intro q; exact ⟨⟨q.2, hi', q.1⟩, hi'⟩
    rcases hk with ⟨rfl, _⟩ | ⟨rfl, _⟩
    · exact br_f (by decide) (br_f (by decide) go)
    · exact br_f (by decide) (br_f (by decide) go)
theorem xa_35 {k E : Nat} {post : SX → Prop} (hE : E ≤ 56) (hr : qrg a_x1 a_y1 a_x2 a_y2 E)
    (hK : ∀ (W : Nat → Int) (aw ac : Nat → Int32), wi W aw ac → (∀ c, c < 192 → -100 ≤ W c ∧ W c ≤ 100) → (∀ j, j < 12 → ∀ i, i < 16 → sm (fun k => W (16 * j + k)) (i + 1) = txS (8 * (i : Int) + 5) (8 * (j : Int) + 5) E a_x1 a_y1 a_x2 a_y2) →
      ∃ n, wX_area_74 post (nI k) (if k = 6 ∨ k = 8 then 1 else 0) n 0 f_drafted f_revisions f_depth f_known f_saved (nI E) f_counted f_begun f_startX f_startY f_nowX f_nowY f_low f_high f_pointX f_pointY f_layer f_fault f_faultAt f_units f_used a_draftKind a_draftValue a_streamOf a_sizes a_before a_newest a_opCount a_ops a_opAt a_numbers a_running a_next a_floor a_mix a_matrix a_colour a_width a_clip a_x1 a_y1 a_x2 a_y2 a_extra aw ac a_pixels a_painter) (hk : k = 5 ∨ k = 6 ∨ k = 7 ∨ k = 8) :
    ∀ d e, e + d = E → ∀ n, d < n → ∀ (W : Nat → Int) (aw ac : Nat → Int32), wi W aw ac → (∀ c, c < 192 → -(e : Int) ≤ W c ∧ W c ≤ e) → (∀ j, j < 12 → ∀ i, i < 16 → sm (fun k => W (16 * j + k)) (i + 1) = txS (8 * (i : Int) + 5) (8 * (j : Int) + 5) e a_x1 a_y1 a_x2 a_y2) →
      wX_area_35 post (nI k) n (nI e) f_drafted f_revisions f_depth f_known f_saved (nI E) f_counted f_begun f_startX f_startY f_nowX f_nowY f_low f_high f_pointX f_pointY f_layer f_fault f_faultAt f_units f_used a_draftKind a_draftValue a_streamOf a_sizes a_before a_newest a_opCount a_ops a_opAt a_numbers a_running a_next a_floor a_mix a_matrix a_colour a_width a_clip a_x1 a_y1 a_x2 a_y2 a_extra aw ac a_pixels a_painter := by
  intro d
  induction d with
  | zero =>
    intro e he n hn W aw ac h1 h2 h3
    obtain ⟨n, rfl⟩ : ∃ n', n = n' + 1 := ⟨n - 1, by omega⟩
    have e0 : e = E := by omega
    subst e0
    rw [wX_area_35]
    refine br_t (nI_le (by omega) (by omega)) ?_
    have K := hK W aw ac h1 (fun c hc => by have := h2 c hc; omega) h3
    rcases hk with rfl | rfl | rfl | rfl
    · exact br_f (by decide) (br_f (by decide) K)
    · exact br_t rfl K
    · exact br_f (by decide) (br_f (by decide) K)
    · exact br_f (by decide) (br_t rfl K)
  | succ d ih =>
    intro e he n hn W aw ac h1 h2 h3
    obtain ⟨n, rfl⟩ : ∃ n', n = n' + 1 := ⟨n - 1, by omega⟩
    obtain ⟨g1, g2, g3, g4⟩ := hr e (by omega)
    rw [wX_area_35]
    refine br_f (nI_ge (by omega) (by omega)) ?_
    refine xx_sweep (m := e) (by omega) (iz_of _) (iz_of _) (iz_of _) (iz_of _) g1 g2 g3 g4 (by omega) h1 h2 ?_
    intro W' aw' ac' k1 k2 k3
    refine nm_r (nI_1 e) (ih (e + 1) (by omega) n (by omega) W' aw' ac' k1 ?_ ?_)
    · intro c hc
      have := k2 c hc
      omega
    · intro j hj i hi
      rw [k3 j hj i hi, h3 j hj i hi]
      rfl
theorem xa_6 {k E : Nat} {post : SX → Prop} (hE : E ≤ 56) (hr : qrg a_x1 a_y1 a_x2 a_y2 E)
    (hK : ∀ (W : Nat → Int) (aw ac : Nat → Int32), wi W aw ac → (∀ c, c < 192 → -100 ≤ W c ∧ W c ≤ 100) → (∀ j, j < 12 → ∀ i, i < 16 → sm (fun k => W (16 * j + k)) (i + 1) = txS (8 * (i : Int) + 5) (8 * (j : Int) + 5) E a_x1 a_y1 a_x2 a_y2) →
      ∃ n, wX_area_74 post (nI k) (if k = 6 ∨ k = 8 then 1 else 0) n 0 f_drafted f_revisions f_depth f_known f_saved (nI E) f_counted f_begun f_startX f_startY f_nowX f_nowY f_low f_high f_pointX f_pointY f_layer f_fault f_faultAt f_units f_used a_draftKind a_draftValue a_streamOf a_sizes a_before a_newest a_opCount a_ops a_opAt a_numbers a_running a_next a_floor a_mix a_matrix a_colour a_width a_clip a_x1 a_y1 a_x2 a_y2 a_extra aw ac a_pixels a_painter) (hk : k = 5 ∨ k = 6 ∨ k = 7 ∨ k = 8) :
    ∃ n, wX_area_6 post (nI k) f_drafted f_revisions f_depth f_known f_saved (nI E) f_counted f_begun f_startX f_startY f_nowX f_nowY f_low f_high f_pointX f_pointY f_layer f_fault f_faultAt f_units f_used n 0 a_draftKind a_draftValue a_streamOf a_sizes a_before a_newest a_opCount a_ops a_opAt a_numbers a_running a_next a_floor a_mix a_matrix a_colour a_width a_clip a_x1 a_y1 a_x2 a_y2 a_extra a_winding a_crossings a_pixels a_painter := by
  have loop : ∀ d q, q + d = 192 → ∀ n, d < n → ∀ aw ac : Nat → Int32, (∀ c, c < q → aw c = 0 ∧ ac c = 0) → wX_area_6 post (nI k) f_drafted f_revisions f_depth f_known f_saved (nI E) f_counted f_begun f_startX f_startY f_nowX f_nowY f_low f_high f_pointX f_pointY f_layer f_fault f_faultAt f_units f_used n (nI q) a_draftKind a_draftValue a_streamOf a_sizes a_before a_newest a_opCount a_ops a_opAt a_numbers a_running a_next a_floor a_mix a_matrix a_colour a_width a_clip a_x1 a_y1 a_x2 a_y2 a_extra aw ac a_pixels a_painter := by
    intro d
    induction d with
    | zero =>
      intro q hq n hn aw ac h1
      obtain ⟨n, rfl⟩ : ∃ n', n = n' + 1 := ⟨n - 1, by omega⟩
      have e0 : q = 192 := by omega
      subst e0
      rw [wX_area_6]
      refine br_t (nI_le (a := 192) (by omega) (by omega)) ⟨E + 1, ?_⟩
      refine xa_35 hE hr hK hk E 0 (by omega) (E + 1) (by omega) (fun _ => 0) aw ac ?_ ?_ ?_
      · intro c hc
        obtain ⟨e1, e2⟩ := h1 c hc
        rw [e1, e2]
        exact ⟨li_0, li_0⟩
      · intro c hc
        exact ⟨by omega, by omega⟩
      · intro j hj i hi
        rw [sm_0]
        rfl
    | succ d ih =>
      intro q hq n hn aw ac h1
      obtain ⟨n, rfl⟩ : ∃ n', n = n' + 1 := ⟨n - 1, by omega⟩
      rw [wX_area_6]
      have hi : vp_in (nI q) 192 := vp_in_nI (by omega) (by omega)
      have v0 : vp_nar .byte 0 = 0 := vn_b (a := 0) (by omega)
      refine br_f (nI_ge (b := 192) (by omega) (by omega)) ⟨hi, nm_e ⟨hi, nm_e (nm_r (nI_1 q) (ih (q + 1) (by omega) n (by omega) _ _ ?_))⟩⟩
      rw [v0, nI_clamp (by omega)]
      intro c hc
      rcases Nat.lt_or_ge c q with t | t
      · rw [pk_un (by omega), pk_un (by omega)]; exact h1 c t
      · have : c = q := by omega
        subst this
        rw [pk_us, pk_us]; exact ⟨rfl, rfl⟩
  exact ⟨193, loop 192 0 (by omega) 193 (by omega) a_winding a_crossings (fun c hc => absurd hc (Nat.not_lt_zero c))⟩
end
end
section
/-! the path: X's edges (closing ones among them) against Y's edges and parts -/
def s4 (f : Int32 → Int32 → Int32 → Int32 → Int) (a b c d : Nat → Int32) (n : Nat) : Int := sm (fun e => f (a e) (b e) (c e) (d e)) n
theorem s4_s (f : Int32 → Int32 → Int32 → Int32 → Int) (a b c d : Nat → Int32) (n : Nat) : s4 f a b c d (n + 1) = s4 f a b c d n + f (a n) (b n) (c n) (d n) := rfl
theorem s4_c {f : Int32 → Int32 → Int32 → Int32 → Int} {a b c d a' b' c' d' : Nat → Int32} {n : Nat} (h : ∀ e, e < n → a e = a' e ∧ b e = b' e ∧ c e = c' e ∧ d e = d' e) : s4 f a b c d n = s4 f a' b' c' d' n := by
  refine sm_c fun e he => ?_
  obtain ⟨h1, h2, h3, h4⟩ := h e he
  rw [h1, h2, h3, h4]
theorem un_lt {f : Nat → Int32} {k j : Nat} {x : Int32} (h : j < k) : upd f k x j = f j := pk_un (by omega)
theorem s4_u {f : Int32 → Int32 → Int32 → Int32 → Int} {a b c d : Nat → Int32} {n : Nat} {x y z w : Int32} : s4 f (upd a n x) (upd b n y) (upd c n z) (upd d n w) (n + 1) = s4 f a b c d n + f x y z w := by
  rw [s4_s, pk_us, pk_us, pk_us, pk_us]
  congr 1
  exact s4_c fun e he => ⟨un_lt he, un_lt he, un_lt he, un_lt he⟩
theorem s4_v {f : Int32 → Int32 → Int32 → Int32 → Int} {a b c d : Nat → Int32} {n : Nat} {x y : Int32} : s4 f (upd a n x) (upd b n y) c d (n + 1) = s4 f a b c d n + f x y (c n) (d n) := by
  rw [s4_s, pk_us, pk_us]
  congr 1
  exact s4_c fun e he => ⟨un_lt he, un_lt he, rfl, rfl⟩
theorem qrg_u {a b c d : Nat → Int32} {n : Nat} {x y z w : Int32} (h : qrg a b c d n) (hx : rg x) (hy : rg y) (hz : rg z) (hw : rg w) : qrg (upd a n x) (upd b n y) (upd c n z) (upd d n w) (n + 1) := by
  intro e he
  rcases Nat.lt_or_ge e n with t | t
  · rw [un_lt t, un_lt t, un_lt t, un_lt t]; exact h e t
  · have : e = n := by omega
    subst this
    rw [pk_us, pk_us, pk_us, pk_us]; exact ⟨hx, hy, hz, hw⟩
theorem qrg_v {a b c d : Nat → Int32} {n : Nat} {x y : Int32} (h : qrg a b c d (n + 1)) (hx : rg x) (hy : rg y) : qrg (upd a n x) (upd b n y) c d (n + 1) := by
  intro e he
  rcases Nat.lt_or_ge e n with t | t
  · rw [un_lt t, un_lt t]; exact h e (by omega)
  · have : e = n := by omega
    subst this
    rw [pk_us, pk_us]; exact ⟨hx, hy, (h e he).2.2⟩
theorem qrg_w {a b c d : Nat → Int32} {n : Nat} {x y z w : Int32} (h : qrg a b c d (n + 1)) (hx : rg x) (hy : rg y) (hz : rg z) (hw : rg w) : qrg (upd a n x) (upd b n y) (upd c n z) (upd d n w) (n + 1) :=
  qrg_u (fun e he => h e (by omega)) hx hy hz hw
/-- E of X's edges, C of Y's, Q parts; br: what X has still to close -/
def pC (E C Q : Nat) (br : (Int32 → Int32 → Int32 → Int32 → Int) → Int) (x1 y1 x2 y2 ex fx fy tx ty dx dy bx by_ : Nat → Int32) : Prop :=
  E ≤ 2 * C ∧ C ≤ 24 ∧ qrg x1 y1 x2 y2 E ∧ qrg fx fy tx ty C ∧ qrg dx dy bx by_ Q ∧
  (∀ f : Int32 → Int32 → Int32 → Int32 → Int, (∀ x y, f x y x y = 0) → s4 f x1 y1 x2 y2 E + br f = s4 f fx fy tx ty C + s4 f dx dy bx by_ Q) ∧
  (∀ g : Int32 → Int32 → Int32 → Int32 → Prop, (∃ e, e < E ∧ ex e = 0 ∧ g (x1 e) (y1 e) (x2 e) (y2 e)) ↔ (∃ e, e < C ∧ g (fx e) (fy e) (tx e) (ty e)))
theorem ex_u {ex x1 y1 x2 y2 : Nat → Int32} {E : Nat} {x y z w : Int32} {g : Int32 → Int32 → Int32 → Int32 → Prop} : (∃ e, e < E + 1 ∧ upd ex E 0 e = 0 ∧ g (upd x1 E x e) (upd y1 E y e) (upd x2 E z e) (upd y2 E w e)) ↔ ((∃ e, e < E ∧ ex e = 0 ∧ g (x1 e) (y1 e) (x2 e) (y2 e)) ∨ g x y z w) := by
  constructor
  · rintro ⟨e, h1, h2, h3⟩
    rcases Nat.lt_or_ge e E with t | t
    · rw [un_lt t] at h2
      rw [un_lt t, un_lt t, un_lt t, un_lt t] at h3
      exact Or.inl ⟨e, t, h2, h3⟩
    · have : e = E := by omega
      subst this
      rw [pk_us, pk_us, pk_us, pk_us] at h3
      exact Or.inr h3
  · rintro (⟨e, h1, h2, h3⟩ | h3)
    · exact ⟨e, by omega, by rw [un_lt h1]; exact h2, by rw [un_lt h1, un_lt h1, un_lt h1, un_lt h1]; exact h3⟩
    · exact ⟨E, by omega, pk_us, by rw [pk_us, pk_us, pk_us, pk_us]; exact h3⟩
theorem ex_w {x1 y1 x2 y2 : Nat → Int32} {E : Nat} {x y z w : Int32} {g : Int32 → Int32 → Int32 → Int32 → Prop} : (∃ e, e < E + 1 ∧ g (upd x1 E x e) (upd y1 E y e) (upd x2 E z e) (upd y2 E w e)) ↔ ((∃ e, e < E ∧ g (x1 e) (y1 e) (x2 e) (y2 e)) ∨ g x y z w) := by
  constructor
  · rintro ⟨e, h1, h3⟩
    rcases Nat.lt_or_ge e E with t | t
    · rw [un_lt t, un_lt t, un_lt t, un_lt t] at h3
      exact Or.inl ⟨e, t, h3⟩
    · have : e = E := by omega
      subst this
      rw [pk_us, pk_us, pk_us, pk_us] at h3
      exact Or.inr h3
  · rintro (⟨e, h1, h3⟩ | h3)
    · exact ⟨e, by omega, by rw [un_lt h1, un_lt h1, un_lt h1, un_lt h1]; exact h3⟩
    · exact ⟨E, by omega, by rw [pk_us, pk_us, pk_us, pk_us]; exact h3⟩
section
variable {E C Q : Nat} {x1 y1 x2 y2 ex fx fy tx ty dx dy bx by_ : Nat → Int32} {br : (Int32 → Int32 → Int32 → Int32 → Int) → Int}
theorem pc_nil (hE : E = 0) (hC : C = 0) (hQ : Q = 0) : pC E C Q (fun _ => 0) x1 y1 x2 y2 ex fx fy tx ty dx dy bx by_ := by
  subst hE hC hQ
  refine ⟨by omega, by omega, fun e he => absurd he (Nat.not_lt_zero e), fun e he => absurd he (Nat.not_lt_zero e), fun e he => absurd he (Nat.not_lt_zero e), fun f _ => rfl, fun g => ?_⟩
  constructor
  · rintro ⟨e, he, _⟩; omega
  · rintro ⟨e, he, _⟩; omega
theorem pc_line {x y nx ny sx sy : Int32} (h : pC E C (Q + 1) (fun f => f nx ny sx sy) x1 y1 x2 y2 ex fx fy tx ty dx dy bx by_) (hC : C < 24) (h1 : nx = dx Q) (h2 : ny = dy Q) (h3 : sx = bx Q) (h4 : sy = by_ Q) (hx : rg x) (hy : rg y) :
    pC (E + 1) (C + 1) (Q + 1) (fun f => f x y sx sy) (upd x1 E nx) (upd y1 E ny) (upd x2 E x) (upd y2 E y) (upd ex E 0) (upd fx C nx) (upd fy C ny) (upd tx C x) (upd ty C y) (upd dx Q x) (upd dy Q y) bx by_ := by
  obtain ⟨a1, a2, a3, a4, a5, a6, a7⟩ := h
  have r := a5 Q (by omega)
  have rx : rg nx := by rw [h1]; exact r.1
  have ry : rg ny := by rw [h2]; exact r.2.1
  refine ⟨by omega, by omega, qrg_u a3 rx ry hx hy, qrg_u a4 rx ry hx hy, qrg_v a5 hx hy, fun f hf => ?_, fun g => ?_⟩
  · have := a6 f hf
    dsimp only at this ⊢
    rw [s4_s] at this
    rw [s4_u, s4_u, s4_v, ← h3, ← h4]
    rw [← h1, ← h2, ← h3, ← h4] at this
    omega
  · rw [ex_u, ex_w, a7 g]
theorem pc_fin0 {nx ny sx sy : Int32} (h : pC E C Q (fun f => f nx ny sx sy) x1 y1 x2 y2 ex fx fy tx ty dx dy bx by_) (h1 : nx = sx) (h2 : ny = sy) : pC E C Q (fun _ => 0) x1 y1 x2 y2 ex fx fy tx ty dx dy bx by_ := by
  obtain ⟨a1, a2, a3, a4, a5, a6, a7⟩ := h
  refine ⟨a1, a2, a3, a4, a5, fun f hf => ?_, a7⟩
  have := a6 f hf
  dsimp only at this ⊢
  rw [h1, h2, hf] at this
  exact this
theorem pc_fin1 {nx ny sx sy : Int32} (h : pC E C Q (fun f => f nx ny sx sy) x1 y1 x2 y2 ex fx fy tx ty dx dy bx by_) (hE : E + 1 ≤ 2 * C) (h1 : rg nx) (h2 : rg ny) (h3 : rg sx) (h4 : rg sy) :
    pC (E + 1) C Q (fun _ => 0) (upd x1 E nx) (upd y1 E ny) (upd x2 E sx) (upd y2 E sy) (upd ex E 1) fx fy tx ty dx dy bx by_ := by
  obtain ⟨a1, a2, a3, a4, a5, a6, a7⟩ := h
  refine ⟨hE, a2, qrg_u a3 h1 h2 h3 h4, a4, a5, fun f hf => ?_, fun g => ?_⟩
  · have := a6 f hf
    dsimp only at this ⊢
    rw [s4_u]
    omega
  · rw [← a7 g]
    constructor
    · rintro ⟨e, k1, k2, k3⟩
      rcases Nat.lt_or_ge e E with t | t
      · rw [un_lt t] at k2
        rw [un_lt t, un_lt t, un_lt t, un_lt t] at k3
        exact ⟨e, t, k2, k3⟩
      · have : e = E := by omega
        subst this
        rw [pk_us] at k2
        exact absurd k2 (by decide)
    · rintro ⟨e, k1, k2, k3⟩
      exact ⟨e, by omega, by rw [un_lt k1]; exact k2, by rw [un_lt k1, un_lt k1, un_lt k1, un_lt k1]; exact k3⟩
theorem pc_mv1 {x y : Int32} (h : pC E C Q (fun _ => 0) x1 y1 x2 y2 ex fx fy tx ty dx dy bx by_) (hx : rg x) (hy : rg y) :
    pC E C (Q + 1) (fun f => f x y x y) x1 y1 x2 y2 ex fx fy tx ty (upd dx Q x) (upd dy Q y) (upd bx Q x) (upd by_ Q y) := by
  obtain ⟨a1, a2, a3, a4, a5, a6, a7⟩ := h
  refine ⟨a1, a2, a3, a4, qrg_u a5 hx hy hx hy, fun f hf => ?_, a7⟩
  have := a6 f hf
  dsimp only at this ⊢
  rw [s4_u, hf]
  omega
theorem pc_mv0 {x y : Int32} (h : pC E C (Q + 1) (fun _ => 0) x1 y1 x2 y2 ex fx fy tx ty dx dy bx by_) (h1 : dx Q = bx Q) (h2 : dy Q = by_ Q) (hx : rg x) (hy : rg y) :
    pC E C (Q + 1) (fun f => f x y x y) x1 y1 x2 y2 ex fx fy tx ty (upd dx Q x) (upd dy Q y) (upd bx Q x) (upd by_ Q y) := by
  obtain ⟨a1, a2, a3, a4, a5, a6, a7⟩ := h
  refine ⟨a1, a2, a3, a4, qrg_w a5 hx hy hx hy, fun f hf => ?_, a7⟩
  have := a6 f hf
  dsimp only at this ⊢
  rw [s4_s, h1, h2, hf] at this
  rw [s4_u, hf]
  omega
end
/-- the path's relation: not begun, or begun with Q parts -/
def rPa (f_edges f_counted f_begun f_startX f_startY f_nowX f_nowY : Int32) (a_x1 a_y1 a_x2 a_y2 a_extra : Nat → Int32) (g_parts g_edges g_partEdges : Int32) (b_beginX b_beginY b_endX b_endY b_fromX b_fromY b_toX b_toY : Nat → Int32) : Prop :=
  (f_begun = 0 ∧ f_edges = 0 ∧ f_counted = 0 ∧ g_parts = 0 ∧ g_edges = 0) ∨
  (f_begun = 1 ∧ ∃ E C Q pe : Nat, f_edges = nI E ∧ f_counted = nI C ∧ g_parts = nI (Q + 1) ∧ g_edges = nI C ∧ g_partEdges = nI pe ∧ Q ≤ C ∧ pe ≤ C ∧
    f_nowX = b_endX Q ∧ f_nowY = b_endY Q ∧ f_startX = b_beginX Q ∧ f_startY = b_beginY Q ∧ (pe = 0 → f_nowX = f_startX ∧ f_nowY = f_startY) ∧ (0 < pe → Q + 1 ≤ C) ∧ (¬ (f_nowX = f_startX ∧ f_nowY = f_startY) → E + 1 ≤ 2 * C) ∧
    pC E C (Q + 1) (fun f => f f_nowX f_nowY f_startX f_startY) a_x1 a_y1 a_x2 a_y2 a_extra b_fromX b_fromY b_toX b_toY b_endX b_endY b_beginX b_beginY)
end
section
/-! X: blank, merge, save, concatenate, current, enter -/
def NW (st : Nat → Int32) (σ K : Nat) (x : Int32) : Prop := (x = -1 ∧ ∀ r, r < K → st r ≠ nI σ) ∨ (∃ ρ, ρ < K ∧ x = nI ρ ∧ st ρ = nI σ ∧ ∀ r, ρ < r → r < K → st r ≠ nI σ)
theorem NW_u {st : Nat → Int32} {σ K : Nat} {x y : Int32} (h1 : NW st σ K x) (h2 : NW st σ K y) : x = y := by
  rcases h1 with ⟨e1, a1⟩ | ⟨p, hp, e1, s1, a1⟩
  · rcases h2 with ⟨e2, _⟩ | ⟨q, hq, e2, s2, _⟩
    · rw [e1, e2]
    · exact absurd s2 (a1 q hq)
  · rcases h2 with ⟨e2, a2⟩ | ⟨q, hq, e2, s2, a2⟩
    · exact absurd s1 (a2 p hp)
    · rcases Nat.lt_trichotomy p q with t | t | t
      · exact absurd s2 (a1 q t hq)
      · rw [e1, e2, t]
      · exact absurd s1 (a2 p t hp)
theorem NW_le {st : Nat → Int32} {σ K J : Nat} {x : Int32} (h : NW st σ J x) (hK : K ≤ J) (hx : ∀ ρ, x = nI ρ → ρ < J → ρ < K) : NW st σ K x := by
  rcases h with ⟨e1, a1⟩ | ⟨p, hp, e1, s1, a1⟩
  · exact Or.inl ⟨e1, fun r hr => a1 r (by omega)⟩
  · exact Or.inr ⟨p, hx p e1 hp, e1, s1, fun r h1 h2 => a1 r h1 (by omega)⟩
theorem NW_c {st st' : Nat → Int32} {σ K : Nat} {x : Int32} (h : NW st σ K x) (hs : ∀ r, r < K → st' r = st r) : NW st' σ K x := by
  rcases h with ⟨e1, a1⟩ | ⟨p, hp, e1, s1, a1⟩
  · exact Or.inl ⟨e1, fun r hr => by rw [hs r hr]; exact a1 r hr⟩
  · exact Or.inr ⟨p, hp, e1, by rw [hs p hp]; exact s1, fun r h1 h2 => by rw [hs r h2]; exact a1 r h1 h2⟩
theorem NW_b {st : Nat → Int32} {σ K : Nat} {x : Int32} (hK : K ≤ 8) (h : NW st σ K x) : -1 ≤ x.toInt ∧ x.toInt ≤ 7 := by
  rcases h with ⟨e1, a1⟩ | ⟨p, hp, e1, s1, a1⟩
  · rw [e1]; decide
  · rw [e1, nI_toInt (by omega)]; omega
/-! mixing -/
def mxv (a : Int) (c o : Int32) : Int32 := if o.toInt < 0 then c else iZ ((a * c.toInt + (16 - a) * o.toInt) / 16)
def mp (a : Int) (l : Nat) (px : Nat → Int32) (m : Nat) : Nat → Int32 := fun q => if 192 * l ≤ q ∧ q < 192 * l + m ∧ 0 ≤ (px (q + 192)).toInt then mxv a (px (q + 192)) (px q) else px q
def mt (l : Nat) (px pt : Nat → Int32) (m : Nat) : Nat → Int32 := fun q => if 192 * l ≤ q ∧ q < 192 * l + m ∧ 0 ≤ (px (q + 192)).toInt then pt (q + 192) else pt q
theorem mp_0 (a : Int) (l : Nat) (px : Nat → Int32) : mp a l px 0 = px := by
  funext q
  exact if_neg (by omega)
theorem mt_0 (l : Nat) (px pt : Nat → Int32) : mt l px pt 0 = pt := by
  funext q
  exact if_neg (by omega)
theorem mp_hi {a : Int} {l m q : Nat} {px : Nat → Int32} (h : 192 * l + m ≤ q) : mp a l px m q = px q := if_neg (by omega)
theorem mt_hi {l m q : Nat} {px pt : Nat → Int32} (h : 192 * l + m ≤ q) : mt l px pt m q = pt q := if_neg (by omega)
theorem mp_n {a : Int} {l m : Nat} {px : Nat → Int32} (h : (px (192 * l + m + 192)).toInt < 0) : mp a l px m = mp a l px (m + 1) := by
  funext q
  unfold mp
  by_cases e : q = 192 * l + m
  · subst e
    rw [if_neg (by omega), if_neg (by omega)]
  · by_cases c1 : 192 * l ≤ q ∧ q < 192 * l + m ∧ 0 ≤ (px (q + 192)).toInt
    · rw [if_pos c1, if_pos (c := 192 * l ≤ q ∧ q < 192 * l + (m + 1) ∧ 0 ≤ (px (q + 192)).toInt) ⟨c1.1, by omega, c1.2.2⟩]
    · rw [if_neg c1, if_neg (c := 192 * l ≤ q ∧ q < 192 * l + (m + 1) ∧ 0 ≤ (px (q + 192)).toInt) (fun z => c1 ⟨z.1, by omega, z.2.2⟩)]
theorem mt_n {l m : Nat} {px pt : Nat → Int32} (h : (px (192 * l + m + 192)).toInt < 0) : mt l px pt m = mt l px pt (m + 1) := by
  funext q
  unfold mt
  by_cases e : q = 192 * l + m
  · subst e
    rw [if_neg (by omega), if_neg (by omega)]
  · by_cases c1 : 192 * l ≤ q ∧ q < 192 * l + m ∧ 0 ≤ (px (q + 192)).toInt
    · rw [if_pos c1, if_pos (c := 192 * l ≤ q ∧ q < 192 * l + (m + 1) ∧ 0 ≤ (px (q + 192)).toInt) ⟨c1.1, by omega, c1.2.2⟩]
    · rw [if_neg c1, if_neg (c := 192 * l ≤ q ∧ q < 192 * l + (m + 1) ∧ 0 ≤ (px (q + 192)).toInt) (fun z => c1 ⟨z.1, by omega, z.2.2⟩)]
theorem mp_y {a : Int} {l m : Nat} {px : Nat → Int32} {v : Int32} (h : 0 ≤ (px (192 * l + m + 192)).toInt) (hv : v = mxv a (px (192 * l + m + 192)) (px (192 * l + m))) : upd (mp a l px m) (192 * l + m) v = mp a l px (m + 1) := by
  funext q
  by_cases e : q = 192 * l + m
  · subst e
    rw [pk_us, hv]
    unfold mp
    rw [if_pos ⟨by omega, by omega, h⟩]
  · rw [pk_un e]
    unfold mp
    by_cases c1 : 192 * l ≤ q ∧ q < 192 * l + m ∧ 0 ≤ (px (q + 192)).toInt
    · rw [if_pos c1, if_pos (c := 192 * l ≤ q ∧ q < 192 * l + (m + 1) ∧ 0 ≤ (px (q + 192)).toInt) ⟨c1.1, by omega, c1.2.2⟩]
    · rw [if_neg c1, if_neg (c := 192 * l ≤ q ∧ q < 192 * l + (m + 1) ∧ 0 ≤ (px (q + 192)).toInt) (fun z => c1 ⟨z.1, by omega, z.2.2⟩)]
theorem mt_y {l m : Nat} {px pt : Nat → Int32} {v : Int32} (h : 0 ≤ (px (192 * l + m + 192)).toInt) (hv : v = pt (192 * l + m + 192)) : upd (mt l px pt m) (192 * l + m) v = mt l px pt (m + 1) := by
  funext q
  by_cases e : q = 192 * l + m
  · subst e
    rw [pk_us, hv]
    unfold mt
    rw [if_pos ⟨by omega, by omega, h⟩]
  · rw [pk_un e]
    unfold mt
    by_cases c1 : 192 * l ≤ q ∧ q < 192 * l + m ∧ 0 ≤ (px (q + 192)).toInt
    · rw [if_pos c1, if_pos (c := 192 * l ≤ q ∧ q < 192 * l + (m + 1) ∧ 0 ≤ (px (q + 192)).toInt) ⟨c1.1, by omega, c1.2.2⟩]
    · rw [if_neg c1, if_neg (c := 192 * l ≤ q ∧ q < 192 * l + (m + 1) ∧ 0 ≤ (px (q + 192)).toInt) (fun z => c1 ⟨z.1, by omega, z.2.2⟩)]
def pxr (px : Nat → Int32) : Prop := ∀ q, -1 ≤ (px q).toInt ∧ (px q).toInt ≤ 255
def ptr (pt : Nat → Int32) : Prop := ∀ q, -1 ≤ (pt q).toInt ∧ (pt q).toInt ≤ 1000
theorem mx_b {a c o : Int} (ha : 0 ≤ a ∧ a ≤ 16) (hc : 0 ≤ c ∧ c ≤ 255) (ho : 0 ≤ o ∧ o ≤ 255) : 0 ≤ a * c + (16 - a) * o ∧ a * c + (16 - a) * o ≤ 4080 := by
  have h1 : 0 ≤ a * c := Int.mul_nonneg ha.1 hc.1
  have h2 : 0 ≤ (16 - a) * o := Int.mul_nonneg (by omega) ho.1
  have h3 : a * c ≤ a * 255 := Int.mul_le_mul_of_nonneg_left hc.2 ha.1
  have h4 : (16 - a) * o ≤ (16 - a) * 255 := Int.mul_le_mul_of_nonneg_left ho.2 (by omega)
  omega
theorem mxv_b {a : Int} {c o : Int32} (ha : 0 ≤ a ∧ a ≤ 16) (hc : 0 ≤ c.toInt ∧ c.toInt ≤ 255) (ho : -1 ≤ o.toInt ∧ o.toInt ≤ 255) : 0 ≤ (mxv a c o).toInt ∧ (mxv a c o).toInt ≤ 255 := by
  unfold mxv
  by_cases z : o.toInt < 0
  · rw [if_pos z]; exact hc
  · rw [if_neg z]
    have := mx_b ha hc ⟨by omega, ho.2⟩
    rw [iz_T (by omega)]
    omega
theorem mp_r {a : Int} {l m : Nat} {px : Nat → Int32} (ha : 0 ≤ a ∧ a ≤ 16) (h : pxr px) : pxr (mp a l px m) := by
  intro q
  unfold mp
  split
  · rename_i z
    have := mxv_b ha ⟨z.2.2, (h (q + 192)).2⟩ (h q)
    omega
  · exact h q
theorem mt_r {l m : Nat} {px pt : Nat → Int32} (h : ptr pt) : ptr (mt l px pt m) := by
  intro q
  unfold mt
  split
  · exact h (q + 192)
  · exact h q
theorem pf_r {H : Nat → Bool} {l m : Nat} {c : Int32} {px : Nat → Int32} (hc : -1 ≤ c.toInt ∧ c.toInt ≤ 255) (h : pxr px) : pxr (pf H l c px m) := by
  intro q
  rcases pf_or (H := H) (l := l) (m := m) (c := c) (a := px) q with e | e <;> rw [e]
  · exact hc
  · exact h q
theorem pf_rt {H : Nat → Bool} {l m : Nat} {c : Int32} {px : Nat → Int32} (hc : -1 ≤ c.toInt ∧ c.toInt ≤ 1000) (h : ptr px) : ptr (pf H l c px m) := by
  intro q
  rcases pf_or (H := H) (l := l) (m := m) (c := c) (a := px) q with e | e <;> rw [e]
  · exact hc
  · exact h q
theorem vs_m1 : vp_nar .short (-1) = -1 := by rw [li_m1]; exact vz_s (by omega)
theorem vs_0 : vp_nar .short 0 = 0 := by rw [li_0]; exact vz_s (by omega)
theorem is_m1 : (-1 : Int32).toInt16.toInt32 = -1 := by decide
theorem is_0 : (0 : Int32).toInt16.toInt32 = 0 := by decide
/-! a level copied -/
def cpf (w s : Nat) (a : Nat → Int32) (m : Nat) : Nat → Int32 := fun q => if w * (s + 1) ≤ q ∧ q < w * (s + 1) + m then a (q - w) else a q
theorem cpf_0 (w s : Nat) (a : Nat → Int32) : cpf w s a 0 = a := by
  funext q
  exact if_neg (by omega)
theorem cpf_s {w s m : Nat} {a : Nat → Int32} {v : Int32} (hv : v = a (w * s + m)) : upd (cpf w s a m) (w * (s + 1) + m) v = cpf w s a (m + 1) := by
  have hw : w * (s + 1) = w * s + w := Nat.mul_succ w s
  funext q
  by_cases e : q = w * (s + 1) + m
  · subst e
    rw [pk_us, hv]
    unfold cpf
    rw [if_pos ⟨by omega, by omega⟩]
    congr 1
    omega
  · rw [pk_un e]
    unfold cpf
    by_cases c1 : w * (s + 1) ≤ q ∧ q < w * (s + 1) + m
    · rw [if_pos c1, if_pos ⟨c1.1, by omega⟩]
    · rw [if_neg c1, if_neg (fun z => c1 ⟨z.1, by omega⟩)]
theorem cpf_lo {w s m q : Nat} {a : Nat → Int32} (h : q < w * (s + 1)) : cpf w s a m q = a q := if_neg (by omega)
theorem cpf_hi {w s m i : Nat} {a : Nat → Int32} (h : i < m) : cpf w s a m (w * (s + 1) + i) = a (w * s + i) := by
  have hw : w * (s + 1) = w * s + w := Nat.mul_succ w s
  unfold cpf
  rw [if_pos ⟨by omega, by omega⟩]
  congr 1
  omega
section
variable {f_drafted f_revisions f_depth f_known f_saved f_edges f_counted f_begun f_startX f_startY f_nowX f_nowY f_low f_high f_pointX f_pointY f_layer f_fault f_faultAt f_units f_used : Int32} {a_draftKind a_draftValue a_streamOf a_sizes a_before a_newest a_opCount a_ops a_opAt a_numbers a_running a_next a_floor a_mix a_matrix a_colour a_width a_clip a_x1 a_y1 a_x2 a_y2 a_extra a_winding a_crossings a_pixels a_painter : Nat → Int32}
theorem xx_blank {l : Nat} {post : SX → Prop} (hl : l < 7) (h : post (f_drafted, f_revisions, f_depth, f_known, f_saved, f_edges, f_counted, f_begun, f_startX, f_startY, f_nowX, f_nowY, f_low, f_high, f_pointX, f_pointY, f_layer, f_fault, f_faultAt, f_units, f_used, a_draftKind, a_draftValue, a_streamOf, a_sizes, a_before, a_newest, a_opCount, a_ops, a_opAt, a_numbers, a_running, a_next, a_floor, a_mix, a_matrix, a_colour, a_width, a_clip, a_x1, a_y1, a_x2, a_y2, a_extra, a_winding, a_crossings, pf (fun _ => true) l (if l = 0 then 0 else -1) a_pixels 192, pf (fun _ => true) l (-1) a_painter 192)) : wpX_blank post (f_drafted, f_revisions, f_depth, f_known, f_saved, f_edges, f_counted, f_begun, f_startX, f_startY, f_nowX, f_nowY, f_low, f_high, f_pointX, f_pointY, f_layer, f_fault, f_faultAt, f_units, f_used, a_draftKind, a_draftValue, a_streamOf, a_sizes, a_before, a_newest, a_opCount, a_ops, a_opAt, a_numbers, a_running, a_next, a_floor, a_mix, a_matrix, a_colour, a_width, a_clip, a_x1, a_y1, a_x2, a_y2, a_extra, a_winding, a_crossings, a_pixels, a_painter) (nI l) := by
  have e0 : (192 : Int32) * nI l = nI (192 * l) := nj_mul 192 l
  have e1 : nI (192 * l) + 192 = nI (192 * l + 192) := nj_a (192 * l) 192
  have loop : ∀ d m, m + d = 192 → ∀ n, d < n → wX_blank_6 post (nI l) f_drafted f_revisions f_depth f_known f_saved f_edges f_counted f_begun f_startX f_startY f_nowX f_nowY f_low f_high f_pointX f_pointY f_layer f_fault f_faultAt f_units f_used n (nI (192 * l + m)) a_draftKind a_draftValue a_streamOf a_sizes a_before a_newest a_opCount a_ops a_opAt a_numbers a_running a_next a_floor a_mix a_matrix a_colour a_width a_clip a_x1 a_y1 a_x2 a_y2 a_extra a_winding a_crossings (pf (fun _ => true) l (if l = 0 then 0 else -1) a_pixels m) (pf (fun _ => true) l (-1) a_painter m) := by
    intro d
    induction d with
    | zero =>
      intro m hm n hn
      obtain ⟨n, rfl⟩ : ∃ n', n = n' + 1 := ⟨n - 1, by omega⟩
      have e : m = 192 := by omega
      subst e
      rw [wX_blank_6, e0, e1]
      exact br_t (nI_le (by omega) (by omega)) h
    | succ d ih =>
      intro m hm n hn
      obtain ⟨n, rfl⟩ : ∃ n', n = n' + 1 := ⟨n - 1, by omega⟩
      have nx := ih (m + 1) (by omega) n (by omega)
      have hin : vp_in (nI (192 * l + m)) 1344 := vp_in_nI (by omega) (by omega)
      have go : ∀ z0 : Int32, z0 = (if l = 0 then 0 else -1) → vp_nar .short z0.toInt16.toInt32 = z0 → wX_blank_33 post (wX_blank_6 post (nI l) f_drafted f_revisions f_depth f_known f_saved f_edges f_counted f_begun f_startX f_startY f_nowX f_nowY f_low f_high f_pointX f_pointY f_layer f_fault f_faultAt f_units f_used n) (nI l) (nI (192 * l + m)) z0 (nI (192 * l + m)) f_drafted f_revisions f_depth f_known f_saved f_edges f_counted f_begun f_startX f_startY f_nowX f_nowY f_low f_high f_pointX f_pointY f_layer f_fault f_faultAt f_units f_used a_draftKind a_draftValue a_streamOf a_sizes a_before a_newest a_opCount a_ops a_opAt a_numbers a_running a_next a_floor a_mix a_matrix a_colour a_width a_clip a_x1 a_y1 a_x2 a_y2 a_extra a_winding a_crossings (pf (fun _ => true) l (if l = 0 then 0 else -1) a_pixels m) (pf (fun _ => true) l (-1) a_painter m) := by
        intro z0 hz hn0
        unfold wX_blank_33
        rw [hn0, nI_clamp (by omega), hz]
        refine ⟨hin, nm_r (pf_t rfl) ⟨hin, nm_r (e' := pf (fun _ => true) l (-1) a_painter (m + 1)) ?_ (nm_r (nI_1 _) nx)⟩⟩
        rw [vs_m1]
        exact pf_t rfl
      rw [wX_blank_6, e0, e1]
      refine br_f (nI_ge (by omega) (by omega)) ?_
      refine pk_eq l 0 (fun z => ?_) (fun z => ?_)
      · exact go 0 (by rw [if_pos z]) (by rw [is_0, vs_0])
      · exact go (-1) (by rw [if_neg z]) (by rw [is_m1, vs_m1])
  unfold wpX_blank
  refine nm_r e0 ⟨193, ?_⟩
  have := loop 192 0 (by omega) 193 (by omega)
  rw [pf_0, pf_0] at this
  exact this
theorem xx_merge {l : Nat} {a : Int} {post : SX → Prop} (hl : l < 6) (ha : 0 ≤ a ∧ a ≤ 16) (hp : pxr a_pixels) (ht : ptr a_painter) (h : post (f_drafted, f_revisions, f_depth, f_known, f_saved, f_edges, f_counted, f_begun, f_startX, f_startY, f_nowX, f_nowY, f_low, f_high, f_pointX, f_pointY, nI l, f_fault, f_faultAt, f_units, f_used, a_draftKind, a_draftValue, a_streamOf, a_sizes, a_before, a_newest, a_opCount, a_ops, a_opAt, a_numbers, a_running, a_next, a_floor, a_mix, a_matrix, a_colour, a_width, a_clip, a_x1, a_y1, a_x2, a_y2, a_extra, a_winding, a_crossings, mp a l a_pixels 192, mt l a_pixels a_painter 192)) : wpX_merge post (f_drafted, f_revisions, f_depth, f_known, f_saved, f_edges, f_counted, f_begun, f_startX, f_startY, f_nowX, f_nowY, f_low, f_high, f_pointX, f_pointY, nI (l + 1), f_fault, f_faultAt, f_units, f_used, a_draftKind, a_draftValue, a_streamOf, a_sizes, a_before, a_newest, a_opCount, a_ops, a_opAt, a_numbers, a_running, a_next, a_floor, a_mix, a_matrix, a_colour, a_width, a_clip, a_x1, a_y1, a_x2, a_y2, a_extra, a_winding, a_crossings, a_pixels, a_painter) (iZ a) := by
  have loop : ∀ d m, m + d = 192 → ∀ n, d < n → wX_merge_25 post (iZ a) (nI (192 * (l + 1))) (nI (192 * l)) f_drafted f_revisions f_depth f_known f_saved f_edges f_counted f_begun f_startX f_startY f_nowX f_nowY f_low f_high f_pointX f_pointY (nI l) f_fault f_faultAt f_units f_used n (nI m) a_draftKind a_draftValue a_streamOf a_sizes a_before a_newest a_opCount a_ops a_opAt a_numbers a_running a_next a_floor a_mix a_matrix a_colour a_width a_clip a_x1 a_y1 a_x2 a_y2 a_extra a_winding a_crossings (mp a l a_pixels m) (mt l a_pixels a_painter m) := by
    intro d
    induction d with
    | zero =>
      intro m hm n hn
      obtain ⟨n, rfl⟩ : ∃ n', n = n' + 1 := ⟨n - 1, by omega⟩
      have e : m = 192 := by omega
      subst e
      rw [wX_merge_25]
      exact br_t (nI_le (a := 192) (by omega) (by omega)) h
    | succ d ih =>
      intro m hm n hn
      obtain ⟨n, rfl⟩ : ∃ n', n = n' + 1 := ⟨n - 1, by omega⟩
      have nx := ih (m + 1) (by omega) n (by omega)
      have hin : vp_in (nI (192 * (l + 1) + m)) 1344 := vp_in_nI (by omega) (by omega)
      have hin2 : vp_in (nI (192 * l + m)) 1344 := vp_in_nI (by omega) (by omega)
      have ex : 192 * (l + 1) + m = 192 * l + m + 192 := by omega
      have rc := hp (192 * l + m + 192)
      have ro := hp (192 * l + m)
      have go : ∀ z0 : Int32, 0 ≤ (a_pixels (192 * l + m + 192)).toInt → z0 = mxv a (a_pixels (192 * l + m + 192)) (a_pixels (192 * l + m)) → wX_merge_95 post (wX_merge_25 post (iZ a) (nI (192 * (l + 1))) (nI (192 * l)) f_drafted f_revisions f_depth f_known f_saved f_edges f_counted f_begun f_startX f_startY f_nowX f_nowY f_low f_high f_pointX f_pointY (nI l) f_fault f_faultAt f_units f_used n) (iZ a) (nI (192 * (l + 1))) (nI (192 * l)) (nI m) z0 (nI (192 * l + m)) f_drafted f_revisions f_depth f_known f_saved f_edges f_counted f_begun f_startX f_startY f_nowX f_nowY f_low f_high f_pointX f_pointY (nI l) f_fault f_faultAt f_units f_used a_draftKind a_draftValue a_streamOf a_sizes a_before a_newest a_opCount a_ops a_opAt a_numbers a_running a_next a_floor a_mix a_matrix a_colour a_width a_clip a_x1 a_y1 a_x2 a_y2 a_extra a_winding a_crossings (mp a l a_pixels m) (mt l a_pixels a_painter m) := by
        intro z0 hc hz
        have hb := mxv_b ha ⟨hc, rc.2⟩ ro
        rw [← hz] at hb
        unfold wX_merge_95
        rw [nI_add, nI_add, nI_clamp (by omega), nI_clamp (by omega), ix_s (by omega), vx_s (by omega), ex, mt_hi (q := 192 * l + m + 192) (by omega)]
        refine ⟨hin2, nm_r (mp_y hc hz) ⟨by rw [← ex]; exact hin, hin2, nm_r (mt_y hc ?_) (nm_r (nI_1 m) nx)⟩⟩
        have := ht (192 * l + m + 192)
        exact vx_s (by omega)
      rw [wX_merge_25]
      dsimp only
      rw [nI_add, nI_add, nI_clamp (by omega), nI_clamp (by omega), mp_hi (q := 192 * (l + 1) + m) (by omega), mp_hi (q := 192 * l + m) (by omega), ex]
      refine br_f (nI_ge (b := 192) (by omega) (by omega)) ⟨by rw [← ex]; exact hin, nm_e ?_⟩
      refine zk_le 0 (a_pixels (192 * l + m + 192)).toInt (fun z => ⟨hin2, nm_e ?_⟩) (fun z => nm_r (nI_1 m) ?_) li_0 (iz_of _) (by omega) (by omega)
      · refine zk_le 0 (a_pixels (192 * l + m)).toInt (fun z2 => ?_) (fun z2 => ?_) li_0 (iz_of _) (by omega) (by omega)
        · have hb := mx_b ha ⟨z, rc.2⟩ ⟨z2, ro.2⟩
          have ev : (iZ a * a_pixels (192 * l + m + 192) + (16 - iZ a) * a_pixels (192 * l + m)) >>> ((4 : Int32) &&& 31) = iZ ((a * (a_pixels (192 * l + m + 192)).toInt + (16 - a) * (a_pixels (192 * l + m)).toInt) / 16) := by
            have e1 : iZ a * a_pixels (192 * l + m + 192) + (16 - iZ a) * a_pixels (192 * l + m) = iZ (a * (a_pixels (192 * l + m + 192)).toInt + (16 - a) * (a_pixels (192 * l + m)).toInt) := by
              rw [← iz_add, ← iz_mul, ← iz_mul, ← iz_sub, ← iz_of, ← iz_of]; rfl
            rw [e1]
            generalize a * (a_pixels (192 * l + m + 192)).toInt + (16 - a) * (a_pixels (192 * l + m)).toInt = N at *
            obtain ⟨k, rfl⟩ : ∃ k : Nat, N = k := ⟨N.toNat, by omega⟩
            rw [← iz_n, pk_shrN (by omega) _ 4 (by decide), iz_n]
            congr 1
          rw [ev]
          refine go _ z ?_
          unfold mxv
          rw [if_neg (by omega)]
        · refine go _ z ?_
          unfold mxv
          rw [if_pos z2]
      · rw [mp_n (by omega), mt_n (by omega)]
        exact nx
  unfold wpX_merge
  refine nm_r (nI_pred l) (nm_r (nj_mul 192 (l + 1)) (nm_r (e' := nI (192 * l)) ?_ ⟨193, ?_⟩))
  · rw [nj_s (192 * (l + 1)) 192 (by omega)]; congr 1
  · have := loop 192 0 (by omega) 193 (by omega)
    rw [mp_0, mt_0] at this
    exact this
theorem xx_save {s pl : Nat} {post : SX → Prop} (hs : s ≤ 6) (hf : fl f_depth a_running a_next a_streamOf a_opAt pl) (hM : mxr s a_matrix) (hC : ∀ j, j < 12 → ∃ v, v < 65536 ∧ a_clip (12 * s + j) = nI v) (hc : 0 ≤ (a_colour s).toInt ∧ (a_colour s).toInt ≤ 255) (hw : 0 ≤ (a_width s).toInt ∧ (a_width s).toInt ≤ 60)
    (h6 : s = 6 → post (f_drafted, f_revisions, f_depth, f_known, nI s, f_edges, f_counted, f_begun, f_startX, f_startY, f_nowX, f_nowY, f_low, f_high, f_pointX, f_pointY, f_layer, 6, nI pl, f_units, f_used, a_draftKind, a_draftValue, a_streamOf, a_sizes, a_before, a_newest, a_opCount, a_ops, a_opAt, a_numbers, a_running, a_next, a_floor, a_mix, a_matrix, a_colour, a_width, a_clip, a_x1, a_y1, a_x2, a_y2, a_extra, a_winding, a_crossings, a_pixels, a_painter)) (h : s < 6 → post (f_drafted, f_revisions, f_depth, f_known, nI (s + 1), f_edges, f_counted, f_begun, f_startX, f_startY, f_nowX, f_nowY, f_low, f_high, f_pointX, f_pointY, f_layer, f_fault, f_faultAt, f_units, f_used, a_draftKind, a_draftValue, a_streamOf, a_sizes, a_before, a_newest, a_opCount, a_ops, a_opAt, a_numbers, a_running, a_next, a_floor, a_mix, cpf 6 s a_matrix 6, upd a_colour (s + 1) (a_colour s), upd a_width (s + 1) (a_width s), cpf 12 s a_clip 12, a_x1, a_y1, a_x2, a_y2, a_extra, a_winding, a_crossings, a_pixels, a_painter)) :
    wpX_save post (f_drafted, f_revisions, f_depth, f_known, nI s, f_edges, f_counted, f_begun, f_startX, f_startY, f_nowX, f_nowY, f_low, f_high, f_pointX, f_pointY, f_layer, f_fault, f_faultAt, f_units, f_used, a_draftKind, a_draftValue, a_streamOf, a_sizes, a_before, a_newest, a_opCount, a_ops, a_opAt, a_numbers, a_running, a_next, a_floor, a_mix, a_matrix, a_colour, a_width, a_clip, a_x1, a_y1, a_x2, a_y2, a_extra, a_winding, a_crossings, a_pixels, a_painter) := by
  unfold wpX_save
  refine pk_eq s 6 (fun z => ?_) (fun z => nm_r (nI_1 s) ⟨7, ?_⟩)
  · exact xx_fail hf (h6 z)
  · have hh := h (by omega)
    have l2 : ∀ d m, m + d = 12 → ∀ n, d < n → wX_save_69 post (nI s) f_drafted f_revisions f_depth f_known (nI (s + 1)) f_edges f_counted f_begun f_startX f_startY f_nowX f_nowY f_low f_high f_pointX f_pointY f_layer f_fault f_faultAt f_units f_used n (nI m) a_draftKind a_draftValue a_streamOf a_sizes a_before a_newest a_opCount a_ops a_opAt a_numbers a_running a_next a_floor a_mix (cpf 6 s a_matrix 6) a_colour a_width (cpf 12 s a_clip m) a_x1 a_y1 a_x2 a_y2 a_extra a_winding a_crossings a_pixels a_painter := by
      intro d
      induction d with
      | zero =>
        intro m hm n hn
        obtain ⟨n, rfl⟩ : ∃ n', n = n' + 1 := ⟨n - 1, by omega⟩
        have e : m = 12 := by omega
        subst e
        rw [wX_save_69]
        dsimp only
        rw [nI_clamp (by omega), nI_clamp (by omega), vx_s (by omega), vx_b (by omega)]
        have i1 : vp_in (nI s) 7 := vp_in_nI (by omega) (by omega)
        have i2 : vp_in (nI (s + 1)) 7 := vp_in_nI (by omega) (by omega)
        exact br_t (nI_le (a := 12) (by omega) (by omega)) ⟨i1, i2, nm_e ⟨i1, i2, nm_e hh⟩⟩
      | succ d ih =>
        intro m hm n hn
        obtain ⟨n, rfl⟩ : ∃ n', n = n' + 1 := ⟨n - 1, by omega⟩
        have nx := ih (m + 1) (by omega) n (by omega)
        obtain ⟨v, v1, v2⟩ := hC m (by omega)
        rw [wX_save_69]
        dsimp only
        rw [nj_ma 12 s m, nj_ma 12 (s + 1) m, nI_clamp (n := 12 * s + m) (by omega), nI_clamp (n := 12 * (s + 1) + m) (by omega), cpf_lo (by omega), v2, vn_c v1]
        exact br_f (nI_ge (b := 12) (by omega) (by omega)) ⟨vp_in_nI (by omega) (by omega), vp_in_nI (by omega) (by omega), nm_r (cpf_s v2.symm) (nm_r (nI_1 m) nx)⟩
    have l1 : ∀ d m, m + d = 6 → ∀ n, d < n → wX_save_30 post (nI s) f_drafted f_revisions f_depth f_known (nI (s + 1)) f_edges f_counted f_begun f_startX f_startY f_nowX f_nowY f_low f_high f_pointX f_pointY f_layer f_fault f_faultAt f_units f_used n (nI m) a_draftKind a_draftValue a_streamOf a_sizes a_before a_newest a_opCount a_ops a_opAt a_numbers a_running a_next a_floor a_mix (cpf 6 s a_matrix m) a_colour a_width a_clip a_x1 a_y1 a_x2 a_y2 a_extra a_winding a_crossings a_pixels a_painter := by
      intro d
      induction d with
      | zero =>
        intro m hm n hn
        obtain ⟨n, rfl⟩ : ∃ n', n = n' + 1 := ⟨n - 1, by omega⟩
        have e : m = 6 := by omega
        subst e
        rw [wX_save_30]
        refine br_t (nI_le (a := 6) (by omega) (by omega)) ⟨13, ?_⟩
        have := l2 12 0 (by omega) 13 (by omega)
        rw [cpf_0] at this
        exact this
      | succ d ih =>
        intro m hm n hn
        obtain ⟨n, rfl⟩ : ∃ n', n = n' + 1 := ⟨n - 1, by omega⟩
        have nx := ih (m + 1) (by omega) n (by omega)
        have hb := (hM (6 * s + m) (by omega)).1
        rw [wX_save_30]
        dsimp only
        rw [nj_ma 6 s m, nj_ma 6 (s + 1) m, nI_clamp (by omega), nI_clamp (by omega), cpf_lo (by omega), vx_s (by omega)]
        exact br_f (nI_ge (b := 6) (by omega) (by omega)) ⟨vp_in_nI (by omega) (by omega), vp_in_nI (by omega) (by omega), nm_r (cpf_s rfl) (nm_r (nI_1 m) nx)⟩
    have := l1 6 0 (by omega) 7 (by omega)
    rw [cpf_0] at this
    exact this
end
end
section
/-! X: concatenate, current, enter -/
def m6 (M : Nat → Int32) (m : Nat) (v0 v1 v2 v3 v4 v5 : Int32) : Nat → Int32 := upd (upd (upd (upd (upd (upd M m v0) (m + 1) v1) (m + 2) v2) (m + 3) v3) (m + 4) v4) (m + 5) v5
theorem vby_0 : vp_nar .byte 0 = 0 := by rw [li_0]; exact vz_b (by omega)
theorem pq_b {p q A B : Int} (hp : -1000 ≤ p ∧ p ≤ 1000) (hq : -1000 ≤ q ∧ q ≤ 1000) (hA : -50 ≤ A ∧ A ≤ 50) (hB : -50 ≤ B ∧ B ≤ 50) : -100000 ≤ p * A + q * B ∧ p * A + q * B ≤ 100000 := by
  have h1 := pb 1000 50 (a := p) (b := A) (by omega) (by omega)
  have h2 := pb 1000 50 (a := q) (b := B) (by omega) (by omega)
  omega
section
variable {f_drafted f_revisions f_depth f_known f_saved f_edges f_counted f_begun f_startX f_startY f_nowX f_nowY f_low f_high f_pointX f_pointY f_layer f_fault f_faultAt f_units f_used : Int32} {a_draftKind a_draftValue a_streamOf a_sizes a_before a_newest a_opCount a_ops a_opAt a_numbers a_running a_next a_floor a_mix a_matrix a_colour a_width a_clip a_x1 a_y1 a_x2 a_y2 a_extra a_winding a_crossings a_pixels a_painter : Nat → Int32}
theorem cc_156 {a k s pl : Nat} {X Y L : Int} {M : Nat → Int32} {x3 x4 x5 x6 : Int32} {post : SX → Prop} {J : Int32 → (Nat → Int32) → (Nat → Int32) → (Nat → Int32) → (Nat → Int32) → (Nat → Int32) → (Nat → Int32) → (Nat → Int32) → (Nat → Int32) → (Nat → Int32) → (Nat → Int32) → (Nat → Int32) → (Nat → Int32) → (Nat → Int32) → (Nat → Int32) → (Nat → Int32) → (Nat → Int32) → (Nat → Int32) → (Nat → Int32) → (Nat → Int32) → (Nat → Int32) → (Nat → Int32) → (Nat → Int32) → (Nat → Int32) → (Nat → Int32) → (Nat → Int32) → (Nat → Int32) → (Nat → Int32) → Prop} (hs : s < 7) (hk : k + 1 < 6) (hX : -200000 ≤ X ∧ X ≤ 200000) (hY : -200000 ≤ Y ∧ Y ≤ 200000) (hL : 0 ≤ L ∧ L ≤ 4000) (hf : fl f_depth a_running a_next a_streamOf a_opAt pl)
    (hok : (-L ≤ X ∧ X ≤ L) → (-L ≤ Y ∧ Y ≤ L) → J (nI (k + 2)) a_draftKind a_draftValue a_streamOf a_sizes a_before a_newest a_opCount a_ops a_opAt a_numbers a_running a_next a_floor a_mix (upd (upd M (6 * s + k) (iZ X)) (6 * s + k + 1) (iZ Y)) a_colour a_width a_clip a_x1 a_y1 a_x2 a_y2 a_extra a_winding a_crossings a_pixels a_painter)
    (hbad : ¬ ((-L ≤ X ∧ X ≤ L) ∧ (-L ≤ Y ∧ Y ≤ L)) → post (f_drafted, f_revisions, f_depth, f_known, nI s, f_edges, f_counted, f_begun, f_startX, f_startY, f_nowX, f_nowY, f_low, f_high, f_pointX, f_pointY, f_layer, 3, nI pl, f_units, f_used, a_draftKind, a_draftValue, a_streamOf, a_sizes, a_before, a_newest, a_opCount, a_ops, a_opAt, a_numbers, a_running, a_next, a_floor, a_mix, M, a_colour, a_width, a_clip, a_x1, a_y1, a_x2, a_y2, a_extra, a_winding, a_crossings, a_pixels, a_painter)) :
    wX_concatenate_156 post J (nI a) (nI (6 * s)) x3 x4 x5 x6 (nI k) (iZ X) (iZ Y) (iZ L) f_drafted f_revisions f_depth f_known (nI s) f_edges f_counted f_begun f_startX f_startY f_nowX f_nowY f_low f_high f_pointX f_pointY f_layer f_fault f_faultAt f_units f_used a_draftKind a_draftValue a_streamOf a_sizes a_before a_newest a_opCount a_ops a_opAt a_numbers a_running a_next a_floor a_mix M a_colour a_width a_clip a_x1 a_y1 a_x2 a_y2 a_extra a_winding a_crossings a_pixels a_painter := by
  have bad : ¬ ((-L ≤ X ∧ X ≤ L) ∧ (-L ≤ Y ∧ Y ≤ L)) → wX_concatenate_188 post f_drafted f_revisions f_depth f_known (nI s) f_edges f_counted f_begun f_startX f_startY f_nowX f_nowY f_low f_high f_pointX f_pointY f_layer f_fault f_faultAt f_units f_used a_draftKind a_draftValue a_streamOf a_sizes a_before a_newest a_opCount a_ops a_opAt a_numbers a_running a_next a_floor a_mix M a_colour a_width a_clip a_x1 a_y1 a_x2 a_y2 a_extra a_winding a_crossings a_pixels a_painter := by
    intro z
    unfold wX_concatenate_188
    exact xx_fail hf (hbad z)
  unfold wX_concatenate_156
  refine zk_lt X (-L) (fun z => bad (by omega)) (fun z1 => ?_) rfl (iz_neg L)
  refine zk_lt L X (fun z => bad (by omega)) (fun z2 => ?_)
  refine zk_lt Y (-L) (fun z => bad (by omega)) (fun z3 => ?_) rfl (iz_neg L)
  refine zk_le Y L (fun z4 => ?_) (fun z => bad (by omega))
  rw [nI_add, nI_1 (6 * s + k), iz_s (by omega), iz_s (by omega), vz_s (by omega), vz_s (by omega), nI_clamp (by omega), nI_clamp (by omega)]
  exact ⟨vp_in_nI (by omega) (by omega), nm_e ⟨vp_in_nI (by omega) (by omega), nm_e (nm_r (nj_a k 2) (hok ⟨by omega, by omega⟩ ⟨by omega, by omega⟩))⟩⟩
theorem cc_step {a k s pl n : Nat} {A B Cc Dd p q m4 m5 : Int} {M : Nat → Int32} {post : SX → Prop} (hs : s < 7) (hk : k = 0 ∨ k = 2 ∨ k = 4) (ha : a + 6 ≤ 320) (hp : a_numbers (a + k) = iZ p) (hq : a_numbers (a + k + 1) = iZ q)
    (bp : -1000 ≤ p ∧ p ≤ 1000) (bq : -1000 ≤ q ∧ q ≤ 1000) (bA : -50 ≤ A ∧ A ≤ 50) (bB : -50 ≤ B ∧ B ≤ 50) (bC : -50 ≤ Cc ∧ Cc ≤ 50) (bD : -50 ≤ Dd ∧ Dd ≤ 50) (b4 : -4000 ≤ m4 ∧ m4 ≤ 4000) (b5 : -4000 ≤ m5 ∧ m5 ≤ 4000)
    (h4 : M (6 * s + 4) = iZ m4) (h5 : M (6 * s + 5) = iZ m5) (hf : fl f_depth a_running a_next a_streamOf a_opAt pl) {X Y L : Int} (eX : X = p * A + q * Cc + (if k = 4 then m4 else 0)) (eY : Y = p * B + q * Dd + (if k = 4 then m5 else 0)) (eL : L = if k = 4 then 4000 else 50)
    (hok : (-L ≤ X ∧ X ≤ L) → (-L ≤ Y ∧ Y ≤ L) → wX_concatenate_48 post (nI a) (nI (6 * s)) (iZ A) (iZ B) (iZ Cc) (iZ Dd) f_drafted f_revisions f_depth f_known (nI s) f_edges f_counted f_begun f_startX f_startY f_nowX f_nowY f_low f_high f_pointX f_pointY f_layer f_fault f_faultAt f_units f_used n (nI (k + 2)) a_draftKind a_draftValue a_streamOf a_sizes a_before a_newest a_opCount a_ops a_opAt a_numbers a_running a_next a_floor a_mix (upd (upd M (6 * s + k) (iZ X)) (6 * s + k + 1) (iZ Y)) a_colour a_width a_clip a_x1 a_y1 a_x2 a_y2 a_extra a_winding a_crossings a_pixels a_painter)
    (hbad : ¬ ((-L ≤ X ∧ X ≤ L) ∧ (-L ≤ Y ∧ Y ≤ L)) → post (f_drafted, f_revisions, f_depth, f_known, nI s, f_edges, f_counted, f_begun, f_startX, f_startY, f_nowX, f_nowY, f_low, f_high, f_pointX, f_pointY, f_layer, 3, nI pl, f_units, f_used, a_draftKind, a_draftValue, a_streamOf, a_sizes, a_before, a_newest, a_opCount, a_ops, a_opAt, a_numbers, a_running, a_next, a_floor, a_mix, M, a_colour, a_width, a_clip, a_x1, a_y1, a_x2, a_y2, a_extra, a_winding, a_crossings, a_pixels, a_painter)) :
    wX_concatenate_48 post (nI a) (nI (6 * s)) (iZ A) (iZ B) (iZ Cc) (iZ Dd) f_drafted f_revisions f_depth f_known (nI s) f_edges f_counted f_begun f_startX f_startY f_nowX f_nowY f_low f_high f_pointX f_pointY f_layer f_fault f_faultAt f_units f_used (n + 1) (nI k) a_draftKind a_draftValue a_streamOf a_sizes a_before a_newest a_opCount a_ops a_opAt a_numbers a_running a_next a_floor a_mix M a_colour a_width a_clip a_x1 a_y1 a_x2 a_y2 a_extra a_winding a_crossings a_pixels a_painter := by
  have B1 := pq_b bp bq bA bC
  have B2 := pq_b bp bq bB bD
  rw [wX_concatenate_48]
  dsimp only
  rw [nI_add, nI_1 (a + k), nI_clamp (n := a + k) (by omega), nI_clamp (n := a + k + 1) (by omega), hp, hq]
  refine br_f (nI_ge (b := 6) (by omega) (by omega)) ⟨vp_in_nI (by omega) (by omega), nm_e ⟨vp_in_nI (by omega) (by omega), nm_e ?_⟩⟩
  rw [iz_mul, iz_mul, iz_add]
  by_cases k4 : k = 4
  · subst k4
    rw [if_pos rfl] at eX eY eL
    refine br_t rfl ⟨?_, ?_⟩
    · rw [nj_a (c := 4) (6 * s) 4]; exact vp_in_nI (by omega) (by omega)
    · unfold wX_concatenate_107
      rw [nj_a (c := 4) (6 * s) 4, nj_a (c := 5) (6 * s) 5, nI_clamp (n := 6 * s + 4) (by omega), nI_clamp (n := 6 * s + 5) (by omega), h4, h5, iz_add, iz_mul, iz_mul, iz_add, ← eX]
      refine nm_e (br_t rfl ⟨vp_in_nI (by omega) (by omega), ?_⟩)
      unfold wX_concatenate_139
      rw [iz_add, ← eY]
      refine nm_e (br_t rfl ?_)
      have e : (4000 : Int32) = iZ L := by rw [eL]; decide
      rw [e]
      exact cc_156 hs (by omega) (by omega) (by omega) (by omega) hf hok hbad
  · rw [if_neg k4] at eX eY eL
    have n4 : ¬ nI k = 4 := by
      rw [show (4 : Int32) = nI 4 from rfl, nI_eq (by omega) (by omega)]; exact k4
    refine br_f n4 ?_
    unfold wX_concatenate_107
    rw [li_0, iz_add, iz_mul, iz_mul, iz_add, ← eX]
    refine nm_e (br_f n4 ?_)
    unfold wX_concatenate_139
    rw [iz_add, ← eY]
    refine nm_e (br_f n4 ?_)
    have e : (50 : Int32) = iZ L := by rw [eL]; decide
    rw [e]
    exact cc_156 hs (by omega) (by omega) (by omega) (by omega) hf hok hbad
theorem xx_concat {a s pl : Nat} {z0 z1 z2 z3 z4 z5 : Int} {post : SX → Prop} (hs : s < 7) (ha : a + 6 ≤ 320) (hM : mxr s a_matrix)
    (e0 : a_numbers a = iZ z0) (e1 : a_numbers (a + 1) = iZ z1) (e2 : a_numbers (a + 2) = iZ z2) (e3 : a_numbers (a + 3) = iZ z3) (e4 : a_numbers (a + 4) = iZ z4) (e5 : a_numbers (a + 5) = iZ z5)
    (b0 : -1000 ≤ z0 ∧ z0 ≤ 1000) (b1 : -1000 ≤ z1 ∧ z1 ≤ 1000) (b2 : -1000 ≤ z2 ∧ z2 ≤ 1000) (b3 : -1000 ≤ z3 ∧ z3 ≤ 1000) (b4 : -1000 ≤ z4 ∧ z4 ≤ 1000) (b5 : -1000 ≤ z5 ∧ z5 ≤ 1000) (hf : fl f_depth a_running a_next a_streamOf a_opAt pl)
    {v0 v1 v2 v3 v4 v5 : Int} (d0 : v0 = z0 * (a_matrix (6 * s)).toInt + z1 * (a_matrix (6 * s + 2)).toInt) (d1 : v1 = z0 * (a_matrix (6 * s + 1)).toInt + z1 * (a_matrix (6 * s + 3)).toInt)
    (d2 : v2 = z2 * (a_matrix (6 * s)).toInt + z3 * (a_matrix (6 * s + 2)).toInt) (d3 : v3 = z2 * (a_matrix (6 * s + 1)).toInt + z3 * (a_matrix (6 * s + 3)).toInt)
    (d4 : v4 = z4 * (a_matrix (6 * s)).toInt + z5 * (a_matrix (6 * s + 2)).toInt + (a_matrix (6 * s + 4)).toInt) (d5 : v5 = z4 * (a_matrix (6 * s + 1)).toInt + z5 * (a_matrix (6 * s + 3)).toInt + (a_matrix (6 * s + 5)).toInt)
    (hok : ((-50 ≤ v0 ∧ v0 ≤ 50) ∧ (-50 ≤ v1 ∧ v1 ≤ 50)) → ((-50 ≤ v2 ∧ v2 ≤ 50) ∧ (-50 ≤ v3 ∧ v3 ≤ 50)) → ((-4000 ≤ v4 ∧ v4 ≤ 4000) ∧ (-4000 ≤ v5 ∧ v5 ≤ 4000)) → post (f_drafted, f_revisions, f_depth, f_known, nI s, f_edges, f_counted, f_begun, f_startX, f_startY, f_nowX, f_nowY, f_low, f_high, f_pointX, f_pointY, f_layer, f_fault, f_faultAt, f_units, f_used, a_draftKind, a_draftValue, a_streamOf, a_sizes, a_before, a_newest, a_opCount, a_ops, a_opAt, a_numbers, a_running, a_next, a_floor, a_mix, m6 a_matrix (6 * s) (iZ v0) (iZ v1) (iZ v2) (iZ v3) (iZ v4) (iZ v5), a_colour, a_width, a_clip, a_x1, a_y1, a_x2, a_y2, a_extra, a_winding, a_crossings, a_pixels, a_painter))
    (hbad : ¬ (((-50 ≤ v0 ∧ v0 ≤ 50) ∧ (-50 ≤ v1 ∧ v1 ≤ 50)) ∧ ((-50 ≤ v2 ∧ v2 ≤ 50) ∧ (-50 ≤ v3 ∧ v3 ≤ 50)) ∧ ((-4000 ≤ v4 ∧ v4 ≤ 4000) ∧ (-4000 ≤ v5 ∧ v5 ≤ 4000))) → ∀ M : Nat → Int32, post (f_drafted, f_revisions, f_depth, f_known, nI s, f_edges, f_counted, f_begun, f_startX, f_startY, f_nowX, f_nowY, f_low, f_high, f_pointX, f_pointY, f_layer, 3, nI pl, f_units, f_used, a_draftKind, a_draftValue, a_streamOf, a_sizes, a_before, a_newest, a_opCount, a_ops, a_opAt, a_numbers, a_running, a_next, a_floor, a_mix, M, a_colour, a_width, a_clip, a_x1, a_y1, a_x2, a_y2, a_extra, a_winding, a_crossings, a_pixels, a_painter)) :
    wpX_concatenate post (f_drafted, f_revisions, f_depth, f_known, nI s, f_edges, f_counted, f_begun, f_startX, f_startY, f_nowX, f_nowY, f_low, f_high, f_pointX, f_pointY, f_layer, f_fault, f_faultAt, f_units, f_used, a_draftKind, a_draftValue, a_streamOf, a_sizes, a_before, a_newest, a_opCount, a_ops, a_opAt, a_numbers, a_running, a_next, a_floor, a_mix, a_matrix, a_colour, a_width, a_clip, a_x1, a_y1, a_x2, a_y2, a_extra, a_winding, a_crossings, a_pixels, a_painter) (nI a) := by
  have A0 := (hM (6 * s) (by omega)).2 (by omega)
  have A1 := (hM (6 * s + 1) (by omega)).2 (by omega)
  have A2 := (hM (6 * s + 2) (by omega)).2 (by omega)
  have A3 := (hM (6 * s + 3) (by omega)).2 (by omega)
  have A4 := (hM (6 * s + 4) (by omega)).1
  have A5 := (hM (6 * s + 5) (by omega)).1
  unfold wpX_concatenate
  dsimp only
  refine nm_r (nj_mul 6 s) ?_
  rw [nj_a (c := 1) (6 * s) 1, nj_a (c := 2) (6 * s) 2, nj_a (c := 3) (6 * s) 3, nI_clamp (n := 6 * s) (by omega), nI_clamp (n := 6 * s + 1) (by omega), nI_clamp (n := 6 * s + 2) (by omega), nI_clamp (n := 6 * s + 3) (by omega)]
  refine ⟨vp_in_nI (by omega) (by omega), nm_r (iz_of _) ⟨vp_in_nI (by omega) (by omega), nm_r (iz_of _) ⟨vp_in_nI (by omega) (by omega), nm_r (iz_of _) ⟨vp_in_nI (by omega) (by omega), nm_r (iz_of _) ⟨4, ?_⟩⟩⟩⟩⟩
  refine cc_step (k := 0) (m4 := (a_matrix (6 * s + 4)).toInt) (m5 := (a_matrix (6 * s + 5)).toInt) hs (Or.inl rfl) ha e0 e1 b0 b1 A0 A1 A2 A3 A4 A5 (iz_of _) (iz_of _) hf (X := v0) (Y := v1) (L := 50) (by rw [d0]; exact (Int.add_zero _).symm) (by rw [d1]; exact (Int.add_zero _).symm) rfl (fun k1 k2 => ?_) (fun z => hbad (by omega) _)
  refine cc_step (k := 2) (m4 := (a_matrix (6 * s + 4)).toInt) (m5 := (a_matrix (6 * s + 5)).toInt) hs (Or.inr (Or.inl rfl)) ha e2 e3 b2 b3 A0 A1 A2 A3 A4 A5 ?_ ?_ hf (X := v2) (Y := v3) (L := 50) (by rw [d2]; exact (Int.add_zero _).symm) (by rw [d3]; exact (Int.add_zero _).symm) rfl (fun k3 k4 => ?_) (fun z => hbad (by omega) _)
  · rw [pk_un (by omega), pk_un (by omega)]; exact iz_of _
  · rw [pk_un (by omega), pk_un (by omega)]; exact iz_of _
  refine cc_step (k := 4) (m4 := (a_matrix (6 * s + 4)).toInt) (m5 := (a_matrix (6 * s + 5)).toInt) hs (Or.inr (Or.inr rfl)) ha e4 e5 b4 b5 A0 A1 A2 A3 A4 A5 ?_ ?_ hf (X := v4) (Y := v5) (L := 4000) d4 d5 rfl (fun k5 k6 => ?_) (fun z => hbad (by omega) _)
  · rw [pk_un (by omega), pk_un (by omega), pk_un (by omega), pk_un (by omega)]; exact iz_of _
  · rw [pk_un (by omega), pk_un (by omega), pk_un (by omega), pk_un (by omega)]; exact iz_of _
  rw [wX_concatenate_48]
  exact br_t (by decide) (hok ⟨k1, k2⟩ ⟨k3, k4⟩ ⟨k5, k6⟩)
theorem xx_current {σ K R : Nat} {st : Nat → Int32} {post : Int32 → Prop} (hK : K ≤ R) (hR : R ≤ 8) (hσ : σ < 6) (hn : NW st σ R (a_newest σ)) (hb : ∀ r, r < R → st r = nI σ → NW st σ r (a_before r)) (h : ∀ x, NW st σ K x → post x) : wpX_current post (f_drafted, f_revisions, f_depth, nI K, f_saved, f_edges, f_counted, f_begun, f_startX, f_startY, f_nowX, f_nowY, f_low, f_high, f_pointX, f_pointY, f_layer, f_fault, f_faultAt, f_units, f_used, a_draftKind, a_draftValue, a_streamOf, a_sizes, a_before, a_newest, a_opCount, a_ops, a_opAt, a_numbers, a_running, a_next, a_floor, a_mix, a_matrix, a_colour, a_width, a_clip, a_x1, a_y1, a_x2, a_y2, a_extra, a_winding, a_crossings, a_pixels, a_painter) (nI σ) := by
  have loop : ∀ n J, J < n → J ≤ R → K ≤ J → ∀ x, NW st σ J x → wX_current_7 post f_drafted f_revisions f_depth (nI K) f_saved f_edges f_counted f_begun f_startX f_startY f_nowX f_nowY f_low f_high f_pointX f_pointY f_layer f_fault f_faultAt f_units f_used a_draftKind a_draftValue a_streamOf a_sizes a_before a_newest a_opCount a_ops a_opAt a_numbers a_running a_next a_floor a_mix a_matrix a_colour a_width a_clip a_x1 a_y1 a_x2 a_y2 a_extra a_winding a_crossings a_pixels a_painter n x := by
    intro n
    induction n with
    | zero => intro J hJ; omega
    | succ n ih =>
      intro J hJ hJR hKJ x hx
      rw [wX_current_7]
      have hx2 := hx
      rcases hx with ⟨e1, a1⟩ | ⟨p, hp, e1, s1, a1⟩
      · refine br_t ?_ (h x (NW_le hx2 hKJ ?_))
        · rw [e1, li_m1, iz_n, iz_lt (by omega) (by omega)]; omega
        · intro ρ e _
          rw [e1, li_m1, iz_n, iz_eq (by omega) (by omega)] at e
          omega
      · subst e1
        rcases Nat.lt_or_ge p K with t | t
        · refine br_t (nI_lt t (by omega)) (h _ (NW_le hx2 hKJ ?_))
          intro ρ e hρ
          have := nj_inj e (by omega) (by omega)
          omega
        · refine br_f (nI_nlt t (by omega)) ⟨vp_in_nI (by omega) (by omega), nm_e ?_⟩
          rw [nI_clamp (by omega)]
          exact ih p (by omega) (by omega) t _ (hb p (by omega) s1)
  unfold wpX_current
  refine ⟨vp_in_nI hσ (by omega), nm_e ⟨R + 1, ?_⟩⟩
  rw [nI_clamp (by omega)]
  exact loop (R + 1) R (by omega) (Nat.le_refl R) hK _ hn
theorem xx_enter {σ K R D s : Nat} {a : Int} {st : Nat → Int32} {post : SX → Prop} (hK : K ≤ R) (hR : R ≤ 8) (hσ : σ < 6) (hD : D < 7) (hs : s < 7) (ha : -1 ≤ a ∧ a ≤ 16) (hn : NW st σ R (a_newest σ)) (hb : ∀ r, r < R → st r = nI σ → NW st σ r (a_before r))
    (h : ∀ x, NW st σ K x → post (f_drafted, f_revisions, nI (D + 1), nI K, nI s, f_edges, f_counted, f_begun, f_startX, f_startY, f_nowX, f_nowY, f_low, f_high, f_pointX, f_pointY, f_layer, f_fault, f_faultAt, f_units, f_used, a_draftKind, a_draftValue, a_streamOf, a_sizes, a_before, a_newest, a_opCount, a_ops, a_opAt, a_numbers, upd a_running D x, upd a_next D 0, upd a_floor D (nI s), upd a_mix D (iZ a), a_matrix, a_colour, a_width, a_clip, a_x1, a_y1, a_x2, a_y2, a_extra, a_winding, a_crossings, a_pixels, a_painter)) : wpX_enter post (f_drafted, f_revisions, nI D, nI K, nI s, f_edges, f_counted, f_begun, f_startX, f_startY, f_nowX, f_nowY, f_low, f_high, f_pointX, f_pointY, f_layer, f_fault, f_faultAt, f_units, f_used, a_draftKind, a_draftValue, a_streamOf, a_sizes, a_before, a_newest, a_opCount, a_ops, a_opAt, a_numbers, a_running, a_next, a_floor, a_mix, a_matrix, a_colour, a_width, a_clip, a_x1, a_y1, a_x2, a_y2, a_extra, a_winding, a_crossings, a_pixels, a_painter) (nI σ) (iZ a) := by
  unfold wpX_enter
  refine xx_current hK hR hσ hn hb ?_
  intro x hx
  have bx := NW_b (by omega) hx
  rw [ix_b (by omega), vx_b (by omega), iz_b (by omega), vz_b (by omega), vby_0, in_b (by omega), vn_b (by omega), nI_clamp (by omega)]
  have hi : vp_in (nI D) 7 := vp_in_nI hD (by omega)
  exact ⟨hi, nm_e ⟨hi, nm_e ⟨hi, nm_e (nm_r (nI_1 D) ⟨hi, nm_e (h x hx)⟩)⟩⟩⟩
end
end
section
/-! Y: newest, clearPage, opening and closing a stream, number, moveTo, edge, keep, transform, draw -/
section
variable {g_revisions g_shown g_level g_layer g_depth g_parts g_edges g_operands g_units g_fault g_where g_partEdges : Int32} {b_stream b_length b_kind b_num b_matrix b_colour b_width b_clip b_paint b_painter b_running b_at b_saves b_below b_mixture b_beginX b_beginY b_endX b_endY b_fromX b_fromY b_toX b_toY b_operand : Nat → Int32}
theorem yy_newest {σ K : Nat} {x : Int32} {post : Int32 → Prop} (hK : K ≤ 8) (hx : NW b_stream σ K x) (h : post x) : wpY_newest post (g_revisions, g_shown, g_level, g_layer, g_depth, g_parts, g_edges, g_operands, g_units, g_fault, g_where, g_partEdges, b_stream, b_length, b_kind, b_num, b_matrix, b_colour, b_width, b_clip, b_paint, b_painter, b_running, b_at, b_saves, b_below, b_mixture, b_beginX, b_beginY, b_endX, b_endY, b_fromX, b_fromY, b_toX, b_toY, b_operand) (nI σ) (nI K) := by
  have loop : ∀ k, k ≤ K → (∀ r, k ≤ r → r < K → b_stream r ≠ nI σ) → ∀ n, k < n → wY_newest_4 post (nI σ) g_revisions g_shown g_level g_layer g_depth g_parts g_edges g_operands g_units g_fault g_where g_partEdges b_stream b_length b_kind b_num b_matrix b_colour b_width b_clip b_paint b_painter b_running b_at b_saves b_below b_mixture b_beginX b_beginY b_endX b_endY b_fromX b_fromY b_toX b_toY b_operand n (iZ ((k : Int) - 1)) := by
    intro k
    induction k with
    | zero =>
      intro _ ha n hn
      obtain ⟨n, rfl⟩ : ∃ n', n = n' + 1 := ⟨n - 1, by omega⟩
      rw [wY_newest_4]
      have e : iZ (((0 : Nat) : Int) - 1) = -1 := by decide
      rw [e]
      refine br_t (by decide) ?_
      rw [NW_u (Or.inl ⟨rfl, fun r hr => ha r (by omega) hr⟩) hx]
      exact h
    | succ k ih =>
      intro hk ha n hn
      obtain ⟨n, rfl⟩ : ∃ n', n = n' + 1 := ⟨n - 1, by omega⟩
      rw [wY_newest_4]
      have e : iZ (((k + 1 : Nat) : Int) - 1) = nI k := by rw [iz_n]; congr 1; omega
      rw [e]
      refine br_f (nI_pos (by omega)) ⟨vp_in_nI (by omega) (by omega), ?_⟩
      rw [nI_clamp (by omega)]
      refine br_c (fun z => ?_) (fun z => nm_r (e' := iZ ((k : Int) - 1)) ?_ (ih (by omega) ?_ n (by omega)))
      · rw [NW_u (Or.inr ⟨k, by omega, rfl, z, fun r h1 h2 => ha r (by omega) h2⟩) hx]
        exact h
      · rw [iz_n, li_m1, iz_add]; rfl
      · intro r h1 h2
        rcases Nat.lt_or_ge k r with t | t
        · exact ha r t h2
        · have : r = k := by omega
          subst this; exact z
  unfold wpY_newest
  refine nm_r (e' := iZ ((K : Int) - 1)) ?_ ⟨K + 1, loop K (Nat.le_refl K) (fun r h1 h2 => by omega) (K + 1) (by omega)⟩
  rw [iz_n, li_1, iz_sub]
theorem yy_clear {post : SY → Prop} (h : post (g_revisions, g_shown, g_level, g_layer, g_depth, g_parts, g_edges, g_operands, g_units, g_fault, g_where, g_partEdges, b_stream, b_length, b_kind, b_num, b_matrix, b_colour, b_width, b_clip, pf (fun _ => true) 0 0 b_paint 192, pf (fun _ => true) 0 (-1) b_painter 192, b_running, b_at, b_saves, b_below, b_mixture, b_beginX, b_beginY, b_endX, b_endY, b_fromX, b_fromY, b_toX, b_toY, b_operand)) : wpY_clearPage post (g_revisions, g_shown, g_level, g_layer, g_depth, g_parts, g_edges, g_operands, g_units, g_fault, g_where, g_partEdges, b_stream, b_length, b_kind, b_num, b_matrix, b_colour, b_width, b_clip, b_paint, b_painter, b_running, b_at, b_saves, b_below, b_mixture, b_beginX, b_beginY, b_endX, b_endY, b_fromX, b_fromY, b_toX, b_toY, b_operand) := by
  have loop : ∀ d m, m + d = 192 → ∀ n, d < n → wY_clearPage_2 post g_revisions g_shown g_level g_layer g_depth g_parts g_edges g_operands g_units g_fault g_where g_partEdges n (nI m) b_stream b_length b_kind b_num b_matrix b_colour b_width b_clip (pf (fun _ => true) 0 0 b_paint m) (pf (fun _ => true) 0 (-1) b_painter m) b_running b_at b_saves b_below b_mixture b_beginX b_beginY b_endX b_endY b_fromX b_fromY b_toX b_toY b_operand := by
    intro d
    induction d with
    | zero =>
      intro m hm n hn
      obtain ⟨n, rfl⟩ : ∃ n', n = n' + 1 := ⟨n - 1, by omega⟩
      have e : m = 192 := by omega
      subst e
      rw [wY_clearPage_2]
      exact br_t (nI_le (a := 192) (by omega) (by omega)) h
    | succ d ih =>
      intro m hm n hn
      obtain ⟨n, rfl⟩ : ∃ n', n = n' + 1 := ⟨n - 1, by omega⟩
      have nx := ih (m + 1) (by omega) n (by omega)
      have hin : vp_in (nI m) 1344 := vp_in_nI (by omega) (by omega)
      have e1 : upd (pf (fun _ => true) 0 0 b_paint m) m 0 = pf (fun _ => true) 0 0 b_paint (m + 1) := by
        have := pf_t (H := fun _ => true) (l := 0) (m := m) (c := 0) (a := b_paint) rfl
        rw [Nat.mul_zero, Nat.zero_add] at this; exact this
      have e2 : upd (pf (fun _ => true) 0 (-1) b_painter m) m (-1) = pf (fun _ => true) 0 (-1) b_painter (m + 1) := by
        have := pf_t (H := fun _ => true) (l := 0) (m := m) (c := -1) (a := b_painter) rfl
        rw [Nat.mul_zero, Nat.zero_add] at this; exact this
      rw [wY_clearPage_2]
      dsimp only
      rw [nI_clamp (by omega)]
      exact br_f (nI_ge (b := 192) (by omega) (by omega)) ⟨hin, nm_r e1 ⟨hin, nm_r e2 (nm_r (nI_1 m) nx)⟩⟩
  unfold wpY_clearPage
  refine ⟨193, ?_⟩
  have := loop 192 0 (by omega) 193 (by omega)
  rw [pf_0, pf_0] at this
  exact this
theorem yy_open {D : Nat} {a b : Int32} {post : SY → Prop} (hD : D < 8) (h : post (g_revisions, g_shown, g_level, g_layer, nI (D + 1), g_parts, g_edges, 0, g_units, g_fault, g_where, g_partEdges, b_stream, b_length, b_kind, b_num, b_matrix, b_colour, b_width, b_clip, b_paint, b_painter, upd b_running D a, upd b_at D 0, upd b_saves D 0, upd b_below D g_level, upd b_mixture D b, b_beginX, b_beginY, b_endX, b_endY, b_fromX, b_fromY, b_toX, b_toY, b_operand)) : wpY_open post (g_revisions, g_shown, g_level, g_layer, nI D, g_parts, g_edges, g_operands, g_units, g_fault, g_where, g_partEdges, b_stream, b_length, b_kind, b_num, b_matrix, b_colour, b_width, b_clip, b_paint, b_painter, b_running, b_at, b_saves, b_below, b_mixture, b_beginX, b_beginY, b_endX, b_endY, b_fromX, b_fromY, b_toX, b_toY, b_operand) a b := by
  have hi : vp_in (nI D) 8 := vp_in_nI hD (by omega)
  unfold wpY_open
  dsimp only
  rw [nI_clamp (by omega)]
  exact ⟨hi, nm_e ⟨hi, nm_e ⟨hi, nm_e ⟨hi, nm_e ⟨hi, nm_e (nm_r (nI_1 D) h)⟩⟩⟩⟩⟩
theorem yy_mixl {l t : Nat} {a : Int} {p0 : Int32} {post : SY → Prop} (hl : l < 6) (ha : 0 ≤ a ∧ a ≤ 16) (hp : pxr b_paint) (h : wY_close_83 post p0 g_revisions g_shown g_level (nI l) g_depth g_parts g_edges g_operands g_units g_fault g_where g_partEdges b_stream b_length b_kind b_num b_matrix b_colour b_width b_clip (mp a l b_paint 192) (mt l b_paint b_painter 192) b_running b_at b_saves b_below b_mixture b_beginX b_beginY b_endX b_endY b_fromX b_fromY b_toX b_toY b_operand) : ∃ n, wY_close_33 post p0 (iZ a) n 0 g_revisions g_shown g_level (nI (l + 1)) g_depth g_parts g_edges g_operands g_units g_fault g_where g_partEdges b_stream b_length b_kind b_num b_matrix b_colour b_width b_clip b_paint b_painter b_running b_at b_saves b_below b_mixture b_beginX b_beginY b_endX b_endY b_fromX b_fromY b_toX b_toY b_operand := by
  have loop : ∀ d m, m + d = 192 → ∀ n, d < n → wY_close_33 post p0 (iZ a) n (nI m) g_revisions g_shown g_level (nI (l + 1)) g_depth g_parts g_edges g_operands g_units g_fault g_where g_partEdges b_stream b_length b_kind b_num b_matrix b_colour b_width b_clip (mp a l b_paint m) (mt l b_paint b_painter m) b_running b_at b_saves b_below b_mixture b_beginX b_beginY b_endX b_endY b_fromX b_fromY b_toX b_toY b_operand := by
    intro d
    induction d with
    | zero =>
      intro m hm n hn
      obtain ⟨n, rfl⟩ : ∃ n', n = n' + 1 := ⟨n - 1, by omega⟩
      have e : m = 192 := by omega
      subst e
      rw [wY_close_33]
      exact br_t (nI_le (a := 192) (by omega) (by omega)) (nm_r (nI_pred l) h)
    | succ d ih =>
      intro m hm n hn
      obtain ⟨n, rfl⟩ : ∃ n', n = n' + 1 := ⟨n - 1, by omega⟩
      have nx := ih (m + 1) (by omega) n (by omega)
      have hin : vp_in (nI (192 * (l + 1) + m)) 1344 := vp_in_nI (by omega) (by omega)
      have hin2 : vp_in (nI (192 * l + m)) 1344 := vp_in_nI (by omega) (by omega)
      have ex : 192 * (l + 1) + m = 192 * l + m + 192 := by omega
      rw [ex] at hin
      have rc := hp (192 * l + m + 192)
      have ro := hp (192 * l + m)
      rw [wY_close_33]
      dsimp only
      rw [nI_pred, nj_ma 192 (l + 1) m, nj_ma 192 l m, ex]
      refine br_f (nI_ge (b := 192) (by omega) (by omega)) ?_
      unfold wpY_mix
      dsimp only
      rw [nI_clamp (by omega), nI_clamp (by omega), mp_hi (q := 192 * l + m + 192) (by omega), mp_hi (q := 192 * l + m) (by omega)]
      have go : ∀ z0 : Int32, 0 ≤ (b_paint (192 * l + m + 192)).toInt → z0 = mxv a (b_paint (192 * l + m + 192)) (b_paint (192 * l + m)) → wY_mix_56 (fun u => match u with | (g_revisions, g_shown, g_level, g_layer, g_depth, g_parts, g_edges, g_operands, g_units, g_fault, g_where, g_partEdges, b_stream, b_length, b_kind, b_num, b_matrix, b_colour, b_width, b_clip, b_paint, b_painter, b_running, b_at, b_saves, b_below, b_mixture, b_beginX, b_beginY, b_endX, b_endY, b_fromX, b_fromY, b_toX, b_toY, b_operand) => ∀ x3_47 : Int32, x3_47 = nI m + 1 → wY_close_33 post p0 (iZ a) n x3_47 g_revisions g_shown g_level g_layer g_depth g_parts g_edges g_operands g_units g_fault g_where g_partEdges b_stream b_length b_kind b_num b_matrix b_colour b_width b_clip b_paint b_painter b_running b_at b_saves b_below b_mixture b_beginX b_beginY b_endX b_endY b_fromX b_fromY b_toX b_toY b_operand) (nI (192 * l + m + 192)) (nI (192 * l + m)) z0 (nI (192 * l + m)) g_revisions g_shown g_level (nI (l + 1)) g_depth g_parts g_edges g_operands g_units g_fault g_where g_partEdges b_stream b_length b_kind b_num b_matrix b_colour b_width b_clip (mp a l b_paint m) (mt l b_paint b_painter m) b_running b_at b_saves b_below b_mixture b_beginX b_beginY b_endX b_endY b_fromX b_fromY b_toX b_toY b_operand := by
        intro z0 hc hz
        unfold wY_mix_56
        rw [nI_clamp (by omega), nI_clamp (by omega), mt_hi (q := 192 * l + m + 192) (by omega)]
        exact ⟨hin2, nm_r (mp_y hc hz) ⟨hin, hin2, nm_r (mt_y hc rfl) (nm_r (nI_1 m) nx)⟩⟩
      refine ⟨hin, ?_⟩
      refine zk_le 0 (b_paint (192 * l + m + 192)).toInt (fun z => ⟨hin2, ?_⟩) (fun z => nm_r (nI_1 m) ?_) li_0 (iz_of _) (by omega) (by omega)
      · refine zk_le 0 (b_paint (192 * l + m)).toInt (fun z2 => ⟨hin, hin2, by decide, ?_⟩) (fun z2 => ⟨hin, ?_⟩) li_0 (iz_of _) (by omega) (by omega)
        · have hb := mx_b ha ⟨z, rc.2⟩ ⟨z2, ro.2⟩
          have ev : (iZ a * b_paint (192 * l + m + 192) + (16 - iZ a) * b_paint (192 * l + m)) / 16 = iZ ((a * (b_paint (192 * l + m + 192)).toInt + (16 - a) * (b_paint (192 * l + m)).toInt) / 16) := by
            have e1 : iZ a * b_paint (192 * l + m + 192) + (16 - iZ a) * b_paint (192 * l + m) = iZ (a * (b_paint (192 * l + m + 192)).toInt + (16 - a) * (b_paint (192 * l + m)).toInt) := by
              rw [← iz_add, ← iz_mul, ← iz_mul, ← iz_sub, ← iz_of, ← iz_of]; rfl
            rw [e1]
            generalize a * (b_paint (192 * l + m + 192)).toInt + (16 - a) * (b_paint (192 * l + m)).toInt = N at *
            rw [li_16, iz_div (by omega) (by omega), Int.tdiv_eq_ediv_of_nonneg hb.1]
          rw [ev]
          refine go _ z ?_
          unfold mxv
          rw [if_neg (by omega)]
        · refine go _ z ?_
          unfold mxv
          rw [if_pos z2]
      · rw [mp_n (by omega), mt_n (by omega)]
        exact nx
  refine ⟨193, ?_⟩
  have := loop 192 0 (by omega) 193 (by omega)
  rw [mp_0, mt_0] at this
  exact this
theorem yy_mapX {s : Nat} {x y : Int} {post : Int32 → Prop} (hs : s < 7) (h : post (iZ (pX b_matrix s x y))) : wpY_mapX post (g_revisions, g_shown, nI s, g_layer, g_depth, g_parts, g_edges, g_operands, g_units, g_fault, g_where, g_partEdges, b_stream, b_length, b_kind, b_num, b_matrix, b_colour, b_width, b_clip, b_paint, b_painter, b_running, b_at, b_saves, b_below, b_mixture, b_beginX, b_beginY, b_endX, b_endY, b_fromX, b_fromY, b_toX, b_toY, b_operand) (iZ x) (iZ y) := by
  unfold wpY_mapX
  refine nm_r (nj_mul 6 s) ?_
  rw [nj_a (c := 2) (6 * s) 2, nj_a (c := 4) (6 * s) 4, nI_clamp (n := 6 * s) (by omega), nI_clamp (n := 6 * s + 2) (by omega), nI_clamp (n := 6 * s + 4) (by omega), pX_z]
  exact ⟨vp_in_nI (by omega) (by omega), vp_in_nI (by omega) (by omega), vp_in_nI (by omega) (by omega), h⟩
theorem yy_mapY {s : Nat} {x y : Int} {post : Int32 → Prop} (hs : s < 7) (h : post (iZ (pY b_matrix s x y))) : wpY_mapY post (g_revisions, g_shown, nI s, g_layer, g_depth, g_parts, g_edges, g_operands, g_units, g_fault, g_where, g_partEdges, b_stream, b_length, b_kind, b_num, b_matrix, b_colour, b_width, b_clip, b_paint, b_painter, b_running, b_at, b_saves, b_below, b_mixture, b_beginX, b_beginY, b_endX, b_endY, b_fromX, b_fromY, b_toX, b_toY, b_operand) (iZ x) (iZ y) := by
  unfold wpY_mapY
  refine nm_r (nj_mul 6 s) ?_
  rw [nj_a (c := 1) (6 * s) 1, nj_a (c := 3) (6 * s) 3, nj_a (c := 5) (6 * s) 5, nI_clamp (n := 6 * s + 1) (by omega), nI_clamp (n := 6 * s + 3) (by omega), nI_clamp (n := 6 * s + 5) (by omega), pY_z]
  exact ⟨vp_in_nI (by omega) (by omega), vp_in_nI (by omega) (by omega), vp_in_nI (by omega) (by omega), h⟩
theorem yy_near {v : Int} {post : Int32 → Prop} (hv : -300000 ≤ v ∧ v ≤ 300000) (h1 : (-4000 ≤ v ∧ v ≤ 4000) → post 1) (h0 : ¬ (-4000 ≤ v ∧ v ≤ 4000) → post 0) : wpY_near post (g_revisions, g_shown, g_level, g_layer, g_depth, g_parts, g_edges, g_operands, g_units, g_fault, g_where, g_partEdges, b_stream, b_length, b_kind, b_num, b_matrix, b_colour, b_width, b_clip, b_paint, b_painter, b_running, b_at, b_saves, b_below, b_mixture, b_beginX, b_beginY, b_endX, b_endY, b_fromX, b_fromY, b_toX, b_toY, b_operand) (iZ v) := by
  unfold wpY_near
  refine zk_lt v (-4000) (fun z => h0 (by omega)) (fun z => ?_) rfl (by decide)
  refine zk_lt 4000 v (fun z => h0 (by omega)) (fun z2 => h1 ⟨by omega, by omega⟩) (by decide)
theorem yy_small {v : Int} {post : Int32 → Prop} (hv : -300000 ≤ v ∧ v ≤ 300000) (h1 : (-50 ≤ v ∧ v ≤ 50) → post 1) (h0 : ¬ (-50 ≤ v ∧ v ≤ 50) → post 0) : wpY_small post (g_revisions, g_shown, g_level, g_layer, g_depth, g_parts, g_edges, g_operands, g_units, g_fault, g_where, g_partEdges, b_stream, b_length, b_kind, b_num, b_matrix, b_colour, b_width, b_clip, b_paint, b_painter, b_running, b_at, b_saves, b_below, b_mixture, b_beginX, b_beginY, b_endX, b_endY, b_fromX, b_fromY, b_toX, b_toY, b_operand) (iZ v) := by
  unfold wpY_small
  refine zk_lt v (-50) (fun z => h0 (by omega)) (fun z => ?_) rfl (by decide)
  refine zk_lt 50 v (fun z => h0 (by omega)) (fun z2 => h1 ⟨by omega, by omega⟩) (by decide)
theorem yy_moveTo {s Q C pe : Nat} {x y : Int} {post : SY → Prop} (hs : s < 7) (hM : mxr s b_matrix) (hx : -2000 ≤ x ∧ x ≤ 2000) (hy : -2000 ≤ y ∧ y ≤ 2000) (hQ : Q < 30) (hC : C ≤ 24) (hpe : pe ≤ 24 ∨ Q = 0) (hg : 0 < Q → g_partEdges = nI pe)
    (h0 : ¬ ((-4000 ≤ pX b_matrix s x y ∧ pX b_matrix s x y ≤ 4000) ∧ (-4000 ≤ pY b_matrix s x y ∧ pY b_matrix s x y ≤ 4000)) → post (g_revisions, g_shown, nI s, g_layer, g_depth, nI Q, nI C, g_operands, g_units, 3, g_where, g_partEdges, b_stream, b_length, b_kind, b_num, b_matrix, b_colour, b_width, b_clip, b_paint, b_painter, b_running, b_at, b_saves, b_below, b_mixture, b_beginX, b_beginY, b_endX, b_endY, b_fromX, b_fromY, b_toX, b_toY, b_operand))
    (h1 : (-4000 ≤ pX b_matrix s x y ∧ pX b_matrix s x y ≤ 4000) → (-4000 ≤ pY b_matrix s x y ∧ pY b_matrix s x y ≤ 4000) → (Q = 0 ∨ (C ≠ 0 ∧ pe ≠ 0)) → post (g_revisions, g_shown, nI s, g_layer, g_depth, nI (Q + 1), nI C, g_operands, g_units, g_fault, g_where, 0, b_stream, b_length, b_kind, b_num, b_matrix, b_colour, b_width, b_clip, b_paint, b_painter, b_running, b_at, b_saves, b_below, b_mixture, upd b_beginX Q (iZ (pX b_matrix s x y)), upd b_beginY Q (iZ (pY b_matrix s x y)), upd b_endX Q (iZ (pX b_matrix s x y)), upd b_endY Q (iZ (pY b_matrix s x y)), b_fromX, b_fromY, b_toX, b_toY, b_operand))
    (h2 : (-4000 ≤ pX b_matrix s x y ∧ pX b_matrix s x y ≤ 4000) → (-4000 ≤ pY b_matrix s x y ∧ pY b_matrix s x y ≤ 4000) → 0 < Q → (C = 0 ∨ pe = 0) → post (g_revisions, g_shown, nI s, g_layer, g_depth, nI Q, nI C, g_operands, g_units, g_fault, g_where, 0, b_stream, b_length, b_kind, b_num, b_matrix, b_colour, b_width, b_clip, b_paint, b_painter, b_running, b_at, b_saves, b_below, b_mixture, upd b_beginX (Q - 1) (iZ (pX b_matrix s x y)), upd b_beginY (Q - 1) (iZ (pY b_matrix s x y)), upd b_endX (Q - 1) (iZ (pX b_matrix s x y)), upd b_endY (Q - 1) (iZ (pY b_matrix s x y)), b_fromX, b_fromY, b_toX, b_toY, b_operand)) :
    wpY_moveTo post (g_revisions, g_shown, nI s, g_layer, g_depth, nI Q, nI C, g_operands, g_units, g_fault, g_where, g_partEdges, b_stream, b_length, b_kind, b_num, b_matrix, b_colour, b_width, b_clip, b_paint, b_painter, b_running, b_at, b_saves, b_below, b_mixture, b_beginX, b_beginY, b_endX, b_endY, b_fromX, b_fromY, b_toX, b_toY, b_operand) (iZ x) (iZ y) := by
  have bx := pX_b hM hx hy
  have by_ := pY_b hM hx hy
  unfold wpY_moveTo
  refine yy_mapX hs (yy_mapY hs (yy_near bx (fun cx => br_f (by decide) (yy_near by_ (fun cy => br_f (by decide) ?_) (fun c => br_t rfl (h0 (by omega))))) (fun c => br_t rfl (h0 (by omega)))))
  have k1 := h1 cx cy
  have k2 := h2 cx cy
  have bare : 0 < Q → (C = 0 ∨ pe = 0) → wY_moveTo_59 post (iZ (pX b_matrix s x y)) (iZ (pY b_matrix s x y)) g_revisions g_shown (nI s) g_layer g_depth (nI Q) (nI C) g_operands g_units g_fault g_where g_partEdges b_stream b_length b_kind b_num b_matrix b_colour b_width b_clip b_paint b_painter b_running b_at b_saves b_below b_mixture b_beginX b_beginY b_endX b_endY b_fromX b_fromY b_toX b_toY b_operand := by
    intro q1 q2
    have hi : vp_in (nI (Q - 1)) 30 := vp_in_nI (by omega) (by omega)
    unfold wY_moveTo_59 wY_moveTo_64
    refine br_f (by decide) ?_
    unfold wY_moveTo_81
    rw [nj_s (c := 1) Q 1 q1, nI_clamp (by omega)]
    exact ⟨hi, nm_e ⟨hi, nm_e ⟨hi, nm_e ⟨hi, nm_e (k2 q1 q2)⟩⟩⟩⟩
  have full : (Q = 0 ∨ (C ≠ 0 ∧ pe ≠ 0)) → wY_moveTo_63 post (iZ (pX b_matrix s x y)) (iZ (pY b_matrix s x y)) g_revisions g_shown (nI s) g_layer g_depth (nI Q) (nI C) g_operands g_units g_fault g_where g_partEdges b_stream b_length b_kind b_num b_matrix b_colour b_width b_clip b_paint b_painter b_running b_at b_saves b_below b_mixture b_beginX b_beginY b_endX b_endY b_fromX b_fromY b_toX b_toY b_operand := by
    intro q1
    have hi : vp_in (nI Q) 30 := vp_in_nI (by omega) (by omega)
    unfold wY_moveTo_63 wY_moveTo_64
    refine br_t rfl (nm_r (nI_1 Q) ?_)
    unfold wY_moveTo_81
    rw [nI_pred, nI_clamp (by omega)]
    exact ⟨hi, nm_e ⟨hi, nm_e ⟨hi, nm_e ⟨hi, nm_e (k1 q1)⟩⟩⟩⟩
  refine pk_le Q 0 (fun z => full (by omega)) (fun z => ?_)
  refine pk_eq C 0 (fun z2 => bare z (Or.inl z2)) (fun z2 => ?_)
  rw [hg z]
  refine pk_eq pe 0 (fun z3 => bare z (Or.inr z3)) (fun z3 => full (Or.inr ⟨z2, z3⟩)) rfl rfl (by omega)
theorem yy_edge {Q C : Nat} {x y : Int32} {post : SY → Prop} (hQ : Q < 30) (hC : C ≤ 24)
    (h0 : Q = 0 → post (g_revisions, g_shown, g_level, g_layer, g_depth, nI Q, nI C, g_operands, g_units, 4, g_where, g_partEdges, b_stream, b_length, b_kind, b_num, b_matrix, b_colour, b_width, b_clip, b_paint, b_painter, b_running, b_at, b_saves, b_below, b_mixture, b_beginX, b_beginY, b_endX, b_endY, b_fromX, b_fromY, b_toX, b_toY, b_operand)) (h1 : 0 < Q → C = 24 → post (g_revisions, g_shown, g_level, g_layer, g_depth, nI Q, nI C, g_operands, g_units, 5, g_where, g_partEdges, b_stream, b_length, b_kind, b_num, b_matrix, b_colour, b_width, b_clip, b_paint, b_painter, b_running, b_at, b_saves, b_below, b_mixture, b_beginX, b_beginY, b_endX, b_endY, b_fromX, b_fromY, b_toX, b_toY, b_operand))
    (h2 : 0 < Q → C < 24 → post (g_revisions, g_shown, g_level, g_layer, g_depth, nI Q, nI (C + 1), g_operands, g_units, g_fault, g_where, g_partEdges + 1, b_stream, b_length, b_kind, b_num, b_matrix, b_colour, b_width, b_clip, b_paint, b_painter, b_running, b_at, b_saves, b_below, b_mixture, b_beginX, b_beginY, upd b_endX (Q - 1) x, upd b_endY (Q - 1) y, upd b_fromX C (b_endX (Q - 1)), upd b_fromY C (b_endY (Q - 1)), upd b_toX C x, upd b_toY C y, b_operand)) :
    wpY_edge post (g_revisions, g_shown, g_level, g_layer, g_depth, nI Q, nI C, g_operands, g_units, g_fault, g_where, g_partEdges, b_stream, b_length, b_kind, b_num, b_matrix, b_colour, b_width, b_clip, b_paint, b_painter, b_running, b_at, b_saves, b_below, b_mixture, b_beginX, b_beginY, b_endX, b_endY, b_fromX, b_fromY, b_toX, b_toY, b_operand) x y := by
  unfold wpY_edge
  refine pk_eq Q 0 (fun z => h0 z) (fun z => ?_)
  refine pk_eq C 24 (fun z2 => h1 (by omega) z2) (fun z2 => ?_)
  have hi : vp_in (nI (Q - 1)) 30 := vp_in_nI (by omega) (by omega)
  have hi2 : vp_in (nI C) 24 := vp_in_nI (by omega) (by omega)
  refine nm_r (nj_s (c := 1) Q 1 (by omega)) ?_
  rw [nI_clamp (by omega), nI_clamp (by omega)]
  exact ⟨hi, hi2, nm_e ⟨hi, hi2, nm_e ⟨hi2, nm_e ⟨hi2, nm_e (nm_r (nI_1 C) (nm_e ⟨hi, nm_e ⟨hi, nm_e (h2 (by omega) (by omega))⟩⟩))⟩⟩⟩⟩
theorem yy_lineTo {s Q C : Nat} {x y : Int} {post : SY → Prop} (hs : s < 7) (hM : mxr s b_matrix) (hx : -2000 ≤ x ∧ x ≤ 2000) (hy : -2000 ≤ y ∧ y ≤ 2000) (hQ : Q < 30) (hC : C ≤ 24)
    (h0 : ¬ ((-4000 ≤ pX b_matrix s x y ∧ pX b_matrix s x y ≤ 4000) ∧ (-4000 ≤ pY b_matrix s x y ∧ pY b_matrix s x y ≤ 4000)) → post (g_revisions, g_shown, nI s, g_layer, g_depth, nI Q, nI C, g_operands, g_units, 3, g_where, g_partEdges, b_stream, b_length, b_kind, b_num, b_matrix, b_colour, b_width, b_clip, b_paint, b_painter, b_running, b_at, b_saves, b_below, b_mixture, b_beginX, b_beginY, b_endX, b_endY, b_fromX, b_fromY, b_toX, b_toY, b_operand))
    (h1 : (-4000 ≤ pX b_matrix s x y ∧ pX b_matrix s x y ≤ 4000) → (-4000 ≤ pY b_matrix s x y ∧ pY b_matrix s x y ≤ 4000) → wpY_edge post (g_revisions, g_shown, nI s, g_layer, g_depth, nI Q, nI C, g_operands, g_units, g_fault, g_where, g_partEdges, b_stream, b_length, b_kind, b_num, b_matrix, b_colour, b_width, b_clip, b_paint, b_painter, b_running, b_at, b_saves, b_below, b_mixture, b_beginX, b_beginY, b_endX, b_endY, b_fromX, b_fromY, b_toX, b_toY, b_operand) (iZ (pX b_matrix s x y)) (iZ (pY b_matrix s x y))) :
    wpY_lineTo post (g_revisions, g_shown, nI s, g_layer, g_depth, nI Q, nI C, g_operands, g_units, g_fault, g_where, g_partEdges, b_stream, b_length, b_kind, b_num, b_matrix, b_colour, b_width, b_clip, b_paint, b_painter, b_running, b_at, b_saves, b_below, b_mixture, b_beginX, b_beginY, b_endX, b_endY, b_fromX, b_fromY, b_toX, b_toY, b_operand) (iZ x) (iZ y) := by
  have bx := pX_b hM hx hy
  have by_ := pY_b hM hx hy
  unfold wpY_lineTo
  refine yy_mapX hs (yy_mapY hs (yy_near bx (fun cx => br_f (by decide) (yy_near by_ (fun cy => br_f (by decide) ?_) (fun c => br_t rfl (h0 (by omega))))) (fun c => br_t rfl (h0 (by omega)))))
  have := h1 cx cy
  unfold wpY_edge at this ⊢
  exact this
end
end
section
/-! Y: keep, save, transform, draw; X: draw -/
theorem vb_01 {x : Int32} (h : x = 0 ∨ x = 1) : vp_nar .boolean x = x := by
  rcases h with h | h <;> rw [h]
  · exact vb_0
  · exact vb_1
section
variable {g_revisions g_shown g_level g_layer g_depth g_parts g_edges g_operands g_units g_fault g_where g_partEdges : Int32} {b_stream b_length b_kind b_num b_matrix b_colour b_width b_clip b_paint b_painter b_running b_at b_saves b_below b_mixture b_beginX b_beginY b_endX b_endY b_fromX b_fromY b_toX b_toY b_operand : Nat → Int32}
theorem yy_keep {s : Nat} {post : SY → Prop} (hs : s < 6) (hC : ∀ p, p < 192 → b_clip (192 * s + p) = 0 ∨ b_clip (192 * s + p) = 1)
    (h : post (g_revisions, g_shown, nI (s + 1), g_layer, g_depth, g_parts, g_edges, g_operands, g_units, g_fault, g_where, g_partEdges, b_stream, b_length, b_kind, b_num, cpf 6 s b_matrix 6, upd b_colour (s + 1) (b_colour s), upd b_width (s + 1) (b_width s), cpf 192 s b_clip 192, b_paint, b_painter, b_running, b_at, b_saves, b_below, b_mixture, b_beginX, b_beginY, b_endX, b_endY, b_fromX, b_fromY, b_toX, b_toY, b_operand)) : wpY_keep post (g_revisions, g_shown, nI s, g_layer, g_depth, g_parts, g_edges, g_operands, g_units, g_fault, g_where, g_partEdges, b_stream, b_length, b_kind, b_num, b_matrix, b_colour, b_width, b_clip, b_paint, b_painter, b_running, b_at, b_saves, b_below, b_mixture, b_beginX, b_beginY, b_endX, b_endY, b_fromX, b_fromY, b_toX, b_toY, b_operand) := by
  have l2 : ∀ d m, m + d = 192 → ∀ n, d < n → wY_keep_87 post g_revisions g_shown (nI s) g_layer g_depth g_parts g_edges g_operands g_units g_fault g_where g_partEdges n (nI m) b_stream b_length b_kind b_num (cpf 6 s b_matrix 6) (upd b_colour (s + 1) (b_colour s)) (upd b_width (s + 1) (b_width s)) (cpf 192 s b_clip m) b_paint b_painter b_running b_at b_saves b_below b_mixture b_beginX b_beginY b_endX b_endY b_fromX b_fromY b_toX b_toY b_operand := by
    intro d
    induction d with
    | zero =>
      intro m hm n hn
      obtain ⟨n, rfl⟩ : ∃ n', n = n' + 1 := ⟨n - 1, by omega⟩
      have e : m = 192 := by omega
      subst e
      rw [wY_keep_87]
      exact br_t (nI_le (a := 192) (by omega) (by omega)) (nm_r (nI_1 s) h)
    | succ d ih =>
      intro m hm n hn
      obtain ⟨n, rfl⟩ : ∃ n', n = n' + 1 := ⟨n - 1, by omega⟩
      have nx := ih (m + 1) (by omega) n (by omega)
      have e1 : (192 : Int32) * nI s + 192 + nI m = nI (192 * (s + 1) + m) := by
        rw [nj_mul 192 s, nj_a (c := 192) (192 * s) 192, nI_add]; rfl
      rw [wY_keep_87]
      dsimp only
      rw [e1, nj_ma 192 s m, nI_clamp (n := 192 * s + m) (by omega), nI_clamp (n := 192 * (s + 1) + m) (by omega), cpf_lo (by omega), vb_01 (hC m (by omega))]
      exact br_f (nI_ge (b := 192) (by omega) (by omega)) ⟨vp_in_nI (by omega) (by omega), vp_in_nI (by omega) (by omega), nm_r (cpf_s rfl) (nm_r (nI_1 m) nx)⟩
  have l1 : ∀ d m, m + d = 6 → ∀ n, d < n → wY_keep_2 post g_revisions g_shown (nI s) g_layer g_depth g_parts g_edges g_operands g_units g_fault g_where g_partEdges n (nI m) b_stream b_length b_kind b_num (cpf 6 s b_matrix m) b_colour b_width b_clip b_paint b_painter b_running b_at b_saves b_below b_mixture b_beginX b_beginY b_endX b_endY b_fromX b_fromY b_toX b_toY b_operand := by
    intro d
    induction d with
    | zero =>
      intro m hm n hn
      obtain ⟨n, rfl⟩ : ∃ n', n = n' + 1 := ⟨n - 1, by omega⟩
      have e : m = 6 := by omega
      subst e
      have i1 : vp_in (nI s) 7 := vp_in_nI (by omega) (by omega)
      have i2 : vp_in (nI (s + 1)) 7 := vp_in_nI (by omega) (by omega)
      rw [wY_keep_2]
      dsimp only
      rw [nI_1 s, nI_clamp (n := s) (by omega), nI_clamp (n := s + 1) (by omega)]
      refine br_t (nI_le (a := 6) (by omega) (by omega)) ⟨i1, i2, nm_e ⟨i1, i2, nm_e ⟨193, ?_⟩⟩⟩
      have := l2 192 0 (by omega) 193 (by omega)
      rw [cpf_0] at this
      exact this
    | succ d ih =>
      intro m hm n hn
      obtain ⟨n, rfl⟩ : ∃ n', n = n' + 1 := ⟨n - 1, by omega⟩
      have nx := ih (m + 1) (by omega) n (by omega)
      have e1 : (6 : Int32) * nI s + 6 + nI m = nI (6 * (s + 1) + m) := by
        rw [nj_mul 6 s, nj_a (c := 6) (6 * s) 6, nI_add]; rfl
      rw [wY_keep_2]
      dsimp only
      rw [e1, nj_ma 6 s m, nI_clamp (n := 6 * s + m) (by omega), nI_clamp (n := 6 * (s + 1) + m) (by omega), cpf_lo (by omega)]
      exact br_f (nI_ge (b := 6) (by omega) (by omega)) ⟨vp_in_nI (by omega) (by omega), vp_in_nI (by omega) (by omega), nm_r (cpf_s rfl) (nm_r (nI_1 m) nx)⟩
  unfold wpY_keep
  refine ⟨7, ?_⟩
  have := l1 6 0 (by omega) 7 (by omega)
  rw [cpf_0] at this
  exact this
theorem yy_save {s D : Nat} {post : SY → Prop} (hs : s ≤ 6) (hD : D < 7) (hC : ∀ p, p < 192 → b_clip (192 * s + p) = 0 ∨ b_clip (192 * s + p) = 1) (h6 : s = 6 → post (g_revisions, g_shown, nI s, g_layer, nI (D + 1), g_parts, g_edges, g_operands, g_units, 6, g_where, g_partEdges, b_stream, b_length, b_kind, b_num, b_matrix, b_colour, b_width, b_clip, b_paint, b_painter, b_running, b_at, b_saves, b_below, b_mixture, b_beginX, b_beginY, b_endX, b_endY, b_fromX, b_fromY, b_toX, b_toY, b_operand))
    (h : s < 6 → post (g_revisions, g_shown, nI (s + 1), g_layer, nI (D + 1), g_parts, g_edges, g_operands, g_units, g_fault, g_where, g_partEdges, b_stream, b_length, b_kind, b_num, cpf 6 s b_matrix 6, upd b_colour (s + 1) (b_colour s), upd b_width (s + 1) (b_width s), cpf 192 s b_clip 192, b_paint, b_painter, b_running, b_at, upd b_saves D (b_saves D + 1), b_below, b_mixture, b_beginX, b_beginY, b_endX, b_endY, b_fromX, b_fromY, b_toX, b_toY, b_operand)) : wpY_save post (g_revisions, g_shown, nI s, g_layer, nI (D + 1), g_parts, g_edges, g_operands, g_units, g_fault, g_where, g_partEdges, b_stream, b_length, b_kind, b_num, b_matrix, b_colour, b_width, b_clip, b_paint, b_painter, b_running, b_at, b_saves, b_below, b_mixture, b_beginX, b_beginY, b_endX, b_endY, b_fromX, b_fromY, b_toX, b_toY, b_operand) := by
  unfold wpY_save
  refine pk_eq s 6 (fun z => h6 z) (fun z => ?_)
  refine yy_keep (by omega) hC ?_
  have hi : vp_in (nI D) 8 := vp_in_nI (by omega) (by omega)
  dsimp only
  rw [nI_pred, nI_clamp (by omega)]
  exact ⟨hi, hi, nm_e (h (by omega))⟩
theorem yy_transform {s : Nat} {z0 z1 z2 z3 z4 z5 : Int} {post : SY → Prop} (hs : s < 7) (hM : mxr s b_matrix)
    (e0 : b_operand 0 = iZ z0) (e1 : b_operand 1 = iZ z1) (e2 : b_operand 2 = iZ z2) (e3 : b_operand 3 = iZ z3) (e4 : b_operand 4 = iZ z4) (e5 : b_operand 5 = iZ z5)
    (b0 : -1000 ≤ z0 ∧ z0 ≤ 1000) (b1 : -1000 ≤ z1 ∧ z1 ≤ 1000) (b2 : -1000 ≤ z2 ∧ z2 ≤ 1000) (b3 : -1000 ≤ z3 ∧ z3 ≤ 1000) (b4 : -1000 ≤ z4 ∧ z4 ≤ 1000) (b5 : -1000 ≤ z5 ∧ z5 ≤ 1000)
    {v0 v1 v2 v3 v4 v5 : Int} (d0 : v0 = z0 * (b_matrix (6 * s)).toInt + z1 * (b_matrix (6 * s + 2)).toInt) (d1 : v1 = z0 * (b_matrix (6 * s + 1)).toInt + z1 * (b_matrix (6 * s + 3)).toInt)
    (d2 : v2 = z2 * (b_matrix (6 * s)).toInt + z3 * (b_matrix (6 * s + 2)).toInt) (d3 : v3 = z2 * (b_matrix (6 * s + 1)).toInt + z3 * (b_matrix (6 * s + 3)).toInt)
    (d4 : v4 = z4 * (b_matrix (6 * s)).toInt + z5 * (b_matrix (6 * s + 2)).toInt + (b_matrix (6 * s + 4)).toInt) (d5 : v5 = z4 * (b_matrix (6 * s + 1)).toInt + z5 * (b_matrix (6 * s + 3)).toInt + (b_matrix (6 * s + 5)).toInt)
    (hok : ((-50 ≤ v0 ∧ v0 ≤ 50) ∧ (-50 ≤ v1 ∧ v1 ≤ 50)) → ((-50 ≤ v2 ∧ v2 ≤ 50) ∧ (-50 ≤ v3 ∧ v3 ≤ 50)) → ((-4000 ≤ v4 ∧ v4 ≤ 4000) ∧ (-4000 ≤ v5 ∧ v5 ≤ 4000)) → post (g_revisions, g_shown, nI s, g_layer, g_depth, g_parts, g_edges, g_operands, g_units, g_fault, g_where, g_partEdges, b_stream, b_length, b_kind, b_num, m6 b_matrix (6 * s) (iZ v0) (iZ v1) (iZ v2) (iZ v3) (iZ v4) (iZ v5), b_colour, b_width, b_clip, b_paint, b_painter, b_running, b_at, b_saves, b_below, b_mixture, b_beginX, b_beginY, b_endX, b_endY, b_fromX, b_fromY, b_toX, b_toY, b_operand))
    (hbad : ¬ (((-50 ≤ v0 ∧ v0 ≤ 50) ∧ (-50 ≤ v1 ∧ v1 ≤ 50)) ∧ ((-50 ≤ v2 ∧ v2 ≤ 50) ∧ (-50 ≤ v3 ∧ v3 ≤ 50)) ∧ ((-4000 ≤ v4 ∧ v4 ≤ 4000) ∧ (-4000 ≤ v5 ∧ v5 ≤ 4000))) → post (g_revisions, g_shown, nI s, g_layer, g_depth, g_parts, g_edges, g_operands, g_units, 3, g_where, g_partEdges, b_stream, b_length, b_kind, b_num, b_matrix, b_colour, b_width, b_clip, b_paint, b_painter, b_running, b_at, b_saves, b_below, b_mixture, b_beginX, b_beginY, b_endX, b_endY, b_fromX, b_fromY, b_toX, b_toY, b_operand)) :
    wpY_transform post (g_revisions, g_shown, nI s, g_layer, g_depth, g_parts, g_edges, g_operands, g_units, g_fault, g_where, g_partEdges, b_stream, b_length, b_kind, b_num, b_matrix, b_colour, b_width, b_clip, b_paint, b_painter, b_running, b_at, b_saves, b_below, b_mixture, b_beginX, b_beginY, b_endX, b_endY, b_fromX, b_fromY, b_toX, b_toY, b_operand) := by
  have A0 := (hM (6 * s) (by omega)).2 (by omega)
  have A1 := (hM (6 * s + 1) (by omega)).2 (by omega)
  have A2 := (hM (6 * s + 2) (by omega)).2 (by omega)
  have A3 := (hM (6 * s + 3) (by omega)).2 (by omega)
  have A4 := (hM (6 * s + 4) (by omega)).1
  have A5 := (hM (6 * s + 5) (by omega)).1
  have B0 := pq_b b0 b1 A0 A2
  have B1 := pq_b b0 b1 A1 A3
  have B2 := pq_b b2 b3 A0 A2
  have B3 := pq_b b2 b3 A1 A3
  have B4 := pq_b b4 b5 A0 A2
  have B5 := pq_b b4 b5 A1 A3
  have f0 : iZ z0 * b_matrix (6 * s) + iZ z1 * b_matrix (6 * s + 2) = iZ v0 := by rw [d0, ← iz_add, ← iz_mul, ← iz_mul, ← iz_of, ← iz_of]
  have f1 : iZ z0 * b_matrix (6 * s + 1) + iZ z1 * b_matrix (6 * s + 3) = iZ v1 := by rw [d1, ← iz_add, ← iz_mul, ← iz_mul, ← iz_of, ← iz_of]
  have f2 : iZ z2 * b_matrix (6 * s) + iZ z3 * b_matrix (6 * s + 2) = iZ v2 := by rw [d2, ← iz_add, ← iz_mul, ← iz_mul, ← iz_of, ← iz_of]
  have f3 : iZ z2 * b_matrix (6 * s + 1) + iZ z3 * b_matrix (6 * s + 3) = iZ v3 := by rw [d3, ← iz_add, ← iz_mul, ← iz_mul, ← iz_of, ← iz_of]
  have f4 : iZ z4 * b_matrix (6 * s) + iZ z5 * b_matrix (6 * s + 2) + b_matrix (6 * s + 4) = iZ v4 := by rw [d4, ← iz_add, ← iz_add, ← iz_mul, ← iz_mul, ← iz_of, ← iz_of, ← iz_of]
  have f5 : iZ z4 * b_matrix (6 * s + 1) + iZ z5 * b_matrix (6 * s + 3) + b_matrix (6 * s + 5) = iZ v5 := by rw [d5, ← iz_add, ← iz_add, ← iz_mul, ← iz_mul, ← iz_of, ← iz_of, ← iz_of]
  have i0 : vp_in (nI (6 * s)) 42 := vp_in_nI (by omega) (by omega)
  have i1 : vp_in (nI (6 * s + 1)) 42 := vp_in_nI (by omega) (by omega)
  have i2 : vp_in (nI (6 * s + 2)) 42 := vp_in_nI (by omega) (by omega)
  have i3 : vp_in (nI (6 * s + 3)) 42 := vp_in_nI (by omega) (by omega)
  have i4 : vp_in (nI (6 * s + 4)) 42 := vp_in_nI (by omega) (by omega)
  have i5 : vp_in (nI (6 * s + 5)) 42 := vp_in_nI (by omega) (by omega)
  unfold wpY_transform
  refine nm_r (nj_mul 6 s) ?_
  rw [nj_a (c := 1) (6 * s) 1, nj_a (c := 2) (6 * s) 2, nj_a (c := 3) (6 * s) 3, nj_a (c := 4) (6 * s) 4, nj_a (c := 5) (6 * s) 5, nI_clamp (n := 6 * s) (by omega), nI_clamp (n := 6 * s + 1) (by omega), nI_clamp (n := 6 * s + 2) (by omega), nI_clamp (n := 6 * s + 3) (by omega), nI_clamp (n := 6 * s + 4) (by omega), nI_clamp (n := 6 * s + 5) (by omega)]
  refine ⟨i0, nm_e ⟨i1, nm_e ⟨i2, nm_e ⟨i3, nm_e (nm_r e0 (nm_r e1 (nm_r e2 (nm_r e3 (nm_r e4 (nm_r e5 (nm_r f0 (nm_r f1 (nm_r f2 (nm_r f3 ⟨i4, nm_r f4 ⟨i5, nm_r f5 ?_⟩⟩))))))))))⟩⟩⟩⟩
  refine yy_small (by omega) (fun c0 => br_f (by decide) ?_) (fun c => br_t rfl (hbad (by omega)))
  refine yy_small (by omega) (fun c1 => br_f (by decide) ?_) (fun c => br_t rfl (hbad (by omega)))
  refine yy_small (by omega) (fun c2 => br_f (by decide) ?_) (fun c => br_t rfl (hbad (by omega)))
  refine yy_small (by omega) (fun c3 => br_f (by decide) ?_) (fun c => br_t rfl (hbad (by omega)))
  refine yy_near (by omega) (fun c4 => br_f (by decide) ?_) (fun c => br_t rfl (hbad (by omega)))
  refine yy_near (by omega) (fun c5 => br_f (by decide) ?_) (fun c => br_t rfl (hbad (by omega)))
  exact ⟨i0, nm_e ⟨i1, nm_e ⟨i2, nm_e ⟨i3, nm_e ⟨i4, nm_e ⟨i5, nm_e (hok ⟨c0, c1⟩ ⟨c2, c3⟩ ⟨c4, c5⟩)⟩⟩⟩⟩⟩⟩
theorem yy_d103 {σ l D : Nat} {x2 : Int32} {post : SY → Prop} (hl : l < 7) (hD : D < 8)
    (h : post (g_revisions, g_shown, g_level, nI l, nI (D + 1), g_parts, g_edges, 0, g_units, g_fault, g_where, g_partEdges, b_stream, b_length, b_kind, b_num, b_matrix, b_colour, b_width, b_clip, pf (fun _ => true) l (-1) b_paint 192, pf (fun _ => true) l (-1) b_painter 192, upd b_running D (nI σ), upd b_at D 0, upd b_saves D 0, upd b_below D g_level, upd b_mixture D x2, b_beginX, b_beginY, b_endX, b_endY, b_fromX, b_fromY, b_toX, b_toY, b_operand)) :
    ∃ n, wY_draw_103 post (nI σ) x2 g_revisions g_shown g_level (nI l) (nI D) g_parts g_edges g_operands g_units g_fault g_where g_partEdges n 0 b_stream b_length b_kind b_num b_matrix b_colour b_width b_clip b_paint b_painter b_running b_at b_saves b_below b_mixture b_beginX b_beginY b_endX b_endY b_fromX b_fromY b_toX b_toY b_operand := by
  have loop : ∀ d m, m + d = 192 → ∀ n, d < n → wY_draw_103 post (nI σ) x2 g_revisions g_shown g_level (nI l) (nI D) g_parts g_edges g_operands g_units g_fault g_where g_partEdges n (nI m) b_stream b_length b_kind b_num b_matrix b_colour b_width b_clip (pf (fun _ => true) l (-1) b_paint m) (pf (fun _ => true) l (-1) b_painter m) b_running b_at b_saves b_below b_mixture b_beginX b_beginY b_endX b_endY b_fromX b_fromY b_toX b_toY b_operand := by
    intro d
    induction d with
    | zero =>
      intro m hm n hn
      obtain ⟨n, rfl⟩ : ∃ n', n = n' + 1 := ⟨n - 1, by omega⟩
      have e : m = 192 := by omega
      subst e
      rw [wY_draw_103]
      refine br_t (nI_le (a := 192) (by omega) (by omega)) ?_
      unfold wY_draw_151
      exact yy_open hD h
    | succ d ih =>
      intro m hm n hn
      obtain ⟨n, rfl⟩ : ∃ n', n = n' + 1 := ⟨n - 1, by omega⟩
      have nx := ih (m + 1) (by omega) n (by omega)
      have hin : vp_in (nI (192 * l + m)) 1344 := vp_in_nI (by omega) (by omega)
      rw [wY_draw_103]
      dsimp only
      rw [nj_ma 192 l m, nI_clamp (n := 192 * l + m) (by omega)]
      exact br_f (nI_ge (b := 192) (by omega) (by omega)) ⟨hin, nm_r (pf_t rfl) ⟨hin, nm_r (pf_t rfl) (nm_r (nI_1 m) nx)⟩⟩
  refine ⟨193, ?_⟩
  have := loop 192 0 (by omega) 193 (by omega)
  rw [pf_0, pf_0] at this
  exact this
theorem yy_draw {σ D s l : Nat} {a : Int} {post : SY → Prop} (hσ : σ < 6) (hD : D < 7) (hs : s ≤ 6) (hl : s < 6 → l < 6) (ha : -1 ≤ a ∧ a ≤ 16) (hC : ∀ p, p < 192 → b_clip (192 * s + p) = 0 ∨ b_clip (192 * s + p) = 1)
    (h6 : (s = 6 ∨ ∃ d, d < D ∧ b_running d = nI σ) → post (g_revisions, g_shown, nI s, nI l, nI D, g_parts, g_edges, g_operands, g_units, 6, g_where, g_partEdges, b_stream, b_length, b_kind, b_num, b_matrix, b_colour, b_width, b_clip, b_paint, b_painter, b_running, b_at, b_saves, b_below, b_mixture, b_beginX, b_beginY, b_endX, b_endY, b_fromX, b_fromY, b_toX, b_toY, b_operand))
    (h1 : ¬ (s = 6 ∨ ∃ d, d < D ∧ b_running d = nI σ) → a < 0 → post (g_revisions, g_shown, nI (s + 1), nI l, nI (D + 1), 0, 0, 0, g_units, g_fault, g_where, g_partEdges, b_stream, b_length, b_kind, b_num, cpf 6 s b_matrix 6, upd b_colour (s + 1) (b_colour s), upd b_width (s + 1) (b_width s), cpf 192 s b_clip 192, b_paint, b_painter, upd b_running D (nI σ), upd b_at D 0, upd b_saves D 0, upd b_below D (nI (s + 1)), upd b_mixture D (iZ a), b_beginX, b_beginY, b_endX, b_endY, b_fromX, b_fromY, b_toX, b_toY, b_operand))
    (h2 : ¬ (s = 6 ∨ ∃ d, d < D ∧ b_running d = nI σ) → 0 ≤ a → post (g_revisions, g_shown, nI (s + 1), nI (l + 1), nI (D + 1), 0, 0, 0, g_units, g_fault, g_where, g_partEdges, b_stream, b_length, b_kind, b_num, cpf 6 s b_matrix 6, upd b_colour (s + 1) (b_colour s), upd b_width (s + 1) (b_width s), cpf 192 s b_clip 192, pf (fun _ => true) (l + 1) (-1) b_paint 192, pf (fun _ => true) (l + 1) (-1) b_painter 192, upd b_running D (nI σ), upd b_at D 0, upd b_saves D 0, upd b_below D (nI (s + 1)), upd b_mixture D (iZ a), b_beginX, b_beginY, b_endX, b_endY, b_fromX, b_fromY, b_toX, b_toY, b_operand)) :
    wpY_draw post (g_revisions, g_shown, nI s, nI l, nI D, g_parts, g_edges, g_operands, g_units, g_fault, g_where, g_partEdges, b_stream, b_length, b_kind, b_num, b_matrix, b_colour, b_width, b_clip, b_paint, b_painter, b_running, b_at, b_saves, b_below, b_mixture, b_beginX, b_beginY, b_endX, b_endY, b_fromX, b_fromY, b_toX, b_toY, b_operand) (nI σ) (iZ a) := by
  have loop : ∀ d k, k + d = D → ∀ n, d < n → ∀ f : Int32, ((f = 0 ∧ ¬ s = 6 ∧ ∀ e, e < k → b_running e ≠ nI σ) ∨ (f = 1 ∧ (s = 6 ∨ ∃ d, d < D ∧ b_running d = nI σ))) → wY_draw_33 post (nI σ) (iZ a) g_revisions g_shown (nI s) (nI l) (nI D) g_parts g_edges g_operands g_units g_fault g_where g_partEdges b_stream b_length b_kind b_num b_matrix b_colour b_width b_clip b_paint b_painter b_running b_at b_saves b_below b_mixture b_beginX b_beginY b_endX b_endY b_fromX b_fromY b_toX b_toY b_operand n f (nI k) := by
    intro d
    induction d with
    | zero =>
      intro k hk n hn f hf
      obtain ⟨n, rfl⟩ : ∃ n', n = n' + 1 := ⟨n - 1, by omega⟩
      have e : k = D := by omega
      subst e
      rw [wY_draw_33]
      refine br_t (nI_le (by omega) (by omega)) ?_
      rcases hf with ⟨rfl, z1, z2⟩ | ⟨rfl, z⟩
      · have nb : ¬ (s = 6 ∨ ∃ d, d < k ∧ b_running d = nI σ) := by
          rintro (q | ⟨d, q1, q2⟩)
          · exact z1 q
          · exact z2 d q1 q2
        have hl := hl (by omega)
        refine br_t rfl (yy_keep (by omega) hC ?_)
        refine zk_lt a 0 (fun z => ?_) (fun z => nm_r (nI_1 l) ?_) rfl li_0
        · unfold wY_draw_151
          exact yy_open (by omega) (h1 nb z)
        · exact yy_d103 (by omega) (by omega) (h2 nb z)
      · exact br_f (by decide) (h6 z)
    | succ d ih =>
      intro k hk n hn f hf
      obtain ⟨n, rfl⟩ : ∃ n', n = n' + 1 := ⟨n - 1, by omega⟩
      have nx := ih (k + 1) (by omega) n (by omega)
      rw [wY_draw_33]
      dsimp only
      rw [nI_clamp (by omega)]
      refine br_f (nI_ge (by omega) (by omega)) ⟨vp_in_nI (by omega) (by omega), br_c (fun z => nm_r (nI_1 k) (nx 1 (Or.inr ⟨rfl, Or.inr ⟨k, by omega, z⟩⟩))) (fun z => nm_r (nI_1 k) (nx f ?_))⟩
      rcases hf with ⟨e, z1, z2⟩ | ⟨e, z1⟩
      · refine Or.inl ⟨e, z1, fun e he => ?_⟩
        rcases Nat.lt_or_ge e k with t | t
        · exact z2 e t
        · have : e = k := by omega
          subst this; exact z
      · exact Or.inr ⟨e, z1⟩
  unfold wpY_draw
  refine br_f (nI_pos (by omega)) (br_t (nI_le (b := 5) (by omega) (by omega)) ?_)
  refine pk_eq s 6 (fun z => ⟨D + 1, loop D 0 (by omega) (D + 1) (by omega) 1 (Or.inr ⟨rfl, Or.inl z⟩)⟩) (fun z => ⟨D + 1, loop D 0 (by omega) (D + 1) (by omega) 0 (Or.inl ⟨rfl, z, fun e he => absurd he (Nat.not_lt_zero e)⟩)⟩)
theorem yy_draw0 {x : Int} {x2 : Int32} {post : SY → Prop} (hx : -1000 ≤ x ∧ x ≤ 1000) (h0 : x < 0 ∨ 5 < x) (h : post (g_revisions, g_shown, g_level, g_layer, g_depth, g_parts, g_edges, g_operands, g_units, 3, g_where, g_partEdges, b_stream, b_length, b_kind, b_num, b_matrix, b_colour, b_width, b_clip, b_paint, b_painter, b_running, b_at, b_saves, b_below, b_mixture, b_beginX, b_beginY, b_endX, b_endY, b_fromX, b_fromY, b_toX, b_toY, b_operand)) : wpY_draw post (g_revisions, g_shown, g_level, g_layer, g_depth, g_parts, g_edges, g_operands, g_units, g_fault, g_where, g_partEdges, b_stream, b_length, b_kind, b_num, b_matrix, b_colour, b_width, b_clip, b_paint, b_painter, b_running, b_at, b_saves, b_below, b_mixture, b_beginX, b_beginY, b_endX, b_endY, b_fromX, b_fromY, b_toX, b_toY, b_operand) (iZ x) x2 := by
  unfold wpY_draw
  refine zk_lt x 0 (fun _ => h) (fun z => ?_) rfl li_0
  refine br_f ?_ h
  rw [show (5 : Int32) = iZ 5 by decide, iz_le (by omega) (by omega)]
  omega
end
section
variable {f_drafted f_revisions f_depth f_known f_saved f_edges f_counted f_begun f_startX f_startY f_nowX f_nowY f_low f_high f_pointX f_pointY f_layer f_fault f_faultAt f_units f_used : Int32} {a_draftKind a_draftValue a_streamOf a_sizes a_before a_newest a_opCount a_ops a_opAt a_numbers a_running a_next a_floor a_mix a_matrix a_colour a_width a_clip a_x1 a_y1 a_x2 a_y2 a_extra a_winding a_crossings a_pixels a_painter : Nat → Int32}
theorem xx_draw {σ D K R s l pl : Nat} {a : Int} {st : Nat → Int32} {post : SX → Prop} (hK : K ≤ R) (hR : R ≤ 8) (hσ : σ < 6) (hD : D < 7) (hDs : D ≤ s + 1) (hs : s ≤ 6) (hl : s < 6 → l < 6) (ha : -1 ≤ a ∧ a ≤ 16) (hnw : NW st σ R (a_newest σ)) (hb : ∀ r, r < R → st r = nI σ → NW st σ r (a_before r))
    (hf : fl (nI D) a_running a_next a_streamOf a_opAt pl) (hM : mxr s a_matrix) (hC : ∀ j, j < 12 → ∃ v, v < 65536 ∧ a_clip (12 * s + j) = nI v) (hc : 0 ≤ (a_colour s).toInt ∧ (a_colour s).toInt ≤ 255) (hw : 0 ≤ (a_width s).toInt ∧ (a_width s).toInt ≤ 60)
    {rs : Nat → Int32} (hr : ∀ d, d < D → ∃ r, r < 8 ∧ a_running d = nI r ∧ a_streamOf r = rs d)
    (h6 : (s = 6 ∨ ∃ d, d < D ∧ rs d = nI σ) → post (f_drafted, f_revisions, nI D, nI K, nI s, f_edges, f_counted, f_begun, f_startX, f_startY, f_nowX, f_nowY, f_low, f_high, f_pointX, f_pointY, nI l, 6, nI pl, f_units, f_used, a_draftKind, a_draftValue, a_streamOf, a_sizes, a_before, a_newest, a_opCount, a_ops, a_opAt, a_numbers, a_running, a_next, a_floor, a_mix, a_matrix, a_colour, a_width, a_clip, a_x1, a_y1, a_x2, a_y2, a_extra, a_winding, a_crossings, a_pixels, a_painter))
    (h1 : ¬ (s = 6 ∨ ∃ d, d < D ∧ rs d = nI σ) → a < 0 → ∀ x, NW st σ K x → post (f_drafted, f_revisions, nI (D + 1), nI K, nI (s + 1), 0, 0, 0, f_startX, f_startY, f_nowX, f_nowY, f_low, f_high, f_pointX, f_pointY, nI l, 0, f_faultAt, f_units, f_used, a_draftKind, a_draftValue, a_streamOf, a_sizes, a_before, a_newest, a_opCount, a_ops, a_opAt, a_numbers, upd a_running D x, upd a_next D 0, upd a_floor D (nI (s + 1)), upd a_mix D (iZ a), cpf 6 s a_matrix 6, upd a_colour (s + 1) (a_colour s), upd a_width (s + 1) (a_width s), cpf 12 s a_clip 12, a_x1, a_y1, a_x2, a_y2, a_extra, a_winding, a_crossings, a_pixels, a_painter))
    (h2 : ¬ (s = 6 ∨ ∃ d, d < D ∧ rs d = nI σ) → 0 ≤ a → ∀ x, NW st σ K x → post (f_drafted, f_revisions, nI (D + 1), nI K, nI (s + 1), 0, 0, 0, f_startX, f_startY, f_nowX, f_nowY, f_low, f_high, f_pointX, f_pointY, nI (l + 1), 0, f_faultAt, f_units, f_used, a_draftKind, a_draftValue, a_streamOf, a_sizes, a_before, a_newest, a_opCount, a_ops, a_opAt, a_numbers, upd a_running D x, upd a_next D 0, upd a_floor D (nI (s + 1)), upd a_mix D (iZ a), cpf 6 s a_matrix 6, upd a_colour (s + 1) (a_colour s), upd a_width (s + 1) (a_width s), cpf 12 s a_clip 12, a_x1, a_y1, a_x2, a_y2, a_extra, a_winding, a_crossings, pf (fun _ => true) (l + 1) (-1) a_pixels 192, pf (fun _ => true) (l + 1) (-1) a_painter 192)) :
    wpX_draw post (f_drafted, f_revisions, nI D, nI K, nI s, f_edges, f_counted, f_begun, f_startX, f_startY, f_nowX, f_nowY, f_low, f_high, f_pointX, f_pointY, nI l, 0, f_faultAt, f_units, f_used, a_draftKind, a_draftValue, a_streamOf, a_sizes, a_before, a_newest, a_opCount, a_ops, a_opAt, a_numbers, a_running, a_next, a_floor, a_mix, a_matrix, a_colour, a_width, a_clip, a_x1, a_y1, a_x2, a_y2, a_extra, a_winding, a_crossings, a_pixels, a_painter) (nI σ) (iZ a) := by
  have loop : ∀ d k, k + d = D → ∀ n, d < n → (∀ e, e < k → rs e ≠ nI σ) → wX_draw_17 post (nI σ) (iZ a) f_drafted f_revisions (nI D) (nI K) (nI s) f_edges f_counted f_begun f_startX f_startY f_nowX f_nowY f_low f_high f_pointX f_pointY (nI l) 0 f_faultAt f_units f_used a_draftKind a_draftValue a_streamOf a_sizes a_before a_newest a_opCount a_ops a_opAt a_numbers a_running a_next a_floor a_mix a_matrix a_colour a_width a_clip a_x1 a_y1 a_x2 a_y2 a_extra a_winding a_crossings a_pixels a_painter n (nI k) := by
    intro d
    induction d with
    | zero =>
      intro k hk n hn hb2
      obtain ⟨n, rfl⟩ : ∃ n', n = n' + 1 := ⟨n - 1, by omega⟩
      have e : k = D := by omega
      subst e
      rw [wX_draw_17]
      refine br_t (nI_le (by omega) (by omega)) ?_
      refine xx_save hs hf hM hC hc hw (fun z => br_f (by decide) (h6 (Or.inl z))) (fun z => br_t rfl ?_)
      have nb : ¬ (s = 6 ∨ ∃ d, d < k ∧ rs d = nI σ) := by
        rintro (q | ⟨d, q1, q2⟩)
        · omega
        · exact hb2 d q1 q2
      have hl := hl z
      unfold wpX_forget
      refine zk_lt a 0 (fun z => ?_) (fun z => nm_r (nI_1 l) ?_) rfl li_0
      · unfold wX_draw_97
        exact xx_enter hK hR hσ hD (by omega) ha hnw hb (fun x hx => h1 nb z x hx)
      · rw [nI_1 l]
        refine xx_blank (by omega) ?_
        unfold wX_draw_97
        rw [if_neg (by omega)]
        exact xx_enter hK hR hσ hD (by omega) ha hnw hb (fun x hx => h2 nb z x hx)
    | succ d ih =>
      intro k hk n hn hb2
      obtain ⟨n, rfl⟩ : ∃ n', n = n' + 1 := ⟨n - 1, by omega⟩
      have nx := ih (k + 1) (by omega) n (by omega)
      obtain ⟨r, r1, r2, r3⟩ := hr k (by omega)
      have hi : vp_in (nI k) 7 := vp_in_nI (by omega) (by omega)
      rw [wX_draw_17]
      dsimp only
      rw [nI_clamp (n := k) (by omega), r2, nI_clamp (n := r) (by omega), r3]
      refine br_f (nI_ge (by omega) (by omega)) ⟨hi, br_f (nI_pos (by omega)) ⟨hi, vp_in_nI r1 (by omega), br_c (fun z => xx_fail hf (h6 (Or.inr ⟨k, by omega, z⟩))) (fun z => nm_r (nI_1 k) (nx fun e he => ?_))⟩⟩
      rcases Nat.lt_or_ge e k with t | t
      · exact hb2 e t
      · have : e = k := by omega
        subst this; exact z
  unfold wpX_draw
  refine br_f (nI_pos (by omega)) (br_t (nI_le (b := 5) (by omega) (by omega)) ⟨D + 1, ?_⟩)
  exact loop D 0 (by omega) (D + 1) (by omega) (fun e he => absurd he (Nat.not_lt_zero e))
theorem xx_draw0 {x : Int} {pl : Nat} {x2 : Int32} {post : SX → Prop} (hx : -1000 ≤ x ∧ x ≤ 1000) (h0 : x < 0 ∨ 5 < x) (hf : fl f_depth a_running a_next a_streamOf a_opAt pl) (h : post (f_drafted, f_revisions, f_depth, f_known, f_saved, f_edges, f_counted, f_begun, f_startX, f_startY, f_nowX, f_nowY, f_low, f_high, f_pointX, f_pointY, f_layer, 3, nI pl, f_units, f_used, a_draftKind, a_draftValue, a_streamOf, a_sizes, a_before, a_newest, a_opCount, a_ops, a_opAt, a_numbers, a_running, a_next, a_floor, a_mix, a_matrix, a_colour, a_width, a_clip, a_x1, a_y1, a_x2, a_y2, a_extra, a_winding, a_crossings, a_pixels, a_painter)) : wpX_draw post (f_drafted, f_revisions, f_depth, f_known, f_saved, f_edges, f_counted, f_begun, f_startX, f_startY, f_nowX, f_nowY, f_low, f_high, f_pointX, f_pointY, f_layer, f_fault, f_faultAt, f_units, f_used, a_draftKind, a_draftValue, a_streamOf, a_sizes, a_before, a_newest, a_opCount, a_ops, a_opAt, a_numbers, a_running, a_next, a_floor, a_mix, a_matrix, a_colour, a_width, a_clip, a_x1, a_y1, a_x2, a_y2, a_extra, a_winding, a_crossings, a_pixels, a_painter) (iZ x) x2 := by
  have bad : wX_draw_9 post f_drafted f_revisions f_depth f_known f_saved f_edges f_counted f_begun f_startX f_startY f_nowX f_nowY f_low f_high f_pointX f_pointY f_layer f_fault f_faultAt f_units f_used a_draftKind a_draftValue a_streamOf a_sizes a_before a_newest a_opCount a_ops a_opAt a_numbers a_running a_next a_floor a_mix a_matrix a_colour a_width a_clip a_x1 a_y1 a_x2 a_y2 a_extra a_winding a_crossings a_pixels a_painter := by
    unfold wX_draw_9
    exact xx_fail hf h
  unfold wpX_draw
  refine zk_lt x 0 (fun _ => bad) (fun z => ?_) rfl li_0
  refine br_f ?_ bad
  rw [show (5 : Int32) = iZ 5 by decide, iz_le (by omega) (by omega)]
  omega
end
end
section
/-! the relation -/
def wnt (k : Nat) : Nat := if k = 1 ∨ k = 2 ∨ k = 17 then 2 else if k = 4 then 4 else if k = 12 then 6 else if k = 13 ∨ k = 14 ∨ k = 16 then 1 else 0
def tk (k v k' n' : Int32) : Prop := ∃ κ : Nat, κ ≤ 17 ∧ k = nI κ ∧ k' = nI κ ∧ (κ = 0 → ∃ z : Int, (-1000 ≤ z ∧ z ≤ 1000) ∧ v = iZ z ∧ n' = iZ z)
def stp (p : Nat → Int32) : Nat → Nat
  | 0 => 0
  | n + 1 => (p n).toNatClampNeg + 1
/-- operator n of a translated stream of L tokens -/
def gr (op p ki : Nat → Int32) (L n : Nat) : Prop :=
  ∃ q κ : Nat, p n = nI q ∧ q < L ∧ stp p n ≤ q ∧ q ≤ stp p n + 6 ∧ (∀ t, stp p n ≤ t → t < q → ki t = 0) ∧ ki q = nI κ ∧ κ ≤ 17 ∧
    ((κ = 0 ∧ q = stp p n + 6 ∧ op n = 18) ∨ (κ ≠ 0 ∧ q = stp p n + wnt κ ∧ op n = nI κ) ∨ (κ ≠ 0 ∧ q ≠ stp p n + wnt κ ∧ op n = 18))
def TR (L M : Nat) (op p nu ki nm : Nat → Int32) : Prop :=
  M ≤ L ∧ (∀ n, n < M → gr op p ki L n) ∧ stp p M ≤ L ∧ L ≤ stp p M + 6 ∧ (∀ t, stp p M ≤ t → t < L → ki t = 0) ∧
  (∀ t, t < L → (∃ κ, κ ≤ 17 ∧ ki t = nI κ) ∧ (ki t = 0 → ∃ z : Int, (-1000 ≤ z ∧ z ≤ 1000) ∧ nu t = iZ z ∧ nm t = iZ z))
def rv (a_streamOf : Nat → Int32) (a_sizes : Nat → Int32) (a_opCount : Nat → Int32) (a_ops : Nat → Int32) (a_opAt : Nat → Int32) (a_numbers : Nat → Int32) (b_stream : Nat → Int32) (b_length : Nat → Int32) (b_kind : Nat → Int32) (b_num : Nat → Int32) (r : Nat) : Prop :=
  ∃ σ L M : Nat, σ < 6 ∧ L ≤ 40 ∧ a_streamOf r = nI σ ∧ b_stream r = nI σ ∧ a_sizes r = nI L ∧ b_length r = nI L ∧ a_opCount r = nI M ∧
    TR L M (fun n => a_ops (40 * r + n)) (fun n => a_opAt (40 * r + n)) (fun n => a_numbers (40 * r + n)) (fun n => b_kind (40 * r + n)) (fun n => b_num (40 * r + n))
def dc (R : Nat) (f_drafted : Int32) (a_draftKind : Nat → Int32) (a_draftValue : Nat → Int32) (a_streamOf : Nat → Int32) (a_sizes : Nat → Int32) (a_before : Nat → Int32) (a_newest : Nat → Int32) (a_opCount : Nat → Int32) (a_ops : Nat → Int32) (a_opAt : Nat → Int32) (a_numbers : Nat → Int32) (b_stream : Nat → Int32) (b_length : Nat → Int32) (b_kind : Nat → Int32) (b_num : Nat → Int32) : Prop :=
  R ≤ 8 ∧ (∃ dr, dr ≤ 40 ∧ f_drafted = nI dr ∧ b_length 8 = nI dr ∧ ∀ t, t < dr → tk (a_draftKind t) (a_draftValue t) (b_kind (320 + t)) (b_num (320 + t))) ∧
  (∀ r, r < R → (rv a_streamOf a_sizes a_opCount a_ops a_opAt a_numbers b_stream b_length b_kind b_num r)) ∧ (∀ σ, σ < 6 → NW b_stream σ R (a_newest σ)) ∧ (∀ σ, σ < 6 → ∀ r, r < R → b_stream r = nI σ → NW b_stream σ r (a_before r))
def lyc (a : Nat → Int32) : Nat → Nat
  | 0 => 0
  | d + 1 => lyc a d + if 0 ≤ (a d).toInt then 1 else 0
def fr (K D s : Nat) (a_opCount : Nat → Int32) (a_opAt : Nat → Int32) (a_running : Nat → Int32) (a_next : Nat → Int32) (a_floor : Nat → Int32) (a_mix : Nat → Int32) (b_stream : Nat → Int32) (b_running : Nat → Int32) (b_at : Nat → Int32) (b_saves : Nat → Int32) (b_below : Nat → Int32) (b_mixture : Nat → Int32) (d : Nat) : Prop :=
  ∃ σ φ ς : Nat, ∃ μ : Int, σ < 6 ∧ b_running d = nI σ ∧ NW b_stream σ K (a_running d) ∧ a_floor d = nI φ ∧ b_below d = nI φ ∧ b_saves d = nI ς ∧ d ≤ φ ∧ φ ≤ 6 ∧
    φ + ς = (if d + 1 = D then s else (a_floor (d + 1)).toNatClampNeg - 1) ∧ a_mix d = iZ μ ∧ b_mixture d = iZ μ ∧ (-1 ≤ μ ∧ μ ≤ 16) ∧ (d = 0 → μ = -1) ∧ (d + 1 < D → a_running d ≠ -1) ∧
    (∀ r, r < K → a_running d = nI r → ∃ n M, a_opCount r = nI M ∧ M ≤ 40 ∧ n ≤ M ∧ a_next d = nI n ∧ b_at d = nI (stp (fun n => a_opAt (40 * r + n)) n))
def sk (K D s l : Nat) (a_opCount : Nat → Int32) (a_opAt : Nat → Int32) (a_running : Nat → Int32) (a_next : Nat → Int32) (a_floor : Nat → Int32) (a_mix : Nat → Int32) (b_stream : Nat → Int32) (b_running : Nat → Int32) (b_at : Nat → Int32) (b_saves : Nat → Int32) (b_below : Nat → Int32) (b_mixture : Nat → Int32) : Prop := D ≤ 7 ∧ s ≤ 6 ∧ l = lyc b_mixture D ∧ ∀ d, d < D → (fr K D s a_opCount a_opAt a_running a_next a_floor a_mix b_stream b_running b_at b_saves b_below b_mixture d)
def gs (s : Nat) (a_matrix : Nat → Int32) (a_colour : Nat → Int32) (a_width : Nat → Int32) (a_clip : Nat → Int32) (b_matrix : Nat → Int32) (b_clip : Nat → Int32) : Prop :=
  mxr s a_matrix ∧ (∀ k, k < 6 * s + 6 → b_matrix k = a_matrix k) ∧ (∀ i, 0 ≤ (a_colour i).toInt ∧ (a_colour i).toInt ≤ 255) ∧ (∀ i, 0 ≤ (a_width i).toInt ∧ (a_width i).toInt ≤ 60) ∧
  (∀ l, l ≤ s → ∀ j, j < 12 → (∃ v, v < 65536 ∧ a_clip (12 * l + j) = nI v) ∧ ∀ i, i < 16 → ((b_clip (192 * l + (16 * j + i)) = 0 ∨ b_clip (192 * l + (16 * j + i)) = 1) ∧ (bt (a_clip (12 * l + j)) i = true ↔ ¬ b_clip (192 * l + (16 * j + i)) = 0)))
/-- while a page is rendered and nothing has failed -/
def ec (R K D s l U : Nat) (f_drafted : Int32) (f_edges : Int32) (f_counted : Int32) (f_begun : Int32) (f_startX : Int32) (f_startY : Int32) (f_nowX : Int32) (f_nowY : Int32) (a_draftKind : Nat → Int32) (a_draftValue : Nat → Int32) (a_streamOf : Nat → Int32) (a_sizes : Nat → Int32) (a_before : Nat → Int32) (a_newest : Nat → Int32) (a_opCount : Nat → Int32) (a_ops : Nat → Int32) (a_opAt : Nat → Int32) (a_numbers : Nat → Int32) (a_running : Nat → Int32) (a_next : Nat → Int32) (a_floor : Nat → Int32) (a_mix : Nat → Int32) (a_matrix : Nat → Int32) (a_colour : Nat → Int32) (a_width : Nat → Int32) (a_clip : Nat → Int32) (a_x1 : Nat → Int32) (a_y1 : Nat → Int32) (a_x2 : Nat → Int32) (a_y2 : Nat → Int32) (a_extra : Nat → Int32) (a_pixels : Nat → Int32) (a_painter : Nat → Int32) (g_parts : Int32) (g_edges : Int32) (g_partEdges : Int32) (b_stream : Nat → Int32) (b_length : Nat → Int32) (b_kind : Nat → Int32) (b_num : Nat → Int32) (b_matrix : Nat → Int32) (b_clip : Nat → Int32) (b_running : Nat → Int32) (b_at : Nat → Int32) (b_saves : Nat → Int32) (b_below : Nat → Int32) (b_mixture : Nat → Int32) (b_beginX : Nat → Int32) (b_beginY : Nat → Int32) (b_endX : Nat → Int32) (b_endY : Nat → Int32) (b_fromX : Nat → Int32) (b_fromY : Nat → Int32) (b_toX : Nat → Int32) (b_toY : Nat → Int32) : Prop := K ≤ R ∧ (dc R f_drafted a_draftKind a_draftValue a_streamOf a_sizes a_before a_newest a_opCount a_ops a_opAt a_numbers b_stream b_length b_kind b_num) ∧ (sk K D s l a_opCount a_opAt a_running a_next a_floor a_mix b_stream b_running b_at b_saves b_below b_mixture) ∧ (gs s a_matrix a_colour a_width a_clip b_matrix b_clip) ∧ (rPa f_edges f_counted f_begun f_startX f_startY f_nowX f_nowY a_x1 a_y1 a_x2 a_y2 a_extra g_parts g_edges g_partEdges b_beginX b_beginY b_endX b_endY b_fromX b_fromY b_toX b_toY) ∧ pxr a_pixels ∧ ptr a_painter ∧ U ≤ 200
section
variable {f_drafted f_revisions f_depth f_known f_saved f_edges f_counted f_begun f_startX f_startY f_nowX f_nowY f_low f_high f_pointX f_pointY f_layer f_fault f_faultAt f_units f_used : Int32} {a_draftKind a_draftValue a_streamOf a_sizes a_before a_newest a_opCount a_ops a_opAt a_numbers a_running a_next a_floor a_mix a_matrix a_colour a_width a_clip a_x1 a_y1 a_x2 a_y2 a_extra a_winding a_crossings a_pixels a_painter : Nat → Int32}
variable {g_revisions g_shown g_level g_layer g_depth g_parts g_edges g_operands g_units g_fault g_where g_partEdges : Int32} {b_stream b_length b_kind b_num b_matrix b_colour b_width b_clip b_paint b_painter b_running b_at b_saves b_below b_mixture b_beginX b_beginY b_endX b_endY b_fromX b_fromY b_toX b_toY b_operand : Nat → Int32}
def EXR (R K M : Nat) (u : SX) (v : SY) : Prop :=
  ∃ D s l U : Nat, 2 * U + D < M ∧ match u, v with
  | (f_drafted, f_revisions, f_depth, f_known, f_saved, f_edges, f_counted, f_begun, f_startX, f_startY, f_nowX, f_nowY, f_low, f_high, f_pointX, f_pointY, f_layer, f_fault, f_faultAt, f_units, f_used, a_draftKind, a_draftValue, a_streamOf, a_sizes, a_before, a_newest, a_opCount, a_ops, a_opAt, a_numbers, a_running, a_next, a_floor, a_mix, a_matrix, a_colour, a_width, a_clip, a_x1, a_y1, a_x2, a_y2, a_extra, a_winding, a_crossings, a_pixels, a_painter), (g_revisions, g_shown, g_level, g_layer, g_depth, g_parts, g_edges, g_operands, g_units, g_fault, g_where, g_partEdges, b_stream, b_length, b_kind, b_num, b_matrix, b_colour, b_width, b_clip, b_paint, b_painter, b_running, b_at, b_saves, b_below, b_mixture, b_beginX, b_beginY, b_endX, b_endY, b_fromX, b_fromY, b_toX, b_toY, b_operand) => f_revisions = nI R ∧ f_depth = nI D ∧ f_known = nI K ∧ f_saved = nI s ∧ f_layer = nI l ∧ f_units = nI U ∧ f_fault = 0 ∧ f_faultAt = -1 ∧
      g_revisions = nI R ∧ g_shown = nI K ∧ g_level = nI s ∧ g_layer = nI l ∧ g_depth = nI D ∧ g_operands = 0 ∧ g_units = nI (200 - U) ∧ g_fault = 0 ∧ g_where = -1 ∧
      b_colour = a_colour ∧ b_width = a_width ∧ b_paint = a_pixels ∧ b_painter = a_painter ∧ (ec R K D s l U f_drafted f_edges f_counted f_begun f_startX f_startY f_nowX f_nowY a_draftKind a_draftValue a_streamOf a_sizes a_before a_newest a_opCount a_ops a_opAt a_numbers a_running a_next a_floor a_mix a_matrix a_colour a_width a_clip a_x1 a_y1 a_x2 a_y2 a_extra a_pixels a_painter g_parts g_edges g_partEdges b_stream b_length b_kind b_num b_matrix b_clip b_running b_at b_saves b_below b_mixture b_beginX b_beginY b_endX b_endY b_fromX b_fromY b_toX b_toY)
def EFR (R pl : Nat) (u : SX) (v : SY) : Prop :=
  ∃ U : Nat, match u, v with
  | (f_drafted, f_revisions, f_depth, f_known, f_saved, f_edges, f_counted, f_begun, f_startX, f_startY, f_nowX, f_nowY, f_low, f_high, f_pointX, f_pointY, f_layer, f_fault, f_faultAt, f_units, f_used, a_draftKind, a_draftValue, a_streamOf, a_sizes, a_before, a_newest, a_opCount, a_ops, a_opAt, a_numbers, a_running, a_next, a_floor, a_mix, a_matrix, a_colour, a_width, a_clip, a_x1, a_y1, a_x2, a_y2, a_extra, a_winding, a_crossings, a_pixels, a_painter), (g_revisions, g_shown, g_level, g_layer, g_depth, g_parts, g_edges, g_operands, g_units, g_fault, g_where, g_partEdges, b_stream, b_length, b_kind, b_num, b_matrix, b_colour, b_width, b_clip, b_paint, b_painter, b_running, b_at, b_saves, b_below, b_mixture, b_beginX, b_beginY, b_endX, b_endY, b_fromX, b_fromY, b_toX, b_toY, b_operand) => f_revisions = nI R ∧ f_units = nI U ∧ f_faultAt = nI pl ∧ f_fault ≠ 0 ∧ g_fault = f_fault ∧ g_revisions = nI R ∧ g_units = nI (200 - U) ∧ U ≤ 200 ∧
      b_colour = a_colour ∧ b_width = a_width ∧ b_paint = a_pixels ∧ b_painter = a_painter ∧ (dc R f_drafted a_draftKind a_draftValue a_streamOf a_sizes a_before a_newest a_opCount a_ops a_opAt a_numbers b_stream b_length b_kind b_num) ∧ (∀ i, 0 ≤ (a_colour i).toInt ∧ (a_colour i).toInt ≤ 255) ∧ (∀ i, 0 ≤ (a_width i).toInt ∧ (a_width i).toInt ≤ 60) ∧ pxr a_pixels ∧ ptr a_painter
theorem exr_mk {R K M D s l U : Nat} (hM : 2 * U + D < M) (h : (ec R K D s l U f_drafted f_edges f_counted f_begun f_startX f_startY f_nowX f_nowY a_draftKind a_draftValue a_streamOf a_sizes a_before a_newest a_opCount a_ops a_opAt a_numbers a_running a_next a_floor a_mix a_matrix a_colour a_width a_clip a_x1 a_y1 a_x2 a_y2 a_extra a_pixels a_painter g_parts g_edges g_partEdges b_stream b_length b_kind b_num b_matrix b_clip b_running b_at b_saves b_below b_mixture b_beginX b_beginY b_endX b_endY b_fromX b_fromY b_toX b_toY)) : EXR R K M (f_drafted, nI R, nI D, nI K, nI s, f_edges, f_counted, f_begun, f_startX, f_startY, f_nowX, f_nowY, f_low, f_high, f_pointX, f_pointY, nI l, 0, -1, nI U, f_used, a_draftKind, a_draftValue, a_streamOf, a_sizes, a_before, a_newest, a_opCount, a_ops, a_opAt, a_numbers, a_running, a_next, a_floor, a_mix, a_matrix, a_colour, a_width, a_clip, a_x1, a_y1, a_x2, a_y2, a_extra, a_winding, a_crossings, a_pixels, a_painter) (nI R, nI K, nI s, nI l, nI D, g_parts, g_edges, 0, nI (200 - U), 0, -1, g_partEdges, b_stream, b_length, b_kind, b_num, b_matrix, a_colour, a_width, b_clip, a_pixels, a_painter, b_running, b_at, b_saves, b_below, b_mixture, b_beginX, b_beginY, b_endX, b_endY, b_fromX, b_fromY, b_toX, b_toY, b_operand) :=
  ⟨D, s, l, U, hM, rfl, rfl, rfl, rfl, rfl, rfl, rfl, rfl, rfl, rfl, rfl, rfl, rfl, rfl, rfl, rfl, rfl, rfl, rfl, rfl, rfl, h⟩
theorem efr_mk {R U pl : Nat} {w : Int32} (hw : w ≠ 0) (hU : U ≤ 200) (hd : (dc R f_drafted a_draftKind a_draftValue a_streamOf a_sizes a_before a_newest a_opCount a_ops a_opAt a_numbers b_stream b_length b_kind b_num)) (hc : ∀ i, 0 ≤ (a_colour i).toInt ∧ (a_colour i).toInt ≤ 255) (hi : ∀ i, 0 ≤ (a_width i).toInt ∧ (a_width i).toInt ≤ 60) (hp : pxr a_pixels) (ht : ptr a_painter) :
    EFR R pl (f_drafted, nI R, f_depth, f_known, f_saved, f_edges, f_counted, f_begun, f_startX, f_startY, f_nowX, f_nowY, f_low, f_high, f_pointX, f_pointY, f_layer, w, nI pl, nI U, f_used, a_draftKind, a_draftValue, a_streamOf, a_sizes, a_before, a_newest, a_opCount, a_ops, a_opAt, a_numbers, a_running, a_next, a_floor, a_mix, a_matrix, a_colour, a_width, a_clip, a_x1, a_y1, a_x2, a_y2, a_extra, a_winding, a_crossings, a_pixels, a_painter) (nI R, g_shown, g_level, g_layer, g_depth, g_parts, g_edges, g_operands, nI (200 - U), w, g_where, g_partEdges, b_stream, b_length, b_kind, b_num, b_matrix, a_colour, a_width, b_clip, a_pixels, a_painter, b_running, b_at, b_saves, b_below, b_mixture, b_beginX, b_beginY, b_endX, b_endY, b_fromX, b_fromY, b_toX, b_toY, b_operand) :=
  ⟨U, rfl, rfl, rfl, hw, rfl, rfl, rfl, hU, rfl, rfl, rfl, rfl, hd, hc, hi, hp, ht⟩
theorem exr_el {R K M : Nat} {P : SX → SY → Prop} (h : ∀ D s l U : Nat, 2 * U + D < M → ∀ (f_drafted f_revisions f_depth f_known f_saved f_edges f_counted f_begun f_startX f_startY f_nowX f_nowY f_low f_high f_pointX f_pointY f_layer f_fault f_faultAt f_units f_used g_revisions g_shown g_level g_layer g_depth g_parts g_edges g_operands g_units g_fault g_where g_partEdges : Int32) (a_draftKind a_draftValue a_streamOf a_sizes a_before a_newest a_opCount a_ops a_opAt a_numbers a_running a_next a_floor a_mix a_matrix a_colour a_width a_clip a_x1 a_y1 a_x2 a_y2 a_extra a_winding a_crossings a_pixels a_painter b_stream b_length b_kind b_num b_matrix b_colour b_width b_clip b_paint b_painter b_running b_at b_saves b_below b_mixture b_beginX b_beginY b_endX b_endY b_fromX b_fromY b_toX b_toY b_operand : Nat → Int32), (ec R K D s l U f_drafted f_edges f_counted f_begun f_startX f_startY f_nowX f_nowY a_draftKind a_draftValue a_streamOf a_sizes a_before a_newest a_opCount a_ops a_opAt a_numbers a_running a_next a_floor a_mix a_matrix a_colour a_width a_clip a_x1 a_y1 a_x2 a_y2 a_extra a_pixels a_painter g_parts g_edges g_partEdges b_stream b_length b_kind b_num b_matrix b_clip b_running b_at b_saves b_below b_mixture b_beginX b_beginY b_endX b_endY b_fromX b_fromY b_toX b_toY) → P (f_drafted, nI R, nI D, nI K, nI s, f_edges, f_counted, f_begun, f_startX, f_startY, f_nowX, f_nowY, f_low, f_high, f_pointX, f_pointY, nI l, 0, -1, nI U, f_used, a_draftKind, a_draftValue, a_streamOf, a_sizes, a_before, a_newest, a_opCount, a_ops, a_opAt, a_numbers, a_running, a_next, a_floor, a_mix, a_matrix, a_colour, a_width, a_clip, a_x1, a_y1, a_x2, a_y2, a_extra, a_winding, a_crossings, a_pixels, a_painter) (nI R, nI K, nI s, nI l, nI D, g_parts, g_edges, 0, nI (200 - U), 0, -1, g_partEdges, b_stream, b_length, b_kind, b_num, b_matrix, a_colour, a_width, b_clip, a_pixels, a_painter, b_running, b_at, b_saves, b_below, b_mixture, b_beginX, b_beginY, b_endX, b_endY, b_fromX, b_fromY, b_toX, b_toY, b_operand)) :
    ∀ {u : SX} {v : SY}, EXR R K M u v → P u v := by
  intro u v hu
  obtain ⟨D, s, l, U, hM, hu⟩ := hu
  obtain ⟨f_drafted, f_revisions, f_depth, f_known, f_saved, f_edges, f_counted, f_begun, f_startX, f_startY, f_nowX, f_nowY, f_low, f_high, f_pointX, f_pointY, f_layer, f_fault, f_faultAt, f_units, f_used, a_draftKind, a_draftValue, a_streamOf, a_sizes, a_before, a_newest, a_opCount, a_ops, a_opAt, a_numbers, a_running, a_next, a_floor, a_mix, a_matrix, a_colour, a_width, a_clip, a_x1, a_y1, a_x2, a_y2, a_extra, a_winding, a_crossings, a_pixels, a_painter⟩ := u
  obtain ⟨g_revisions, g_shown, g_level, g_layer, g_depth, g_parts, g_edges, g_operands, g_units, g_fault, g_where, g_partEdges, b_stream, b_length, b_kind, b_num, b_matrix, b_colour, b_width, b_clip, b_paint, b_painter, b_running, b_at, b_saves, b_below, b_mixture, b_beginX, b_beginY, b_endX, b_endY, b_fromX, b_fromY, b_toX, b_toY, b_operand⟩ := v
  obtain ⟨e1, e2, e3, e4, e5, e6, e7, e8, e9, e10, e11, e12, e13, e14, e15, e16, e17, e18, e19, e20, e21, hE⟩ := hu
  subst e1 e2 e3 e4 e5 e6 e7 e8 e9 e10 e11 e12 e13 e14 e15 e16 e17 e18 e19 e20 e21
  exact h D s l U hM f_drafted 0 0 0 0 f_edges f_counted f_begun f_startX f_startY f_nowX f_nowY f_low f_high f_pointX f_pointY 0 0 0 0 f_used 0 0 0 0 0 g_parts g_edges 0 0 0 0 g_partEdges a_draftKind a_draftValue a_streamOf a_sizes a_before a_newest a_opCount a_ops a_opAt a_numbers a_running a_next a_floor a_mix a_matrix b_colour b_width a_clip a_x1 a_y1 a_x2 a_y2 a_extra a_winding a_crossings b_paint b_painter b_stream b_length b_kind b_num b_matrix b_colour b_width b_clip b_paint b_painter b_running b_at b_saves b_below b_mixture b_beginX b_beginY b_endX b_endY b_fromX b_fromY b_toX b_toY b_operand hE
end
end
section
/-! lockstep on the path: line, close, move, rectangle -/
theorem rg_z {x : Int} (h : -4000 ≤ x ∧ x ≤ 4000) : rg (iZ x) := by
  unfold rg
  rw [iz_T (by omega)]; exact h
theorem rg_i {x : Int32} (h : rg x) : ∃ z : Int, x = iZ z ∧ (-4000 ≤ z ∧ z ≤ 4000) := ⟨x.toInt, iz_of x, h⟩
section
variable {f_drafted f_revisions f_depth f_known f_saved f_edges f_counted f_begun f_startX f_startY f_nowX f_nowY f_low f_high f_pointX f_pointY f_layer f_fault f_faultAt f_units f_used : Int32} {a_draftKind a_draftValue a_streamOf a_sizes a_before a_newest a_opCount a_ops a_opAt a_numbers a_running a_next a_floor a_mix a_matrix a_colour a_width a_clip a_x1 a_y1 a_x2 a_y2 a_extra a_winding a_crossings a_pixels a_painter : Nat → Int32}
variable {g_revisions g_shown g_level g_layer g_depth g_parts g_edges g_operands g_units g_fault g_where g_partEdges : Int32} {b_stream b_length b_kind b_num b_matrix b_colour b_width b_clip b_paint b_painter b_running b_at b_saves b_below b_mixture b_beginX b_beginY b_endX b_endY b_fromX b_fromY b_toX b_toY b_operand : Nat → Int32}
theorem xx_line0 {x y : Int32} {pl : Nat} {post : SX → Prop} (hf : fl f_depth a_running a_next a_streamOf a_opAt pl) (h : post (f_drafted, f_revisions, f_depth, f_known, f_saved, f_edges, f_counted, 0, f_startX, f_startY, f_nowX, f_nowY, f_low, f_high, f_pointX, f_pointY, f_layer, 4, nI pl, f_units, f_used, a_draftKind, a_draftValue, a_streamOf, a_sizes, a_before, a_newest, a_opCount, a_ops, a_opAt, a_numbers, a_running, a_next, a_floor, a_mix, a_matrix, a_colour, a_width, a_clip, a_x1, a_y1, a_x2, a_y2, a_extra, a_winding, a_crossings, a_pixels, a_painter)) : wpX_line post (f_drafted, f_revisions, f_depth, f_known, f_saved, f_edges, f_counted, 0, f_startX, f_startY, f_nowX, f_nowY, f_low, f_high, f_pointX, f_pointY, f_layer, f_fault, f_faultAt, f_units, f_used, a_draftKind, a_draftValue, a_streamOf, a_sizes, a_before, a_newest, a_opCount, a_ops, a_opAt, a_numbers, a_running, a_next, a_floor, a_mix, a_matrix, a_colour, a_width, a_clip, a_x1, a_y1, a_x2, a_y2, a_extra, a_winding, a_crossings, a_pixels, a_painter) x y := by
  unfold wpX_line
  refine br_t rfl ?_
  unfold wX_line_16
  refine br_t rfl ?_
  unfold wX_line_29
  exact xx_fail hf h
theorem j_line {x y : Int} {pl : Nat} (hp : (rPa f_edges f_counted f_begun f_startX f_startY f_nowX f_nowY a_x1 a_y1 a_x2 a_y2 a_extra g_parts g_edges g_partEdges b_beginX b_beginY b_endX b_endY b_fromX b_fromY b_toX b_toY)) (hx : -4000 ≤ x ∧ x ≤ 4000) (hy : -4000 ≤ y ∧ y ≤ 4000) (hf : fl f_depth a_running a_next a_streamOf a_opAt pl) :
    (∃ w : Int32, w ≠ 0 ∧ (∀ post : SX → Prop, post (f_drafted, f_revisions, f_depth, f_known, f_saved, f_edges, f_counted, f_begun, f_startX, f_startY, f_nowX, f_nowY, f_low, f_high, f_pointX, f_pointY, f_layer, w, nI pl, f_units, f_used, a_draftKind, a_draftValue, a_streamOf, a_sizes, a_before, a_newest, a_opCount, a_ops, a_opAt, a_numbers, a_running, a_next, a_floor, a_mix, a_matrix, a_colour, a_width, a_clip, a_x1, a_y1, a_x2, a_y2, a_extra, a_winding, a_crossings, a_pixels, a_painter) → wpX_line post (f_drafted, f_revisions, f_depth, f_known, f_saved, f_edges, f_counted, f_begun, f_startX, f_startY, f_nowX, f_nowY, f_low, f_high, f_pointX, f_pointY, f_layer, f_fault, f_faultAt, f_units, f_used, a_draftKind, a_draftValue, a_streamOf, a_sizes, a_before, a_newest, a_opCount, a_ops, a_opAt, a_numbers, a_running, a_next, a_floor, a_mix, a_matrix, a_colour, a_width, a_clip, a_x1, a_y1, a_x2, a_y2, a_extra, a_winding, a_crossings, a_pixels, a_painter) (iZ x) (iZ y)) ∧ (∀ post : SY → Prop, post (g_revisions, g_shown, g_level, g_layer, g_depth, g_parts, g_edges, g_operands, g_units, w, g_where, g_partEdges, b_stream, b_length, b_kind, b_num, b_matrix, b_colour, b_width, b_clip, b_paint, b_painter, b_running, b_at, b_saves, b_below, b_mixture, b_beginX, b_beginY, b_endX, b_endY, b_fromX, b_fromY, b_toX, b_toY, b_operand) → wpY_edge post (g_revisions, g_shown, g_level, g_layer, g_depth, g_parts, g_edges, g_operands, g_units, g_fault, g_where, g_partEdges, b_stream, b_length, b_kind, b_num, b_matrix, b_colour, b_width, b_clip, b_paint, b_painter, b_running, b_at, b_saves, b_below, b_mixture, b_beginX, b_beginY, b_endX, b_endY, b_fromX, b_fromY, b_toX, b_toY, b_operand) (iZ x) (iZ y)))
    ∨ (∃ (c_edges c_counted c_begun c_startX c_startY c_nowX c_nowY c_pointX c_pointY h_parts h_edges h_partEdges : Int32) (c_x1 c_y1 c_x2 c_y2 c_extra h_beginX h_beginY h_endX h_endY h_fromX h_fromY h_toX h_toY : Nat → Int32), (rPa c_edges c_counted c_begun c_startX c_startY c_nowX c_nowY c_x1 c_y1 c_x2 c_y2 c_extra h_parts h_edges h_partEdges h_beginX h_beginY h_endX h_endY h_fromX h_fromY h_toX h_toY) ∧ (∀ post : SX → Prop, post (f_drafted, f_revisions, f_depth, f_known, f_saved, c_edges, c_counted, c_begun, c_startX, c_startY, c_nowX, c_nowY, f_low, f_high, f_pointX, f_pointY, f_layer, f_fault, f_faultAt, f_units, f_used, a_draftKind, a_draftValue, a_streamOf, a_sizes, a_before, a_newest, a_opCount, a_ops, a_opAt, a_numbers, a_running, a_next, a_floor, a_mix, a_matrix, a_colour, a_width, a_clip, c_x1, c_y1, c_x2, c_y2, c_extra, a_winding, a_crossings, a_pixels, a_painter) → wpX_line post (f_drafted, f_revisions, f_depth, f_known, f_saved, f_edges, f_counted, f_begun, f_startX, f_startY, f_nowX, f_nowY, f_low, f_high, f_pointX, f_pointY, f_layer, f_fault, f_faultAt, f_units, f_used, a_draftKind, a_draftValue, a_streamOf, a_sizes, a_before, a_newest, a_opCount, a_ops, a_opAt, a_numbers, a_running, a_next, a_floor, a_mix, a_matrix, a_colour, a_width, a_clip, a_x1, a_y1, a_x2, a_y2, a_extra, a_winding, a_crossings, a_pixels, a_painter) (iZ x) (iZ y)) ∧ (∀ post : SY → Prop, post (g_revisions, g_shown, g_level, g_layer, g_depth, h_parts, h_edges, g_operands, g_units, g_fault, g_where, h_partEdges, b_stream, b_length, b_kind, b_num, b_matrix, b_colour, b_width, b_clip, b_paint, b_painter, b_running, b_at, b_saves, b_below, b_mixture, h_beginX, h_beginY, h_endX, h_endY, h_fromX, h_fromY, h_toX, h_toY, b_operand) → wpY_edge post (g_revisions, g_shown, g_level, g_layer, g_depth, g_parts, g_edges, g_operands, g_units, g_fault, g_where, g_partEdges, b_stream, b_length, b_kind, b_num, b_matrix, b_colour, b_width, b_clip, b_paint, b_painter, b_running, b_at, b_saves, b_below, b_mixture, b_beginX, b_beginY, b_endX, b_endY, b_fromX, b_fromY, b_toX, b_toY, b_operand) (iZ x) (iZ y))) := by
  rcases hp with ⟨rfl, rfl, rfl, rfl, rfl⟩ | ⟨rfl, E, C, Q, pe, rfl, rfl, rfl, rfl, rfl, q1, q2, n1, n2, n3, n4, p1, p2, p3, pc⟩
  · refine Or.inl ⟨4, by decide, fun post h => xx_line0 hf h, fun post h => ?_⟩
    exact yy_edge (Q := 0) (C := 0) (by omega) (by omega) (fun _ => h) (fun z => by omega) (fun z => by omega)
  · have pc2 := pc
    obtain ⟨a1, a2, a3, a4, a5, _, _⟩ := pc2
    have r := a5 Q (by omega)
    have rx : rg f_nowX := by rw [n1]; exact r.1
    have ry : rg f_nowY := by rw [n2]; exact r.2.1
    obtain ⟨nx, e1, bx⟩ := rg_i rx
    obtain ⟨ny, e2, by_⟩ := rg_i ry
    rcases Nat.lt_or_ge C 24 with hC | hC
    · have nw := pc_line pc hC n1 n2 n3 n4 (rg_z hx) (rg_z hy)
      have PN : (rPa (nI (E + 1)) (nI (C + 1)) 1 f_startX f_startY (iZ x) (iZ y) (upd a_x1 E f_nowX) (upd a_y1 E f_nowY) (upd a_x2 E (iZ x)) (upd a_y2 E (iZ y)) (upd a_extra E 0) (nI (Q + 1)) (nI (C + 1)) (nI (pe + 1)) b_beginX b_beginY (upd b_endX Q (iZ x)) (upd b_endY Q (iZ y)) (upd b_fromX C f_nowX) (upd b_fromY C f_nowY) (upd b_toX C (iZ x)) (upd b_toY C (iZ y))) := by
        refine Or.inr ⟨rfl, E + 1, C + 1, Q, pe + 1, rfl, rfl, rfl, rfl, rfl, by omega, by omega, pk_us.symm, pk_us.symm, n3, n4, fun z => by omega, fun _ => by omega, fun _ => by omega, nw⟩
      refine Or.inr ⟨nI (E + 1), nI (C + 1), 1, f_startX, f_startY, iZ x, iZ y, f_pointX, f_pointY, nI (Q + 1), nI (C + 1), nI (pe + 1), upd a_x1 E f_nowX, upd a_y1 E f_nowY, upd a_x2 E (iZ x), upd a_y2 E (iZ y), upd a_extra E 0, b_beginX, b_beginY, upd b_endX Q (iZ x), upd b_endY Q (iZ y), upd b_fromX C f_nowX, upd b_fromY C f_nowY, upd b_toX C (iZ x), upd b_toY C (iZ y), PN, fun post h => ?_, fun post h => ?_⟩
      · subst e1 e2
        exact xx_line (Or.inr rfl) (fun _ => by omega) a2 hx hy bx by_ hf (fun z => absurd z (by decide)) (fun _ z => by omega) (fun _ _ => h)
      · refine yy_edge (by omega) a2 (fun z => by omega) (fun _ z => by omega) (fun _ _ => ?_)
        rw [Nat.add_sub_cancel, ← n1, ← n2, nI_1]
        exact h
    · refine Or.inl ⟨5, by decide, fun post h => ?_, fun post h => ?_⟩
      · subst e1 e2
        exact xx_line (Or.inr rfl) (fun _ => by omega) a2 hx hy bx by_ hf (fun z => absurd z (by decide)) (fun _ _ => h) (fun _ z => by omega)
      · exact yy_edge (by omega) a2 (fun z => by omega) (fun _ _ => h) (fun _ z => by omega)
theorem j_close {pl : Nat} (hp : (rPa f_edges f_counted f_begun f_startX f_startY f_nowX f_nowY a_x1 a_y1 a_x2 a_y2 a_extra g_parts g_edges g_partEdges b_beginX b_beginY b_endX b_endY b_fromX b_fromY b_toX b_toY)) (hf : fl f_depth a_running a_next a_streamOf a_opAt pl) :
    (∃ w : Int32, w ≠ 0 ∧ (∀ post : SX → Prop, post (f_drafted, f_revisions, f_depth, f_known, f_saved, f_edges, f_counted, f_begun, f_startX, f_startY, f_nowX, f_nowY, f_low, f_high, f_pointX, f_pointY, f_layer, w, nI pl, f_units, f_used, a_draftKind, a_draftValue, a_streamOf, a_sizes, a_before, a_newest, a_opCount, a_ops, a_opAt, a_numbers, a_running, a_next, a_floor, a_mix, a_matrix, a_colour, a_width, a_clip, a_x1, a_y1, a_x2, a_y2, a_extra, a_winding, a_crossings, a_pixels, a_painter) → wpX_line post (f_drafted, f_revisions, f_depth, f_known, f_saved, f_edges, f_counted, f_begun, f_startX, f_startY, f_nowX, f_nowY, f_low, f_high, f_pointX, f_pointY, f_layer, f_fault, f_faultAt, f_units, f_used, a_draftKind, a_draftValue, a_streamOf, a_sizes, a_before, a_newest, a_opCount, a_ops, a_opAt, a_numbers, a_running, a_next, a_floor, a_mix, a_matrix, a_colour, a_width, a_clip, a_x1, a_y1, a_x2, a_y2, a_extra, a_winding, a_crossings, a_pixels, a_painter) f_startX f_startY) ∧ (∀ post : SY → Prop, post (g_revisions, g_shown, g_level, g_layer, g_depth, g_parts, g_edges, g_operands, g_units, w, g_where, g_partEdges, b_stream, b_length, b_kind, b_num, b_matrix, b_colour, b_width, b_clip, b_paint, b_painter, b_running, b_at, b_saves, b_below, b_mixture, b_beginX, b_beginY, b_endX, b_endY, b_fromX, b_fromY, b_toX, b_toY, b_operand) → wpY_closePart post (g_revisions, g_shown, g_level, g_layer, g_depth, g_parts, g_edges, g_operands, g_units, g_fault, g_where, g_partEdges, b_stream, b_length, b_kind, b_num, b_matrix, b_colour, b_width, b_clip, b_paint, b_painter, b_running, b_at, b_saves, b_below, b_mixture, b_beginX, b_beginY, b_endX, b_endY, b_fromX, b_fromY, b_toX, b_toY, b_operand)))
    ∨ (∃ (c_edges c_counted c_begun c_startX c_startY c_nowX c_nowY c_pointX c_pointY h_parts h_edges h_partEdges : Int32) (c_x1 c_y1 c_x2 c_y2 c_extra h_beginX h_beginY h_endX h_endY h_fromX h_fromY h_toX h_toY : Nat → Int32), (rPa c_edges c_counted c_begun c_startX c_startY c_nowX c_nowY c_x1 c_y1 c_x2 c_y2 c_extra h_parts h_edges h_partEdges h_beginX h_beginY h_endX h_endY h_fromX h_fromY h_toX h_toY) ∧ (∀ post : SX → Prop, post (f_drafted, f_revisions, f_depth, f_known, f_saved, c_edges, c_counted, c_begun, c_startX, c_startY, c_nowX, c_nowY, f_low, f_high, f_pointX, f_pointY, f_layer, f_fault, f_faultAt, f_units, f_used, a_draftKind, a_draftValue, a_streamOf, a_sizes, a_before, a_newest, a_opCount, a_ops, a_opAt, a_numbers, a_running, a_next, a_floor, a_mix, a_matrix, a_colour, a_width, a_clip, c_x1, c_y1, c_x2, c_y2, c_extra, a_winding, a_crossings, a_pixels, a_painter) → wpX_line post (f_drafted, f_revisions, f_depth, f_known, f_saved, f_edges, f_counted, f_begun, f_startX, f_startY, f_nowX, f_nowY, f_low, f_high, f_pointX, f_pointY, f_layer, f_fault, f_faultAt, f_units, f_used, a_draftKind, a_draftValue, a_streamOf, a_sizes, a_before, a_newest, a_opCount, a_ops, a_opAt, a_numbers, a_running, a_next, a_floor, a_mix, a_matrix, a_colour, a_width, a_clip, a_x1, a_y1, a_x2, a_y2, a_extra, a_winding, a_crossings, a_pixels, a_painter) f_startX f_startY) ∧ (∀ post : SY → Prop, post (g_revisions, g_shown, g_level, g_layer, g_depth, h_parts, h_edges, g_operands, g_units, g_fault, g_where, h_partEdges, b_stream, b_length, b_kind, b_num, b_matrix, b_colour, b_width, b_clip, b_paint, b_painter, b_running, b_at, b_saves, b_below, b_mixture, h_beginX, h_beginY, h_endX, h_endY, h_fromX, h_fromY, h_toX, h_toY, b_operand) → wpY_closePart post (g_revisions, g_shown, g_level, g_layer, g_depth, g_parts, g_edges, g_operands, g_units, g_fault, g_where, g_partEdges, b_stream, b_length, b_kind, b_num, b_matrix, b_colour, b_width, b_clip, b_paint, b_painter, b_running, b_at, b_saves, b_below, b_mixture, b_beginX, b_beginY, b_endX, b_endY, b_fromX, b_fromY, b_toX, b_toY, b_operand))) := by
  have hp2 := hp
  rcases hp2 with ⟨rfl, rfl, rfl, rfl, rfl⟩ | ⟨rfl, E, C, Q, pe, rfl, rfl, rfl, rfl, rfl, q1, q2, n1, n2, n3, n4, p1, p2, p3, pc⟩
  · refine Or.inl ⟨4, by decide, fun post h => xx_line0 hf h, fun post h => ?_⟩
    unfold wpY_closePart
    exact br_t rfl h
  · obtain ⟨a1, a2, a3, a4, a5, _, _⟩ := pc
    have r := a5 Q (by omega)
    have rx : rg f_startX := by rw [n3]; exact r.2.2.1
    have ry : rg f_startY := by rw [n4]; exact r.2.2.2
    obtain ⟨x, e1, bx⟩ := rg_i rx
    obtain ⟨y, e2, by_⟩ := rg_i ry
    have yc : ∀ post : SY → Prop, wpY_edge post (g_revisions, g_shown, g_level, g_layer, g_depth, nI (Q + 1), nI C, g_operands, g_units, g_fault, g_where, nI pe, b_stream, b_length, b_kind, b_num, b_matrix, b_colour, b_width, b_clip, b_paint, b_painter, b_running, b_at, b_saves, b_below, b_mixture, b_beginX, b_beginY, b_endX, b_endY, b_fromX, b_fromY, b_toX, b_toY, b_operand) (iZ x) (iZ y) → wpY_closePart post (g_revisions, g_shown, g_level, g_layer, g_depth, nI (Q + 1), nI C, g_operands, g_units, g_fault, g_where, nI pe, b_stream, b_length, b_kind, b_num, b_matrix, b_colour, b_width, b_clip, b_paint, b_painter, b_running, b_at, b_saves, b_below, b_mixture, b_beginX, b_beginY, b_endX, b_endY, b_fromX, b_fromY, b_toX, b_toY, b_operand) := by
      intro post h
      have hi : vp_in (nI Q) 30 := vp_in_nI (by omega) (by omega)
      have z : ¬ nI (Q + 1) = 0 := nI_ne0 (by omega) (by omega)
      unfold wpY_closePart
      dsimp only
      rw [nI_pred, nI_clamp (by omega), ← n3, ← n4, e1, e2]
      refine br_f z ⟨hi, hi, ?_⟩
      unfold wpY_edge at h ⊢
      exact h
    have J := j_line (f_drafted := f_drafted) (f_revisions := f_revisions) (f_depth := f_depth) (f_known := f_known) (f_saved := f_saved) (f_edges := nI E) (f_counted := nI C) (f_begun := 1) (f_startX := f_startX) (f_startY := f_startY) (f_nowX := f_nowX) (f_nowY := f_nowY) (f_low := f_low) (f_high := f_high) (f_pointX := f_pointX) (f_pointY := f_pointY) (f_layer := f_layer) (f_fault := f_fault) (f_faultAt := f_faultAt) (f_units := f_units) (f_used := f_used) (a_draftKind := a_draftKind) (a_draftValue := a_draftValue) (a_streamOf := a_streamOf) (a_sizes := a_sizes) (a_before := a_before) (a_newest := a_newest) (a_opCount := a_opCount) (a_ops := a_ops) (a_opAt := a_opAt) (a_numbers := a_numbers) (a_running := a_running) (a_next := a_next) (a_floor := a_floor) (a_mix := a_mix) (a_matrix := a_matrix) (a_colour := a_colour) (a_width := a_width) (a_clip := a_clip) (a_x1 := a_x1) (a_y1 := a_y1) (a_x2 := a_x2) (a_y2 := a_y2) (a_extra := a_extra) (a_winding := a_winding) (a_crossings := a_crossings) (a_pixels := a_pixels) (a_painter := a_painter) (g_revisions := g_revisions) (g_shown := g_shown) (g_level := g_level) (g_layer := g_layer) (g_depth := g_depth) (g_parts := nI (Q + 1)) (g_edges := nI C) (g_operands := g_operands) (g_units := g_units) (g_fault := g_fault) (g_where := g_where) (g_partEdges := nI pe) (b_stream := b_stream) (b_length := b_length) (b_kind := b_kind) (b_num := b_num) (b_matrix := b_matrix) (b_colour := b_colour) (b_width := b_width) (b_clip := b_clip) (b_paint := b_paint) (b_painter := b_painter) (b_running := b_running) (b_at := b_at) (b_saves := b_saves) (b_below := b_below) (b_mixture := b_mixture) (b_beginX := b_beginX) (b_beginY := b_beginY) (b_endX := b_endX) (b_endY := b_endY) (b_fromX := b_fromX) (b_fromY := b_fromY) (b_toX := b_toX) (b_toY := b_toY) (b_operand := b_operand) hp bx by_ hf
    rw [e1, e2] at J ⊢
    rcases J with ⟨w, hw, k1, k2⟩ | ⟨c_edges, c_counted, c_begun, c_startX, c_startY, c_nowX, c_nowY, c_pointX, c_pointY, h_parts, h_edges, h_partEdges, c_x1, c_y1, c_x2, c_y2, c_extra, h_beginX, h_beginY, h_endX, h_endY, h_fromX, h_fromY, h_toX, h_toY, k0, k1, k2⟩
    · exact Or.inl ⟨w, hw, k1, fun post h => yc post (k2 post h)⟩
    · exact Or.inr ⟨c_edges, c_counted, c_begun, c_startX, c_startY, c_nowX, c_nowY, c_pointX, c_pointY, h_parts, h_edges, h_partEdges, c_x1, c_y1, c_x2, c_y2, c_extra, h_beginX, h_beginY, h_endX, h_endY, h_fromX, h_fromY, h_toX, h_toY, k0, k1, fun post h => yc post (k2 post h)⟩
end
end
section
/-! lockstep: move, lineTo, rectangle -/
section
variable {f_drafted f_revisions f_depth f_known f_saved f_edges f_counted f_begun f_startX f_startY f_nowX f_nowY f_low f_high f_pointX f_pointY f_layer f_fault f_faultAt f_units f_used : Int32} {a_draftKind a_draftValue a_streamOf a_sizes a_before a_newest a_opCount a_ops a_opAt a_numbers a_running a_next a_floor a_mix a_matrix a_colour a_width a_clip a_x1 a_y1 a_x2 a_y2 a_extra a_winding a_crossings a_pixels a_painter : Nat → Int32}
variable {g_revisions g_shown g_level g_layer g_depth g_parts g_edges g_operands g_units g_fault g_where g_partEdges : Int32} {b_stream b_length b_kind b_num b_matrix b_colour b_width b_clip b_paint b_painter b_running b_at b_saves b_below b_mixture b_beginX b_beginY b_endX b_endY b_fromX b_fromY b_toX b_toY b_operand : Nat → Int32}
theorem j_move {s : Nat} {xx yy x y : Int} (hp : (rPa f_edges f_counted f_begun f_startX f_startY f_nowX f_nowY a_x1 a_y1 a_x2 a_y2 a_extra g_parts g_edges g_partEdges b_beginX b_beginY b_endX b_endY b_fromX b_fromY b_toX b_toY)) (hs : s < 7) (hM : mxr s b_matrix) (hxx : -2000 ≤ xx ∧ xx ≤ 2000) (hyy : -2000 ≤ yy ∧ yy ≤ 2000) (ex : pX b_matrix s xx yy = x) (ey : pY b_matrix s xx yy = y) (hx : -4000 ≤ x ∧ x ≤ 4000) (hy : -4000 ≤ y ∧ y ≤ 4000) :
    ∃ (c_edges c_counted c_begun c_startX c_startY c_nowX c_nowY c_pointX c_pointY h_parts h_edges h_partEdges : Int32) (c_x1 c_y1 c_x2 c_y2 c_extra h_beginX h_beginY h_endX h_endY h_fromX h_fromY h_toX h_toY : Nat → Int32), (rPa c_edges c_counted c_begun c_startX c_startY c_nowX c_nowY c_x1 c_y1 c_x2 c_y2 c_extra h_parts h_edges h_partEdges h_beginX h_beginY h_endX h_endY h_fromX h_fromY h_toX h_toY) ∧ (∀ post : SX → Prop, post (f_drafted, f_revisions, f_depth, f_known, f_saved, c_edges, c_counted, c_begun, c_startX, c_startY, c_nowX, c_nowY, f_low, f_high, c_pointX, c_pointY, f_layer, f_fault, f_faultAt, f_units, f_used, a_draftKind, a_draftValue, a_streamOf, a_sizes, a_before, a_newest, a_opCount, a_ops, a_opAt, a_numbers, a_running, a_next, a_floor, a_mix, a_matrix, a_colour, a_width, a_clip, c_x1, c_y1, c_x2, c_y2, c_extra, a_winding, a_crossings, a_pixels, a_painter) → wpX_move post (f_drafted, f_revisions, f_depth, f_known, f_saved, f_edges, f_counted, f_begun, f_startX, f_startY, f_nowX, f_nowY, f_low, f_high, iZ x, iZ y, f_layer, f_fault, f_faultAt, f_units, f_used, a_draftKind, a_draftValue, a_streamOf, a_sizes, a_before, a_newest, a_opCount, a_ops, a_opAt, a_numbers, a_running, a_next, a_floor, a_mix, a_matrix, a_colour, a_width, a_clip, a_x1, a_y1, a_x2, a_y2, a_extra, a_winding, a_crossings, a_pixels, a_painter)) ∧ (∀ post : SY → Prop, post (g_revisions, g_shown, nI s, g_layer, g_depth, h_parts, h_edges, g_operands, g_units, g_fault, g_where, h_partEdges, b_stream, b_length, b_kind, b_num, b_matrix, b_colour, b_width, b_clip, b_paint, b_painter, b_running, b_at, b_saves, b_below, b_mixture, h_beginX, h_beginY, h_endX, h_endY, h_fromX, h_fromY, h_toX, h_toY, b_operand) → wpY_moveTo post (g_revisions, g_shown, nI s, g_layer, g_depth, g_parts, g_edges, g_operands, g_units, g_fault, g_where, g_partEdges, b_stream, b_length, b_kind, b_num, b_matrix, b_colour, b_width, b_clip, b_paint, b_painter, b_running, b_at, b_saves, b_below, b_mixture, b_beginX, b_beginY, b_endX, b_endY, b_fromX, b_fromY, b_toX, b_toY, b_operand) (iZ xx) (iZ yy)) := by
  rcases hp with ⟨rfl, rfl, rfl, rfl, rfl⟩ | ⟨rfl, E, C, Q, pe, rfl, rfl, rfl, rfl, rfl, q1, q2, n1, n2, n3, n4, p1, p2, p3, pc⟩
  · have nw := pc_mv1 (pc_nil (x1 := a_x1) (y1 := a_y1) (x2 := a_x2) (y2 := a_y2) (ex := a_extra) (fx := b_fromX) (fy := b_fromY) (tx := b_toX) (ty := b_toY) (dx := b_endX) (dy := b_endY) (bx := b_beginX) (by_ := b_beginY) (E := 0) (C := 0) (Q := 0) rfl rfl rfl) (rg_z hx) (rg_z hy)
    refine ⟨0, 0, 1, iZ x, iZ y, iZ x, iZ y, iZ x, iZ y, nI (0 + 1), 0, 0, a_x1, a_y1, a_x2, a_y2, a_extra, upd b_beginX 0 (iZ x), upd b_beginY 0 (iZ y), upd b_endX 0 (iZ x), upd b_endY 0 (iZ y), b_fromX, b_fromY, b_toX, b_toY, ?_, fun post h => ?_, fun post h => ?_⟩
    · exact Or.inr ⟨rfl, 0, 0, 0, 0, rfl, rfl, rfl, rfl, rfl, by omega, by omega, pk_us.symm, pk_us.symm, pk_us.symm, pk_us.symm, fun _ => ⟨rfl, rfl⟩, fun z => by omega, fun z => absurd ⟨rfl, rfl⟩ z, nw⟩
    · unfold wpX_move wpX_finish
      exact br_t rfl h
    · refine yy_moveTo (Q := 0) (C := 0) (pe := 0) hs hM hxx hyy (by omega) (by omega) (by omega) (fun z => by omega) (fun z => ?_) (fun _ _ _ => ?_) (fun _ _ z => by omega)
      · rw [ex, ey] at z; exact absurd ⟨hx, hy⟩ z
      · rw [ex, ey]; exact h
  · have pc2 := pc
    obtain ⟨a1, a2, a3, a4, a5, _, _⟩ := pc2
    have r := a5 Q (by omega)
    have rx : rg f_nowX := by rw [n1]; exact r.1
    have ry : rg f_nowY := by rw [n2]; exact r.2.1
    have rsx : rg f_startX := by rw [n3]; exact r.2.2.1
    have rsy : rg f_startY := by rw [n4]; exact r.2.2.2
    obtain ⟨nx, e1, bx⟩ := rg_i rx
    obtain ⟨ny, e2, by_⟩ := rg_i ry
    obtain ⟨sx, e3, bsx⟩ := rg_i rsx
    obtain ⟨sy, e4, bsy⟩ := rg_i rsy
    have yes : nx = sx → ny = sy → f_nowX = f_startX ∧ f_nowY = f_startY := fun z1 z2 => ⟨by rw [e1, e3, z1], by rw [e2, e4, z2]⟩
    have yes' : f_nowX = f_startX ∧ f_nowY = f_startY → nx = sx ∧ ny = sy := by
      rintro ⟨z1, z2⟩
      rw [e1, e3, iz_eq (by omega) (by omega)] at z1
      rw [e2, e4, iz_eq (by omega) (by omega)] at z2
      exact ⟨z1, z2⟩
    by_cases same : nx = sx ∧ ny = sy
    · have sm2 := yes same.1 same.2
      have fin := pc_fin0 pc sm2.1 sm2.2
      have xw : ∀ post : SX → Prop, post (f_drafted, f_revisions, f_depth, f_known, f_saved, nI E, nI C, 1, iZ x, iZ y, iZ x, iZ y, f_low, f_high, iZ x, iZ y, f_layer, f_fault, f_faultAt, f_units, f_used, a_draftKind, a_draftValue, a_streamOf, a_sizes, a_before, a_newest, a_opCount, a_ops, a_opAt, a_numbers, a_running, a_next, a_floor, a_mix, a_matrix, a_colour, a_width, a_clip, a_x1, a_y1, a_x2, a_y2, a_extra, a_winding, a_crossings, a_pixels, a_painter) → wpX_move post (f_drafted, f_revisions, f_depth, f_known, f_saved, nI E, nI C, 1, f_startX, f_startY, f_nowX, f_nowY, f_low, f_high, iZ x, iZ y, f_layer, f_fault, f_faultAt, f_units, f_used, a_draftKind, a_draftValue, a_streamOf, a_sizes, a_before, a_newest, a_opCount, a_ops, a_opAt, a_numbers, a_running, a_next, a_floor, a_mix, a_matrix, a_colour, a_width, a_clip, a_x1, a_y1, a_x2, a_y2, a_extra, a_winding, a_crossings, a_pixels, a_painter) := by
        intro post h
        subst e1 e2 e3 e4
        unfold wpX_move
        exact xx_finish (by omega) bsx bsy bx by_ (fun _ _ => h) (fun z => absurd same z)
      by_cases hpe : pe = 0
      · have nw := pc_mv0 fin (by rw [← n1, ← n3]; exact sm2.1) (by rw [← n2, ← n4]; exact sm2.2) (rg_z hx) (rg_z hy)
        refine ⟨nI E, nI C, 1, iZ x, iZ y, iZ x, iZ y, iZ x, iZ y, nI (Q + 1), nI C, 0, a_x1, a_y1, a_x2, a_y2, a_extra, upd b_beginX Q (iZ x), upd b_beginY Q (iZ y), upd b_endX Q (iZ x), upd b_endY Q (iZ y), b_fromX, b_fromY, b_toX, b_toY, ?_, xw, fun post h => ?_⟩
        · exact Or.inr ⟨rfl, E, C, Q, 0, rfl, rfl, rfl, rfl, rfl, by omega, by omega, pk_us.symm, pk_us.symm, pk_us.symm, pk_us.symm, fun _ => ⟨rfl, rfl⟩, fun z => by omega, fun z => absurd ⟨rfl, rfl⟩ z, nw⟩
        · refine yy_moveTo (Q := Q + 1) (pe := pe) hs hM hxx hyy (by omega) a2 (by omega) (fun _ => rfl) (fun z => ?_) (fun _ _ z => by omega) (fun _ _ _ _ => ?_)
          · rw [ex, ey] at z; exact absurd ⟨hx, hy⟩ z
          · rw [ex, ey, Nat.add_sub_cancel]; exact h
      · have nw := pc_mv1 fin (rg_z hx) (rg_z hy)
        refine ⟨nI E, nI C, 1, iZ x, iZ y, iZ x, iZ y, iZ x, iZ y, nI (Q + 1 + 1), nI C, 0, a_x1, a_y1, a_x2, a_y2, a_extra, upd b_beginX (Q + 1) (iZ x), upd b_beginY (Q + 1) (iZ y), upd b_endX (Q + 1) (iZ x), upd b_endY (Q + 1) (iZ y), b_fromX, b_fromY, b_toX, b_toY, ?_, xw, fun post h => ?_⟩
        · exact Or.inr ⟨rfl, E, C, Q + 1, 0, rfl, rfl, rfl, rfl, rfl, p2 (by omega), by omega, pk_us.symm, pk_us.symm, pk_us.symm, pk_us.symm, fun _ => ⟨rfl, rfl⟩, fun z => by omega, fun z => absurd ⟨rfl, rfl⟩ z, nw⟩
        · refine yy_moveTo (Q := Q + 1) (pe := pe) hs hM hxx hyy (by omega) a2 (by omega) (fun _ => rfl) (fun z => ?_) (fun _ _ _ => ?_) (fun _ _ _ z => by omega)
          · rw [ex, ey] at z; exact absurd ⟨hx, hy⟩ z
          · rw [ex, ey]; exact h
    · have ns : ¬ (f_nowX = f_startX ∧ f_nowY = f_startY) := fun z => same (yes' z)
      have hpe : pe ≠ 0 := fun z => ns (p1 z)
      have hE2 := p3 ns
      have fin := pc_fin1 pc hE2 rx ry rsx rsy
      have nw := pc_mv1 fin (rg_z hx) (rg_z hy)
      refine ⟨nI (E + 1), nI C, 1, iZ x, iZ y, iZ x, iZ y, iZ x, iZ y, nI (Q + 1 + 1), nI C, 0, upd a_x1 E f_nowX, upd a_y1 E f_nowY, upd a_x2 E f_startX, upd a_y2 E f_startY, upd a_extra E 1, upd b_beginX (Q + 1) (iZ x), upd b_beginY (Q + 1) (iZ y), upd b_endX (Q + 1) (iZ x), upd b_endY (Q + 1) (iZ y), b_fromX, b_fromY, b_toX, b_toY, ?_, fun post h => ?_, fun post h => ?_⟩
      · exact Or.inr ⟨rfl, E + 1, C, Q + 1, 0, rfl, rfl, rfl, rfl, rfl, p2 (by omega), by omega, pk_us.symm, pk_us.symm, pk_us.symm, pk_us.symm, fun _ => ⟨rfl, rfl⟩, fun z => by omega, fun z => absurd ⟨rfl, rfl⟩ z, nw⟩
      · subst e1 e2 e3 e4
        unfold wpX_move
        exact xx_finish (by omega) bsx bsy bx by_ (fun z1 z2 => absurd ⟨z1, z2⟩ same) (fun _ => h)
      · refine yy_moveTo (Q := Q + 1) (pe := pe) hs hM hxx hyy (by omega) a2 (by omega) (fun _ => rfl) (fun z => ?_) (fun _ _ _ => ?_) (fun _ _ _ z => by omega)
        · rw [ex, ey] at z; exact absurd ⟨hx, hy⟩ z
        · rw [ex, ey]; exact h
/-- how many parts and edges Y may have -/
theorem pa_b (hp : (rPa f_edges f_counted f_begun f_startX f_startY f_nowX f_nowY a_x1 a_y1 a_x2 a_y2 a_extra g_parts g_edges g_partEdges b_beginX b_beginY b_endX b_endY b_fromX b_fromY b_toX b_toY)) : ∃ Q C : Nat, Q < 30 ∧ C ≤ 24 ∧ g_parts = nI Q ∧ g_edges = nI C := by
  rcases hp with ⟨rfl, rfl, rfl, rfl, rfl⟩ | ⟨rfl, E, C, Q, pe, rfl, rfl, rfl, rfl, rfl, q1, q2, n1, n2, n3, n4, p1, p2, p3, pc⟩
  · exact ⟨0, 0, by omega, by omega, rfl, rfl⟩
  · obtain ⟨a1, a2, _⟩ := pc
    exact ⟨Q + 1, C, by omega, a2, rfl, rfl⟩
theorem pXY_c {a b : Nat → Int32} {s : Nat} (h : ∀ k, k < 6 * s + 6 → b k = a k) (x y : Int) : pX b s x y = pX a s x y ∧ pY b s x y = pY a s x y := by
  unfold pX pY
  rw [h (6 * s) (by omega), h (6 * s + 1) (by omega), h (6 * s + 2) (by omega), h (6 * s + 3) (by omega), h (6 * s + 4) (by omega), h (6 * s + 5) (by omega)]
  exact ⟨rfl, rfl⟩
theorem mxr_c {a b : Nat → Int32} {s : Nat} (h : ∀ k, k < 6 * s + 6 → b k = a k) (hM : mxr s a) : mxr s b := by
  intro k hk
  rw [h k hk]; exact hM k hk
/-- a point, then a line to it: X's two calls, Y's lineTo -/
theorem j_lineTo {s pl : Nat} {xx yy : Int} (hp : (rPa f_edges f_counted f_begun f_startX f_startY f_nowX f_nowY a_x1 a_y1 a_x2 a_y2 a_extra g_parts g_edges g_partEdges b_beginX b_beginY b_endX b_endY b_fromX b_fromY b_toX b_toY)) (hs : s < 7) (hM : mxr s a_matrix) (hE : ∀ k, k < 6 * s + 6 → b_matrix k = a_matrix k) (hxx : -2000 ≤ xx ∧ xx ≤ 2000) (hyy : -2000 ≤ yy ∧ yy ≤ 2000) (hf : fl f_depth a_running a_next a_streamOf a_opAt pl) :
    (∃ (w : Int32) (px py : Int32), w ≠ 0 ∧ (∀ post : Int32 → SX → Prop, post 0 (f_drafted, f_revisions, f_depth, f_known, nI s, f_edges, f_counted, f_begun, f_startX, f_startY, f_nowX, f_nowY, f_low, f_high, px, py, f_layer, w, nI pl, f_units, f_used, a_draftKind, a_draftValue, a_streamOf, a_sizes, a_before, a_newest, a_opCount, a_ops, a_opAt, a_numbers, a_running, a_next, a_floor, a_mix, a_matrix, a_colour, a_width, a_clip, a_x1, a_y1, a_x2, a_y2, a_extra, a_winding, a_crossings, a_pixels, a_painter) → wpX_point post (f_drafted, f_revisions, f_depth, f_known, nI s, f_edges, f_counted, f_begun, f_startX, f_startY, f_nowX, f_nowY, f_low, f_high, f_pointX, f_pointY, f_layer, f_fault, f_faultAt, f_units, f_used, a_draftKind, a_draftValue, a_streamOf, a_sizes, a_before, a_newest, a_opCount, a_ops, a_opAt, a_numbers, a_running, a_next, a_floor, a_mix, a_matrix, a_colour, a_width, a_clip, a_x1, a_y1, a_x2, a_y2, a_extra, a_winding, a_crossings, a_pixels, a_painter) (iZ xx) (iZ yy)) ∧ (∀ post : SY → Prop, post (g_revisions, g_shown, nI s, g_layer, g_depth, g_parts, g_edges, g_operands, g_units, w, g_where, g_partEdges, b_stream, b_length, b_kind, b_num, b_matrix, b_colour, b_width, b_clip, b_paint, b_painter, b_running, b_at, b_saves, b_below, b_mixture, b_beginX, b_beginY, b_endX, b_endY, b_fromX, b_fromY, b_toX, b_toY, b_operand) → wpY_lineTo post (g_revisions, g_shown, nI s, g_layer, g_depth, g_parts, g_edges, g_operands, g_units, g_fault, g_where, g_partEdges, b_stream, b_length, b_kind, b_num, b_matrix, b_colour, b_width, b_clip, b_paint, b_painter, b_running, b_at, b_saves, b_below, b_mixture, b_beginX, b_beginY, b_endX, b_endY, b_fromX, b_fromY, b_toX, b_toY, b_operand) (iZ xx) (iZ yy)))
    ∨ (∃ px py : Int32, (∀ post : Int32 → SX → Prop, post 1 (f_drafted, f_revisions, f_depth, f_known, nI s, f_edges, f_counted, f_begun, f_startX, f_startY, f_nowX, f_nowY, f_low, f_high, px, py, f_layer, f_fault, f_faultAt, f_units, f_used, a_draftKind, a_draftValue, a_streamOf, a_sizes, a_before, a_newest, a_opCount, a_ops, a_opAt, a_numbers, a_running, a_next, a_floor, a_mix, a_matrix, a_colour, a_width, a_clip, a_x1, a_y1, a_x2, a_y2, a_extra, a_winding, a_crossings, a_pixels, a_painter) → wpX_point post (f_drafted, f_revisions, f_depth, f_known, nI s, f_edges, f_counted, f_begun, f_startX, f_startY, f_nowX, f_nowY, f_low, f_high, f_pointX, f_pointY, f_layer, f_fault, f_faultAt, f_units, f_used, a_draftKind, a_draftValue, a_streamOf, a_sizes, a_before, a_newest, a_opCount, a_ops, a_opAt, a_numbers, a_running, a_next, a_floor, a_mix, a_matrix, a_colour, a_width, a_clip, a_x1, a_y1, a_x2, a_y2, a_extra, a_winding, a_crossings, a_pixels, a_painter) (iZ xx) (iZ yy)) ∧
      ((∃ w : Int32, w ≠ 0 ∧ (∀ post : SX → Prop, post (f_drafted, f_revisions, f_depth, f_known, nI s, f_edges, f_counted, f_begun, f_startX, f_startY, f_nowX, f_nowY, f_low, f_high, px, py, f_layer, w, nI pl, f_units, f_used, a_draftKind, a_draftValue, a_streamOf, a_sizes, a_before, a_newest, a_opCount, a_ops, a_opAt, a_numbers, a_running, a_next, a_floor, a_mix, a_matrix, a_colour, a_width, a_clip, a_x1, a_y1, a_x2, a_y2, a_extra, a_winding, a_crossings, a_pixels, a_painter) → wpX_line post (f_drafted, f_revisions, f_depth, f_known, nI s, f_edges, f_counted, f_begun, f_startX, f_startY, f_nowX, f_nowY, f_low, f_high, px, py, f_layer, f_fault, f_faultAt, f_units, f_used, a_draftKind, a_draftValue, a_streamOf, a_sizes, a_before, a_newest, a_opCount, a_ops, a_opAt, a_numbers, a_running, a_next, a_floor, a_mix, a_matrix, a_colour, a_width, a_clip, a_x1, a_y1, a_x2, a_y2, a_extra, a_winding, a_crossings, a_pixels, a_painter) px py) ∧ (∀ post : SY → Prop, post (g_revisions, g_shown, nI s, g_layer, g_depth, g_parts, g_edges, g_operands, g_units, w, g_where, g_partEdges, b_stream, b_length, b_kind, b_num, b_matrix, b_colour, b_width, b_clip, b_paint, b_painter, b_running, b_at, b_saves, b_below, b_mixture, b_beginX, b_beginY, b_endX, b_endY, b_fromX, b_fromY, b_toX, b_toY, b_operand) → wpY_lineTo post (g_revisions, g_shown, nI s, g_layer, g_depth, g_parts, g_edges, g_operands, g_units, g_fault, g_where, g_partEdges, b_stream, b_length, b_kind, b_num, b_matrix, b_colour, b_width, b_clip, b_paint, b_painter, b_running, b_at, b_saves, b_below, b_mixture, b_beginX, b_beginY, b_endX, b_endY, b_fromX, b_fromY, b_toX, b_toY, b_operand) (iZ xx) (iZ yy)))
      ∨ (∃ (c_edges c_counted c_begun c_startX c_startY c_nowX c_nowY c_pointX c_pointY h_parts h_edges h_partEdges : Int32) (c_x1 c_y1 c_x2 c_y2 c_extra h_beginX h_beginY h_endX h_endY h_fromX h_fromY h_toX h_toY : Nat → Int32), (rPa c_edges c_counted c_begun c_startX c_startY c_nowX c_nowY c_x1 c_y1 c_x2 c_y2 c_extra h_parts h_edges h_partEdges h_beginX h_beginY h_endX h_endY h_fromX h_fromY h_toX h_toY) ∧ (∀ post : SX → Prop, post (f_drafted, f_revisions, f_depth, f_known, nI s, c_edges, c_counted, c_begun, c_startX, c_startY, c_nowX, c_nowY, f_low, f_high, c_pointX, c_pointY, f_layer, f_fault, f_faultAt, f_units, f_used, a_draftKind, a_draftValue, a_streamOf, a_sizes, a_before, a_newest, a_opCount, a_ops, a_opAt, a_numbers, a_running, a_next, a_floor, a_mix, a_matrix, a_colour, a_width, a_clip, c_x1, c_y1, c_x2, c_y2, c_extra, a_winding, a_crossings, a_pixels, a_painter) → wpX_line post (f_drafted, f_revisions, f_depth, f_known, nI s, f_edges, f_counted, f_begun, f_startX, f_startY, f_nowX, f_nowY, f_low, f_high, px, py, f_layer, f_fault, f_faultAt, f_units, f_used, a_draftKind, a_draftValue, a_streamOf, a_sizes, a_before, a_newest, a_opCount, a_ops, a_opAt, a_numbers, a_running, a_next, a_floor, a_mix, a_matrix, a_colour, a_width, a_clip, a_x1, a_y1, a_x2, a_y2, a_extra, a_winding, a_crossings, a_pixels, a_painter) px py) ∧ (∀ post : SY → Prop, post (g_revisions, g_shown, nI s, g_layer, g_depth, h_parts, h_edges, g_operands, g_units, g_fault, g_where, h_partEdges, b_stream, b_length, b_kind, b_num, b_matrix, b_colour, b_width, b_clip, b_paint, b_painter, b_running, b_at, b_saves, b_below, b_mixture, h_beginX, h_beginY, h_endX, h_endY, h_fromX, h_fromY, h_toX, h_toY, b_operand) → wpY_lineTo post (g_revisions, g_shown, nI s, g_layer, g_depth, g_parts, g_edges, g_operands, g_units, g_fault, g_where, g_partEdges, b_stream, b_length, b_kind, b_num, b_matrix, b_colour, b_width, b_clip, b_paint, b_painter, b_running, b_at, b_saves, b_below, b_mixture, b_beginX, b_beginY, b_endX, b_endY, b_fromX, b_fromY, b_toX, b_toY, b_operand) (iZ xx) (iZ yy))))) := by
  have eq := pXY_c hE xx yy
  have hM2 := mxr_c hE hM
  obtain ⟨Q, C, hQ, hC, eQ, eC⟩ := pa_b hp
  by_cases near : (-4000 ≤ pX a_matrix s xx yy ∧ pX a_matrix s xx yy ≤ 4000) ∧ (-4000 ≤ pY a_matrix s xx yy ∧ pY a_matrix s xx yy ≤ 4000)
  · refine Or.inr ⟨iZ (pX a_matrix s xx yy), iZ (pY a_matrix s xx yy), fun post h => xx_point hs hM hxx hyy hf (fun _ _ => h) (fun z => absurd near z), ?_⟩
    have yl : ∀ post : SY → Prop, wpY_edge post (g_revisions, g_shown, nI s, g_layer, g_depth, g_parts, g_edges, g_operands, g_units, g_fault, g_where, g_partEdges, b_stream, b_length, b_kind, b_num, b_matrix, b_colour, b_width, b_clip, b_paint, b_painter, b_running, b_at, b_saves, b_below, b_mixture, b_beginX, b_beginY, b_endX, b_endY, b_fromX, b_fromY, b_toX, b_toY, b_operand) (iZ (pX a_matrix s xx yy)) (iZ (pY a_matrix s xx yy)) → wpY_lineTo post (g_revisions, g_shown, nI s, g_layer, g_depth, g_parts, g_edges, g_operands, g_units, g_fault, g_where, g_partEdges, b_stream, b_length, b_kind, b_num, b_matrix, b_colour, b_width, b_clip, b_paint, b_painter, b_running, b_at, b_saves, b_below, b_mixture, b_beginX, b_beginY, b_endX, b_endY, b_fromX, b_fromY, b_toX, b_toY, b_operand) (iZ xx) (iZ yy) := by
      intro post h
      subst eQ eC
      refine yy_lineTo hs hM2 hxx hyy hQ hC (fun z => ?_) (fun _ _ => ?_)
      · rw [eq.1, eq.2] at z; exact absurd near z
      · rw [eq.1, eq.2]; exact h
    have J := j_line (f_drafted := f_drafted) (f_revisions := f_revisions) (f_depth := f_depth) (f_known := f_known) (f_saved := nI s) (f_edges := f_edges) (f_counted := f_counted) (f_begun := f_begun) (f_startX := f_startX) (f_startY := f_startY) (f_nowX := f_nowX) (f_nowY := f_nowY) (f_low := f_low) (f_high := f_high) (f_pointX := iZ (pX a_matrix s xx yy)) (f_pointY := iZ (pY a_matrix s xx yy)) (f_layer := f_layer) (f_fault := f_fault) (f_faultAt := f_faultAt) (f_units := f_units) (f_used := f_used) (a_draftKind := a_draftKind) (a_draftValue := a_draftValue) (a_streamOf := a_streamOf) (a_sizes := a_sizes) (a_before := a_before) (a_newest := a_newest) (a_opCount := a_opCount) (a_ops := a_ops) (a_opAt := a_opAt) (a_numbers := a_numbers) (a_running := a_running) (a_next := a_next) (a_floor := a_floor) (a_mix := a_mix) (a_matrix := a_matrix) (a_colour := a_colour) (a_width := a_width) (a_clip := a_clip) (a_x1 := a_x1) (a_y1 := a_y1) (a_x2 := a_x2) (a_y2 := a_y2) (a_extra := a_extra) (a_winding := a_winding) (a_crossings := a_crossings) (a_pixels := a_pixels) (a_painter := a_painter) (g_revisions := g_revisions) (g_shown := g_shown) (g_level := nI s) (g_layer := g_layer) (g_depth := g_depth) (g_parts := g_parts) (g_edges := g_edges) (g_operands := g_operands) (g_units := g_units) (g_fault := g_fault) (g_where := g_where) (g_partEdges := g_partEdges) (b_stream := b_stream) (b_length := b_length) (b_kind := b_kind) (b_num := b_num) (b_matrix := b_matrix) (b_colour := b_colour) (b_width := b_width) (b_clip := b_clip) (b_paint := b_paint) (b_painter := b_painter) (b_running := b_running) (b_at := b_at) (b_saves := b_saves) (b_below := b_below) (b_mixture := b_mixture) (b_beginX := b_beginX) (b_beginY := b_beginY) (b_endX := b_endX) (b_endY := b_endY) (b_fromX := b_fromX) (b_fromY := b_fromY) (b_toX := b_toX) (b_toY := b_toY) (b_operand := b_operand) hp near.1 near.2 hf
    rcases J with ⟨w, hw, k1, k2⟩ | ⟨c_edges, c_counted, c_begun, c_startX, c_startY, c_nowX, c_nowY, c_pointX, c_pointY, h_parts, h_edges, h_partEdges, c_x1, c_y1, c_x2, c_y2, c_extra, h_beginX, h_beginY, h_endX, h_endY, h_fromX, h_fromY, h_toX, h_toY, k0, k1, k2⟩
    · exact Or.inl ⟨w, hw, k1, fun post h => yl post (k2 post h)⟩
    · refine Or.inr ⟨c_edges, c_counted, c_begun, c_startX, c_startY, c_nowX, c_nowY, iZ (pX a_matrix s xx yy), iZ (pY a_matrix s xx yy), h_parts, h_edges, h_partEdges, c_x1, c_y1, c_x2, c_y2, c_extra, h_beginX, h_beginY, h_endX, h_endY, h_fromX, h_fromY, h_toX, h_toY, k0, k1, fun post h => yl post (k2 post h)⟩
  · refine Or.inl ⟨3, iZ (pX a_matrix s xx yy), iZ (pY a_matrix s xx yy), by decide, fun post h => xx_point hs hM hxx hyy hf (fun z1 z2 => absurd ⟨z1, z2⟩ near) (fun _ => h), fun post h => ?_⟩
    subst eQ eC
    refine yy_lineTo hs hM2 hxx hyy hQ hC (fun _ => h) (fun z1 z2 => ?_)
    rw [eq.1] at z1
    rw [eq.2] at z2
    exact absurd ⟨z1, z2⟩ near
/-- one side of a rectangle -/
theorem j_side {s pl k : Nat} {xx yy : Int} (x1 x2 x3 x4 : Int32) (hp : (rPa f_edges f_counted f_begun f_startX f_startY f_nowX f_nowY a_x1 a_y1 a_x2 a_y2 a_extra g_parts g_edges g_partEdges b_beginX b_beginY b_endX b_endY b_fromX b_fromY b_toX b_toY)) (hs : s < 7) (hM : mxr s a_matrix) (hE : ∀ k, k < 6 * s + 6 → b_matrix k = a_matrix k) (hxx : -2000 ≤ xx ∧ xx ≤ 2000) (hyy : -2000 ≤ yy ∧ yy ≤ 2000) (hf : fl f_depth a_running a_next a_streamOf a_opAt pl) :
    (∃ (w : Int32), w ≠ 0 ∧ ∃ px py : Int32, (∀ (post : SX → Prop) (J : Int32 → Int32 → Int32 → Int32 → Int32 → Int32 → Int32 → Int32 → Int32 → Int32 → Int32 → Int32 → Int32 → Int32 → Int32 → Int32 → Int32 → Int32 → Int32 → Int32 → Int32 → Int32 → (Nat → Int32) → (Nat → Int32) → (Nat → Int32) → (Nat → Int32) → (Nat → Int32) → (Nat → Int32) → (Nat → Int32) → (Nat → Int32) → (Nat → Int32) → (Nat → Int32) → (Nat → Int32) → (Nat → Int32) → (Nat → Int32) → (Nat → Int32) → (Nat → Int32) → (Nat → Int32) → (Nat → Int32) → (Nat → Int32) → (Nat → Int32) → (Nat → Int32) → (Nat → Int32) → (Nat → Int32) → (Nat → Int32) → (Nat → Int32) → (Nat → Int32) → (Nat → Int32) → (Nat → Int32) → Prop), post (f_drafted, f_revisions, f_depth, f_known, nI s, f_edges, f_counted, f_begun, f_startX, f_startY, f_nowX, f_nowY, f_low, f_high, px, py, f_layer, w, nI pl, f_units, f_used, a_draftKind, a_draftValue, a_streamOf, a_sizes, a_before, a_newest, a_opCount, a_ops, a_opAt, a_numbers, a_running, a_next, a_floor, a_mix, a_matrix, a_colour, a_width, a_clip, a_x1, a_y1, a_x2, a_y2, a_extra, a_winding, a_crossings, a_pixels, a_painter) → wX_rectangle_51 post J x1 x2 x3 x4 (nI k) (iZ yy) (iZ xx) f_drafted f_revisions f_depth f_known (nI s) f_edges f_counted f_begun f_startX f_startY f_nowX f_nowY f_low f_high f_pointX f_pointY f_layer 0 f_faultAt f_units f_used a_draftKind a_draftValue a_streamOf a_sizes a_before a_newest a_opCount a_ops a_opAt a_numbers a_running a_next a_floor a_mix a_matrix a_colour a_width a_clip a_x1 a_y1 a_x2 a_y2 a_extra a_winding a_crossings a_pixels a_painter) ∧ (∀ post : SY → Prop, post (g_revisions, g_shown, nI s, g_layer, g_depth, g_parts, g_edges, g_operands, g_units, w, g_where, g_partEdges, b_stream, b_length, b_kind, b_num, b_matrix, b_colour, b_width, b_clip, b_paint, b_painter, b_running, b_at, b_saves, b_below, b_mixture, b_beginX, b_beginY, b_endX, b_endY, b_fromX, b_fromY, b_toX, b_toY, b_operand) → wpY_lineTo post (g_revisions, g_shown, nI s, g_layer, g_depth, g_parts, g_edges, g_operands, g_units, 0, g_where, g_partEdges, b_stream, b_length, b_kind, b_num, b_matrix, b_colour, b_width, b_clip, b_paint, b_painter, b_running, b_at, b_saves, b_below, b_mixture, b_beginX, b_beginY, b_endX, b_endY, b_fromX, b_fromY, b_toX, b_toY, b_operand) (iZ xx) (iZ yy)))
    ∨ (∃ (c_edges c_counted c_begun c_startX c_startY c_nowX c_nowY c_pointX c_pointY h_parts h_edges h_partEdges : Int32) (c_x1 c_y1 c_x2 c_y2 c_extra h_beginX h_beginY h_endX h_endY h_fromX h_fromY h_toX h_toY : Nat → Int32), (rPa c_edges c_counted c_begun c_startX c_startY c_nowX c_nowY c_x1 c_y1 c_x2 c_y2 c_extra h_parts h_edges h_partEdges h_beginX h_beginY h_endX h_endY h_fromX h_fromY h_toX h_toY) ∧ (∀ (post : SX → Prop) (J : Int32 → Int32 → Int32 → Int32 → Int32 → Int32 → Int32 → Int32 → Int32 → Int32 → Int32 → Int32 → Int32 → Int32 → Int32 → Int32 → Int32 → Int32 → Int32 → Int32 → Int32 → Int32 → (Nat → Int32) → (Nat → Int32) → (Nat → Int32) → (Nat → Int32) → (Nat → Int32) → (Nat → Int32) → (Nat → Int32) → (Nat → Int32) → (Nat → Int32) → (Nat → Int32) → (Nat → Int32) → (Nat → Int32) → (Nat → Int32) → (Nat → Int32) → (Nat → Int32) → (Nat → Int32) → (Nat → Int32) → (Nat → Int32) → (Nat → Int32) → (Nat → Int32) → (Nat → Int32) → (Nat → Int32) → (Nat → Int32) → (Nat → Int32) → (Nat → Int32) → (Nat → Int32) → (Nat → Int32) → Prop), J (nI (k + 1)) f_drafted f_revisions f_depth f_known (nI s) c_edges c_counted c_begun c_startX c_startY c_nowX c_nowY f_low f_high c_pointX c_pointY f_layer 0 f_faultAt f_units f_used a_draftKind a_draftValue a_streamOf a_sizes a_before a_newest a_opCount a_ops a_opAt a_numbers a_running a_next a_floor a_mix a_matrix a_colour a_width a_clip c_x1 c_y1 c_x2 c_y2 c_extra a_winding a_crossings a_pixels a_painter → wX_rectangle_51 post J x1 x2 x3 x4 (nI k) (iZ yy) (iZ xx) f_drafted f_revisions f_depth f_known (nI s) f_edges f_counted f_begun f_startX f_startY f_nowX f_nowY f_low f_high f_pointX f_pointY f_layer 0 f_faultAt f_units f_used a_draftKind a_draftValue a_streamOf a_sizes a_before a_newest a_opCount a_ops a_opAt a_numbers a_running a_next a_floor a_mix a_matrix a_colour a_width a_clip a_x1 a_y1 a_x2 a_y2 a_extra a_winding a_crossings a_pixels a_painter) ∧ (∀ post : SY → Prop, post (g_revisions, g_shown, nI s, g_layer, g_depth, h_parts, h_edges, g_operands, g_units, 0, g_where, h_partEdges, b_stream, b_length, b_kind, b_num, b_matrix, b_colour, b_width, b_clip, b_paint, b_painter, b_running, b_at, b_saves, b_below, b_mixture, h_beginX, h_beginY, h_endX, h_endY, h_fromX, h_fromY, h_toX, h_toY, b_operand) → wpY_lineTo post (g_revisions, g_shown, nI s, g_layer, g_depth, g_parts, g_edges, g_operands, g_units, 0, g_where, g_partEdges, b_stream, b_length, b_kind, b_num, b_matrix, b_colour, b_width, b_clip, b_paint, b_painter, b_running, b_at, b_saves, b_below, b_mixture, b_beginX, b_beginY, b_endX, b_endY, b_fromX, b_fromY, b_toX, b_toY, b_operand) (iZ xx) (iZ yy))) := by
  have J := j_lineTo (f_drafted := f_drafted) (f_revisions := f_revisions) (f_depth := f_depth) (f_known := f_known) (f_edges := f_edges) (f_counted := f_counted) (f_begun := f_begun) (f_startX := f_startX) (f_startY := f_startY) (f_nowX := f_nowX) (f_nowY := f_nowY) (f_low := f_low) (f_high := f_high) (f_pointX := f_pointX) (f_pointY := f_pointY) (f_layer := f_layer) (f_fault := 0) (f_faultAt := f_faultAt) (f_units := f_units) (f_used := f_used) (a_draftKind := a_draftKind) (a_draftValue := a_draftValue) (a_streamOf := a_streamOf) (a_sizes := a_sizes) (a_before := a_before) (a_newest := a_newest) (a_opCount := a_opCount) (a_ops := a_ops) (a_opAt := a_opAt) (a_numbers := a_numbers) (a_running := a_running) (a_next := a_next) (a_floor := a_floor) (a_mix := a_mix) (a_matrix := a_matrix) (a_colour := a_colour) (a_width := a_width) (a_clip := a_clip) (a_x1 := a_x1) (a_y1 := a_y1) (a_x2 := a_x2) (a_y2 := a_y2) (a_extra := a_extra) (a_winding := a_winding) (a_crossings := a_crossings) (a_pixels := a_pixels) (a_painter := a_painter) (g_revisions := g_revisions) (g_shown := g_shown) (g_layer := g_layer) (g_depth := g_depth) (g_parts := g_parts) (g_edges := g_edges) (g_operands := g_operands) (g_units := g_units) (g_fault := 0) (g_where := g_where) (g_partEdges := g_partEdges) (b_stream := b_stream) (b_length := b_length) (b_kind := b_kind) (b_num := b_num) (b_matrix := b_matrix) (b_colour := b_colour) (b_width := b_width) (b_clip := b_clip) (b_paint := b_paint) (b_painter := b_painter) (b_running := b_running) (b_at := b_at) (b_saves := b_saves) (b_below := b_below) (b_mixture := b_mixture) (b_beginX := b_beginX) (b_beginY := b_beginY) (b_endX := b_endX) (b_endY := b_endY) (b_fromX := b_fromX) (b_fromY := b_fromY) (b_toX := b_toX) (b_toY := b_toY) (b_operand := b_operand) hp hs hM hE hxx hyy hf
  rcases J with ⟨w, px, py, hw, k1, k2⟩ | ⟨px, py, k0, ⟨w, hw, k1, k2⟩ | ⟨c_edges, c_counted, c_begun, c_startX, c_startY, c_nowX, c_nowY, c_pointX, c_pointY, h_parts, h_edges, h_partEdges, c_x1, c_y1, c_x2, c_y2, c_extra, h_beginX, h_beginY, h_endX, h_endY, h_fromX, h_fromY, h_toX, h_toY, kp, k1, k2⟩⟩
  · refine Or.inl ⟨w, hw, px, py, fun post J h => ?_, k2⟩
    unfold wX_rectangle_51
    exact k1 _ (br_t rfl h)
  · refine Or.inl ⟨w, hw, px, py, fun post J h => ?_, k2⟩
    unfold wX_rectangle_51
    exact k0 _ (br_f (by decide) (k1 _ (br_f hw h)))
  · refine Or.inr ⟨c_edges, c_counted, c_begun, c_startX, c_startY, c_nowX, c_nowY, c_pointX, c_pointY, h_parts, h_edges, h_partEdges, c_x1, c_y1, c_x2, c_y2, c_extra, h_beginX, h_beginY, h_endX, h_endY, h_fromX, h_fromY, h_toX, h_toY, kp, fun post J h => ?_, k2⟩
    unfold wX_rectangle_51
    exact k0 _ (br_f (by decide) (k1 _ (br_t rfl (nm_r (nI_1 k) h))))
end
end
section
/-! lockstep: rectangle -/
section
variable {f_drafted f_revisions f_depth f_known f_saved f_edges f_counted f_begun f_startX f_startY f_nowX f_nowY f_low f_high f_pointX f_pointY f_layer f_fault f_faultAt f_units f_used : Int32} {a_draftKind a_draftValue a_streamOf a_sizes a_before a_newest a_opCount a_ops a_opAt a_numbers a_running a_next a_floor a_mix a_matrix a_colour a_width a_clip a_x1 a_y1 a_x2 a_y2 a_extra a_winding a_crossings a_pixels a_painter : Nat → Int32}
variable {g_revisions g_shown g_level g_layer g_depth g_parts g_edges g_operands g_units g_fault g_where g_partEdges : Int32} {b_stream b_length b_kind b_num b_matrix b_colour b_width b_clip b_paint b_painter b_running b_at b_saves b_below b_mixture b_beginX b_beginY b_endX b_endY b_fromX b_fromY b_toX b_toY b_operand : Nat → Int32}
theorem r17_1 {post : SX → Prop} {x y w h : Int} {n : Nat} (H : wX_rectangle_51 post (wX_rectangle_17 post (iZ x) (iZ y) (iZ w) (iZ h) n) (iZ x) (iZ y) (iZ w) (iZ h) (nI 1) (iZ y) (iZ (x + w)) f_drafted f_revisions f_depth f_known f_saved f_edges f_counted f_begun f_startX f_startY f_nowX f_nowY f_low f_high f_pointX f_pointY f_layer f_fault f_faultAt f_units f_used a_draftKind a_draftValue a_streamOf a_sizes a_before a_newest a_opCount a_ops a_opAt a_numbers a_running a_next a_floor a_mix a_matrix a_colour a_width a_clip a_x1 a_y1 a_x2 a_y2 a_extra a_winding a_crossings a_pixels a_painter) : wX_rectangle_17 post (iZ x) (iZ y) (iZ w) (iZ h) (n + 1) (nI 1) f_drafted f_revisions f_depth f_known f_saved f_edges f_counted f_begun f_startX f_startY f_nowX f_nowY f_low f_high f_pointX f_pointY f_layer f_fault f_faultAt f_units f_used a_draftKind a_draftValue a_streamOf a_sizes a_before a_newest a_opCount a_ops a_opAt a_numbers a_running a_next a_floor a_mix a_matrix a_colour a_width a_clip a_x1 a_y1 a_x2 a_y2 a_extra a_winding a_crossings a_pixels a_painter := by
  rw [wX_rectangle_17]
  refine br_f (by decide) (br_f (by decide) ?_)
  unfold wX_rectangle_37
  rw [iz_add x w]
  exact br_t (by decide) H
theorem r17_2 {post : SX → Prop} {x y w h : Int} {n : Nat} (H : wX_rectangle_51 post (wX_rectangle_17 post (iZ x) (iZ y) (iZ w) (iZ h) n) (iZ x) (iZ y) (iZ w) (iZ h) (nI 2) (iZ (y + h)) (iZ (x + w)) f_drafted f_revisions f_depth f_known f_saved f_edges f_counted f_begun f_startX f_startY f_nowX f_nowY f_low f_high f_pointX f_pointY f_layer f_fault f_faultAt f_units f_used a_draftKind a_draftValue a_streamOf a_sizes a_before a_newest a_opCount a_ops a_opAt a_numbers a_running a_next a_floor a_mix a_matrix a_colour a_width a_clip a_x1 a_y1 a_x2 a_y2 a_extra a_winding a_crossings a_pixels a_painter) : wX_rectangle_17 post (iZ x) (iZ y) (iZ w) (iZ h) (n + 1) (nI 2) f_drafted f_revisions f_depth f_known f_saved f_edges f_counted f_begun f_startX f_startY f_nowX f_nowY f_low f_high f_pointX f_pointY f_layer f_fault f_faultAt f_units f_used a_draftKind a_draftValue a_streamOf a_sizes a_before a_newest a_opCount a_ops a_opAt a_numbers a_running a_next a_floor a_mix a_matrix a_colour a_width a_clip a_x1 a_y1 a_x2 a_y2 a_extra a_winding a_crossings a_pixels a_painter := by
  rw [wX_rectangle_17]
  refine br_f (by decide) (br_f (by decide) ?_)
  unfold wX_rectangle_37
  rw [iz_add x w, iz_add y h]
  exact br_f (by decide) H
theorem r17_3 {post : SX → Prop} {x y w h : Int} {n : Nat} (H : wX_rectangle_51 post (wX_rectangle_17 post (iZ x) (iZ y) (iZ w) (iZ h) n) (iZ x) (iZ y) (iZ w) (iZ h) (nI 3) (iZ (y + h)) (iZ x) f_drafted f_revisions f_depth f_known f_saved f_edges f_counted f_begun f_startX f_startY f_nowX f_nowY f_low f_high f_pointX f_pointY f_layer f_fault f_faultAt f_units f_used a_draftKind a_draftValue a_streamOf a_sizes a_before a_newest a_opCount a_ops a_opAt a_numbers a_running a_next a_floor a_mix a_matrix a_colour a_width a_clip a_x1 a_y1 a_x2 a_y2 a_extra a_winding a_crossings a_pixels a_painter) : wX_rectangle_17 post (iZ x) (iZ y) (iZ w) (iZ h) (n + 1) (nI 3) f_drafted f_revisions f_depth f_known f_saved f_edges f_counted f_begun f_startX f_startY f_nowX f_nowY f_low f_high f_pointX f_pointY f_layer f_fault f_faultAt f_units f_used a_draftKind a_draftValue a_streamOf a_sizes a_before a_newest a_opCount a_ops a_opAt a_numbers a_running a_next a_floor a_mix a_matrix a_colour a_width a_clip a_x1 a_y1 a_x2 a_y2 a_extra a_winding a_crossings a_pixels a_painter := by
  rw [wX_rectangle_17]
  refine br_f (by decide) (br_t (by decide) ?_)
  unfold wX_rectangle_37
  rw [iz_add y h]
  exact br_f (by decide) H
theorem r17_4 {post : SX → Prop} {x y w h : Int} {n : Nat} (H : wpX_line (fun u => match u with | (f_drafted, f_revisions, f_depth, f_known, f_saved, f_edges, f_counted, f_begun, f_startX, f_startY, f_nowX, f_nowY, f_low, f_high, f_pointX, f_pointY, f_layer, f_fault, f_faultAt, f_units, f_used, a_draftKind, a_draftValue, a_streamOf, a_sizes, a_before, a_newest, a_opCount, a_ops, a_opAt, a_numbers, a_running, a_next, a_floor, a_mix, a_matrix, a_colour, a_width, a_clip, a_x1, a_y1, a_x2, a_y2, a_extra, a_winding, a_crossings, a_pixels, a_painter) => post (f_drafted, f_revisions, f_depth, f_known, f_saved, f_edges, f_counted, f_begun, f_startX, f_startY, f_nowX, f_nowY, f_low, f_high, f_pointX, f_pointY, f_layer, f_fault, f_faultAt, f_units, f_used, a_draftKind, a_draftValue, a_streamOf, a_sizes, a_before, a_newest, a_opCount, a_ops, a_opAt, a_numbers, a_running, a_next, a_floor, a_mix, a_matrix, a_colour, a_width, a_clip, a_x1, a_y1, a_x2, a_y2, a_extra, a_winding, a_crossings, a_pixels, a_painter)) (f_drafted, f_revisions, f_depth, f_known, f_saved, f_edges, f_counted, f_begun, f_startX, f_startY, f_nowX, f_nowY, f_low, f_high, f_pointX, f_pointY, f_layer, f_fault, f_faultAt, f_units, f_used, a_draftKind, a_draftValue, a_streamOf, a_sizes, a_before, a_newest, a_opCount, a_ops, a_opAt, a_numbers, a_running, a_next, a_floor, a_mix, a_matrix, a_colour, a_width, a_clip, a_x1, a_y1, a_x2, a_y2, a_extra, a_winding, a_crossings, a_pixels, a_painter) f_startX f_startY) : wX_rectangle_17 post (iZ x) (iZ y) (iZ w) (iZ h) (n + 1) (nI 4) f_drafted f_revisions f_depth f_known f_saved f_edges f_counted f_begun f_startX f_startY f_nowX f_nowY f_low f_high f_pointX f_pointY f_layer f_fault f_faultAt f_units f_used a_draftKind a_draftValue a_streamOf a_sizes a_before a_newest a_opCount a_ops a_opAt a_numbers a_running a_next a_floor a_mix a_matrix a_colour a_width a_clip a_x1 a_y1 a_x2 a_y2 a_extra a_winding a_crossings a_pixels a_painter := by
  rw [wX_rectangle_17]
  exact br_t (by decide) H
theorem y55 {post : SY → Prop} {w : Int32} (hw : w ≠ 0) (h : post (g_revisions, g_shown, g_level, g_layer, g_depth, g_parts, g_edges, g_operands, g_units, w, g_where, g_partEdges, b_stream, b_length, b_kind, b_num, b_matrix, b_colour, b_width, b_clip, b_paint, b_painter, b_running, b_at, b_saves, b_below, b_mixture, b_beginX, b_beginY, b_endX, b_endY, b_fromX, b_fromY, b_toX, b_toY, b_operand)) : wY_rectangle_55 post g_revisions g_shown g_level g_layer g_depth g_parts g_edges g_operands g_units w g_where g_partEdges b_stream b_length b_kind b_num b_matrix b_colour b_width b_clip b_paint b_painter b_running b_at b_saves b_below b_mixture b_beginX b_beginY b_endX b_endY b_fromX b_fromY b_toX b_toY b_operand := by
  unfold wY_rectangle_55
  exact br_f hw h
theorem y39 {post : SY → Prop} {w a b c : Int32} (hw : w ≠ 0) (h : post (g_revisions, g_shown, g_level, g_layer, g_depth, g_parts, g_edges, g_operands, g_units, w, g_where, g_partEdges, b_stream, b_length, b_kind, b_num, b_matrix, b_colour, b_width, b_clip, b_paint, b_painter, b_running, b_at, b_saves, b_below, b_mixture, b_beginX, b_beginY, b_endX, b_endY, b_fromX, b_fromY, b_toX, b_toY, b_operand)) : wY_rectangle_39 post a b c g_revisions g_shown g_level g_layer g_depth g_parts g_edges g_operands g_units w g_where g_partEdges b_stream b_length b_kind b_num b_matrix b_colour b_width b_clip b_paint b_painter b_running b_at b_saves b_below b_mixture b_beginX b_beginY b_endX b_endY b_fromX b_fromY b_toX b_toY b_operand := by
  unfold wY_rectangle_39
  exact br_f hw (y55 hw h)
theorem y21 {post : SY → Prop} {w a b c d : Int32} (hw : w ≠ 0) (h : post (g_revisions, g_shown, g_level, g_layer, g_depth, g_parts, g_edges, g_operands, g_units, w, g_where, g_partEdges, b_stream, b_length, b_kind, b_num, b_matrix, b_colour, b_width, b_clip, b_paint, b_painter, b_running, b_at, b_saves, b_below, b_mixture, b_beginX, b_beginY, b_endX, b_endY, b_fromX, b_fromY, b_toX, b_toY, b_operand)) : wY_rectangle_21 post a b c d g_revisions g_shown g_level g_layer g_depth g_parts g_edges g_operands g_units w g_where g_partEdges b_stream b_length b_kind b_num b_matrix b_colour b_width b_clip b_paint b_painter b_running b_at b_saves b_below b_mixture b_beginX b_beginY b_endX b_endY b_fromX b_fromY b_toX b_toY b_operand := by
  unfold wY_rectangle_21
  exact br_f hw (y39 hw h)
theorem pa_b2 (hp : (rPa f_edges f_counted f_begun f_startX f_startY f_nowX f_nowY a_x1 a_y1 a_x2 a_y2 a_extra g_parts g_edges g_partEdges b_beginX b_beginY b_endX b_endY b_fromX b_fromY b_toX b_toY)) : ∃ Q C pe : Nat, Q < 30 ∧ C ≤ 24 ∧ (pe ≤ 24 ∨ Q = 0) ∧ g_parts = nI Q ∧ g_edges = nI C ∧ (0 < Q → g_partEdges = nI pe) := by
  rcases hp with ⟨rfl, rfl, rfl, rfl, rfl⟩ | ⟨rfl, E, C, Q, pe, rfl, rfl, rfl, rfl, rfl, q1, q2, n1, n2, n3, n4, p1, p2, p3, pc⟩
  · exact ⟨0, 0, 0, by omega, by omega, by omega, rfl, rfl, fun z => by omega⟩
  · obtain ⟨a1, a2, _⟩ := pc
    exact ⟨Q + 1, C, pe, by omega, a2, by omega, rfl, rfl, fun _ => rfl⟩
/-- X's point out of range against Y's moveTo -/
theorem j_moveBad {s pl : Nat} {xx yy : Int} (hp : (rPa f_edges f_counted f_begun f_startX f_startY f_nowX f_nowY a_x1 a_y1 a_x2 a_y2 a_extra g_parts g_edges g_partEdges b_beginX b_beginY b_endX b_endY b_fromX b_fromY b_toX b_toY)) (hs : s < 7) (hM : mxr s a_matrix) (hE : ∀ k, k < 6 * s + 6 → b_matrix k = a_matrix k) (hxx : -2000 ≤ xx ∧ xx ≤ 2000) (hyy : -2000 ≤ yy ∧ yy ≤ 2000) (hf : fl f_depth a_running a_next a_streamOf a_opAt pl)
    (near : ¬ ((-4000 ≤ pX a_matrix s xx yy ∧ pX a_matrix s xx yy ≤ 4000) ∧ (-4000 ≤ pY a_matrix s xx yy ∧ pY a_matrix s xx yy ≤ 4000))) :
    (∀ post : Int32 → SX → Prop, post 0 (f_drafted, f_revisions, f_depth, f_known, nI s, f_edges, f_counted, f_begun, f_startX, f_startY, f_nowX, f_nowY, f_low, f_high, iZ (pX a_matrix s xx yy), iZ (pY a_matrix s xx yy), f_layer, 3, nI pl, f_units, f_used, a_draftKind, a_draftValue, a_streamOf, a_sizes, a_before, a_newest, a_opCount, a_ops, a_opAt, a_numbers, a_running, a_next, a_floor, a_mix, a_matrix, a_colour, a_width, a_clip, a_x1, a_y1, a_x2, a_y2, a_extra, a_winding, a_crossings, a_pixels, a_painter) → wpX_point post (f_drafted, f_revisions, f_depth, f_known, nI s, f_edges, f_counted, f_begun, f_startX, f_startY, f_nowX, f_nowY, f_low, f_high, f_pointX, f_pointY, f_layer, f_fault, f_faultAt, f_units, f_used, a_draftKind, a_draftValue, a_streamOf, a_sizes, a_before, a_newest, a_opCount, a_ops, a_opAt, a_numbers, a_running, a_next, a_floor, a_mix, a_matrix, a_colour, a_width, a_clip, a_x1, a_y1, a_x2, a_y2, a_extra, a_winding, a_crossings, a_pixels, a_painter) (iZ xx) (iZ yy)) ∧ (∀ post : SY → Prop, post (g_revisions, g_shown, nI s, g_layer, g_depth, g_parts, g_edges, g_operands, g_units, 3, g_where, g_partEdges, b_stream, b_length, b_kind, b_num, b_matrix, b_colour, b_width, b_clip, b_paint, b_painter, b_running, b_at, b_saves, b_below, b_mixture, b_beginX, b_beginY, b_endX, b_endY, b_fromX, b_fromY, b_toX, b_toY, b_operand) → wpY_moveTo post (g_revisions, g_shown, nI s, g_layer, g_depth, g_parts, g_edges, g_operands, g_units, g_fault, g_where, g_partEdges, b_stream, b_length, b_kind, b_num, b_matrix, b_colour, b_width, b_clip, b_paint, b_painter, b_running, b_at, b_saves, b_below, b_mixture, b_beginX, b_beginY, b_endX, b_endY, b_fromX, b_fromY, b_toX, b_toY, b_operand) (iZ xx) (iZ yy)) := by
  have eq := pXY_c hE xx yy
  have hM2 := mxr_c hE hM
  obtain ⟨Q, C, pe, hQ, hC, hpe, eQ, eC, hg⟩ := pa_b2 hp
  refine ⟨fun post h => xx_point hs hM hxx hyy hf (fun z1 z2 => absurd ⟨z1, z2⟩ near) (fun _ => h), fun post h => ?_⟩
  subst eQ eC
  refine yy_moveTo hs hM2 hxx hyy hQ hC hpe hg (fun _ => h) (fun z1 z2 => ?_) (fun z1 z2 => ?_)
  · rw [eq.1] at z1
    rw [eq.2] at z2
    exact absurd ⟨z1, z2⟩ near
  · rw [eq.1] at z1
    rw [eq.2] at z2
    exact absurd ⟨z1, z2⟩ near
theorem j_rect {s pl : Nat} {x y w h : Int} (hp : (rPa f_edges f_counted f_begun f_startX f_startY f_nowX f_nowY a_x1 a_y1 a_x2 a_y2 a_extra g_parts g_edges g_partEdges b_beginX b_beginY b_endX b_endY b_fromX b_fromY b_toX b_toY)) (hs : s < 7) (hM : mxr s a_matrix) (hE : ∀ k, k < 6 * s + 6 → b_matrix k = a_matrix k) (hx : -1000 ≤ x ∧ x ≤ 1000) (hy : -1000 ≤ y ∧ y ≤ 1000) (hw : -1000 ≤ w ∧ w ≤ 1000) (hh : -1000 ≤ h ∧ h ≤ 1000) (hf : fl f_depth a_running a_next a_streamOf a_opAt pl) :
    (∃ (z : Int32), z ≠ 0 ∧ ∃ (c_edges c_counted c_begun c_startX c_startY c_nowX c_nowY c_pointX c_pointY h_parts h_edges h_partEdges : Int32) (c_x1 c_y1 c_x2 c_y2 c_extra h_beginX h_beginY h_endX h_endY h_fromX h_fromY h_toX h_toY : Nat → Int32), (∀ post : SX → Prop, post (f_drafted, f_revisions, f_depth, f_known, nI s, c_edges, c_counted, c_begun, c_startX, c_startY, c_nowX, c_nowY, f_low, f_high, c_pointX, c_pointY, f_layer, z, nI pl, f_units, f_used, a_draftKind, a_draftValue, a_streamOf, a_sizes, a_before, a_newest, a_opCount, a_ops, a_opAt, a_numbers, a_running, a_next, a_floor, a_mix, a_matrix, a_colour, a_width, a_clip, c_x1, c_y1, c_x2, c_y2, c_extra, a_winding, a_crossings, a_pixels, a_painter) → wpX_rectangle post (f_drafted, f_revisions, f_depth, f_known, nI s, f_edges, f_counted, f_begun, f_startX, f_startY, f_nowX, f_nowY, f_low, f_high, f_pointX, f_pointY, f_layer, 0, f_faultAt, f_units, f_used, a_draftKind, a_draftValue, a_streamOf, a_sizes, a_before, a_newest, a_opCount, a_ops, a_opAt, a_numbers, a_running, a_next, a_floor, a_mix, a_matrix, a_colour, a_width, a_clip, a_x1, a_y1, a_x2, a_y2, a_extra, a_winding, a_crossings, a_pixels, a_painter) (iZ x) (iZ y) (iZ w) (iZ h)) ∧ (∀ post : SY → Prop, post (g_revisions, g_shown, nI s, g_layer, g_depth, h_parts, h_edges, g_operands, g_units, z, g_where, h_partEdges, b_stream, b_length, b_kind, b_num, b_matrix, b_colour, b_width, b_clip, b_paint, b_painter, b_running, b_at, b_saves, b_below, b_mixture, h_beginX, h_beginY, h_endX, h_endY, h_fromX, h_fromY, h_toX, h_toY, b_operand) → wpY_rectangle post (g_revisions, g_shown, nI s, g_layer, g_depth, g_parts, g_edges, g_operands, g_units, 0, g_where, g_partEdges, b_stream, b_length, b_kind, b_num, b_matrix, b_colour, b_width, b_clip, b_paint, b_painter, b_running, b_at, b_saves, b_below, b_mixture, b_beginX, b_beginY, b_endX, b_endY, b_fromX, b_fromY, b_toX, b_toY, b_operand) (iZ x) (iZ y) (iZ w) (iZ h)))
    ∨ (∃ (c_edges c_counted c_begun c_startX c_startY c_nowX c_nowY c_pointX c_pointY h_parts h_edges h_partEdges : Int32) (c_x1 c_y1 c_x2 c_y2 c_extra h_beginX h_beginY h_endX h_endY h_fromX h_fromY h_toX h_toY : Nat → Int32), (rPa c_edges c_counted c_begun c_startX c_startY c_nowX c_nowY c_x1 c_y1 c_x2 c_y2 c_extra h_parts h_edges h_partEdges h_beginX h_beginY h_endX h_endY h_fromX h_fromY h_toX h_toY) ∧ (∀ post : SX → Prop, post (f_drafted, f_revisions, f_depth, f_known, nI s, c_edges, c_counted, c_begun, c_startX, c_startY, c_nowX, c_nowY, f_low, f_high, c_pointX, c_pointY, f_layer, 0, f_faultAt, f_units, f_used, a_draftKind, a_draftValue, a_streamOf, a_sizes, a_before, a_newest, a_opCount, a_ops, a_opAt, a_numbers, a_running, a_next, a_floor, a_mix, a_matrix, a_colour, a_width, a_clip, c_x1, c_y1, c_x2, c_y2, c_extra, a_winding, a_crossings, a_pixels, a_painter) → wpX_rectangle post (f_drafted, f_revisions, f_depth, f_known, nI s, f_edges, f_counted, f_begun, f_startX, f_startY, f_nowX, f_nowY, f_low, f_high, f_pointX, f_pointY, f_layer, 0, f_faultAt, f_units, f_used, a_draftKind, a_draftValue, a_streamOf, a_sizes, a_before, a_newest, a_opCount, a_ops, a_opAt, a_numbers, a_running, a_next, a_floor, a_mix, a_matrix, a_colour, a_width, a_clip, a_x1, a_y1, a_x2, a_y2, a_extra, a_winding, a_crossings, a_pixels, a_painter) (iZ x) (iZ y) (iZ w) (iZ h)) ∧ (∀ post : SY → Prop, post (g_revisions, g_shown, nI s, g_layer, g_depth, h_parts, h_edges, g_operands, g_units, 0, g_where, h_partEdges, b_stream, b_length, b_kind, b_num, b_matrix, b_colour, b_width, b_clip, b_paint, b_painter, b_running, b_at, b_saves, b_below, b_mixture, h_beginX, h_beginY, h_endX, h_endY, h_fromX, h_fromY, h_toX, h_toY, b_operand) → wpY_rectangle post (g_revisions, g_shown, nI s, g_layer, g_depth, g_parts, g_edges, g_operands, g_units, 0, g_where, g_partEdges, b_stream, b_length, b_kind, b_num, b_matrix, b_colour, b_width, b_clip, b_paint, b_painter, b_running, b_at, b_saves, b_below, b_mixture, b_beginX, b_beginY, b_endX, b_endY, b_fromX, b_fromY, b_toX, b_toY, b_operand) (iZ x) (iZ y) (iZ w) (iZ h))) := by
  by_cases near : (-4000 ≤ pX a_matrix s x y ∧ pX a_matrix s x y ≤ 4000) ∧ (-4000 ≤ pY a_matrix s x y ∧ pY a_matrix s x y ≤ 4000)
  rotate_left
  · obtain ⟨k1, k2⟩ := j_moveBad (f_drafted := f_drafted) (f_revisions := f_revisions) (f_depth := f_depth) (f_known := f_known) (f_edges := f_edges) (f_counted := f_counted) (f_begun := f_begun) (f_startX := f_startX) (f_startY := f_startY) (f_nowX := f_nowX) (f_nowY := f_nowY) (f_low := f_low) (f_high := f_high) (f_pointX := f_pointX) (f_pointY := f_pointY) (f_layer := f_layer) (f_fault := 0) (f_faultAt := f_faultAt) (f_units := f_units) (f_used := f_used) (a_draftKind := a_draftKind) (a_draftValue := a_draftValue) (a_streamOf := a_streamOf) (a_sizes := a_sizes) (a_before := a_before) (a_newest := a_newest) (a_opCount := a_opCount) (a_ops := a_ops) (a_opAt := a_opAt) (a_numbers := a_numbers) (a_running := a_running) (a_next := a_next) (a_floor := a_floor) (a_mix := a_mix) (a_matrix := a_matrix) (a_colour := a_colour) (a_width := a_width) (a_clip := a_clip) (a_x1 := a_x1) (a_y1 := a_y1) (a_x2 := a_x2) (a_y2 := a_y2) (a_extra := a_extra) (a_winding := a_winding) (a_crossings := a_crossings) (a_pixels := a_pixels) (a_painter := a_painter) (g_revisions := g_revisions) (g_shown := g_shown) (g_layer := g_layer) (g_depth := g_depth) (g_parts := g_parts) (g_edges := g_edges) (g_operands := g_operands) (g_units := g_units) (g_fault := 0) (g_where := g_where) (g_partEdges := g_partEdges) (b_stream := b_stream) (b_length := b_length) (b_kind := b_kind) (b_num := b_num) (b_matrix := b_matrix) (b_colour := b_colour) (b_width := b_width) (b_clip := b_clip) (b_paint := b_paint) (b_painter := b_painter) (b_running := b_running) (b_at := b_at) (b_saves := b_saves) (b_below := b_below) (b_mixture := b_mixture) (b_beginX := b_beginX) (b_beginY := b_beginY) (b_endX := b_endX) (b_endY := b_endY) (b_fromX := b_fromX) (b_fromY := b_fromY) (b_toX := b_toX) (b_toY := b_toY) (b_operand := b_operand) hp hs hM hE (by omega) (by omega) hf near
    refine Or.inl ⟨3, by decide, f_edges, f_counted, f_begun, f_startX, f_startY, f_nowX, f_nowY, iZ (pX a_matrix s x y), iZ (pY a_matrix s x y), g_parts, g_edges, g_partEdges, a_x1, a_y1, a_x2, a_y2, a_extra, b_beginX, b_beginY, b_endX, b_endY, b_fromX, b_fromY, b_toX, b_toY, fun post hpost => ?_, fun post hpost => ?_⟩
    · unfold wpX_rectangle
      exact k1 _ (br_t rfl hpost)
    · unfold wpY_rectangle
      exact k2 _ (br_f (by decide) (y21 (by decide) hpost))
  · have eq := pXY_c hE x y
    have hM2 := mxr_c hE hM
    obtain ⟨c_edges, c_counted, c_begun, c_startX, c_startY, c_nowX, c_nowY, c_pointX, c_pointY, h_parts, h_edges, h_partEdges, c_x1, c_y1, c_x2, c_y2, c_extra, h_beginX, h_beginY, h_endX, h_endY, h_fromX, h_fromY, h_toX, h_toY, kp, m1, m2⟩ := j_move (f_drafted := f_drafted) (f_revisions := f_revisions) (f_depth := f_depth) (f_known := f_known) (f_saved := nI s) (f_edges := f_edges) (f_counted := f_counted) (f_begun := f_begun) (f_startX := f_startX) (f_startY := f_startY) (f_nowX := f_nowX) (f_nowY := f_nowY) (f_low := f_low) (f_high := f_high) (f_layer := f_layer) (f_fault := 0) (f_faultAt := f_faultAt) (f_units := f_units) (f_used := f_used) (a_draftKind := a_draftKind) (a_draftValue := a_draftValue) (a_streamOf := a_streamOf) (a_sizes := a_sizes) (a_before := a_before) (a_newest := a_newest) (a_opCount := a_opCount) (a_ops := a_ops) (a_opAt := a_opAt) (a_numbers := a_numbers) (a_running := a_running) (a_next := a_next) (a_floor := a_floor) (a_mix := a_mix) (a_matrix := a_matrix) (a_colour := a_colour) (a_width := a_width) (a_clip := a_clip) (a_x1 := a_x1) (a_y1 := a_y1) (a_x2 := a_x2) (a_y2 := a_y2) (a_extra := a_extra) (a_winding := a_winding) (a_crossings := a_crossings) (a_pixels := a_pixels) (a_painter := a_painter) (g_revisions := g_revisions) (g_shown := g_shown) (g_layer := g_layer) (g_depth := g_depth) (g_parts := g_parts) (g_edges := g_edges) (g_operands := g_operands) (g_units := g_units) (g_fault := 0) (g_where := g_where) (g_partEdges := g_partEdges) (b_stream := b_stream) (b_length := b_length) (b_kind := b_kind) (b_num := b_num) (b_matrix := b_matrix) (b_colour := b_colour) (b_width := b_width) (b_clip := b_clip) (b_paint := b_paint) (b_painter := b_painter) (b_running := b_running) (b_at := b_at) (b_saves := b_saves) (b_below := b_below) (b_mixture := b_mixture) (b_beginX := b_beginX) (b_beginY := b_beginY) (b_endX := b_endX) (b_endY := b_endY) (b_fromX := b_fromX) (b_fromY := b_fromY) (b_toX := b_toX) (b_toY := b_toY) (b_operand := b_operand) hp hs hM2 (by omega) (by omega) eq.1 eq.2 near.1 near.2
    have pt : ∀ post : Int32 → SX → Prop, post 1 (f_drafted, f_revisions, f_depth, f_known, nI s, f_edges, f_counted, f_begun, f_startX, f_startY, f_nowX, f_nowY, f_low, f_high, iZ (pX a_matrix s x y), iZ (pY a_matrix s x y), f_layer, 0, f_faultAt, f_units, f_used, a_draftKind, a_draftValue, a_streamOf, a_sizes, a_before, a_newest, a_opCount, a_ops, a_opAt, a_numbers, a_running, a_next, a_floor, a_mix, a_matrix, a_colour, a_width, a_clip, a_x1, a_y1, a_x2, a_y2, a_extra, a_winding, a_crossings, a_pixels, a_painter) → wpX_point post (f_drafted, f_revisions, f_depth, f_known, nI s, f_edges, f_counted, f_begun, f_startX, f_startY, f_nowX, f_nowY, f_low, f_high, f_pointX, f_pointY, f_layer, 0, f_faultAt, f_units, f_used, a_draftKind, a_draftValue, a_streamOf, a_sizes, a_before, a_newest, a_opCount, a_ops, a_opAt, a_numbers, a_running, a_next, a_floor, a_mix, a_matrix, a_colour, a_width, a_clip, a_x1, a_y1, a_x2, a_y2, a_extra, a_winding, a_crossings, a_pixels, a_painter) (iZ x) (iZ y) := fun post hpost => xx_point hs hM (by omega) (by omega) hf (fun _ _ => hpost) (fun z => absurd near z)
    have XA : ∀ post : SX → Prop, wX_rectangle_17 post (iZ x) (iZ y) (iZ w) (iZ h) 5 (nI 1) f_drafted f_revisions f_depth f_known (nI s) c_edges c_counted c_begun c_startX c_startY c_nowX c_nowY f_low f_high c_pointX c_pointY f_layer 0 f_faultAt f_units f_used a_draftKind a_draftValue a_streamOf a_sizes a_before a_newest a_opCount a_ops a_opAt a_numbers a_running a_next a_floor a_mix a_matrix a_colour a_width a_clip c_x1 c_y1 c_x2 c_y2 c_extra a_winding a_crossings a_pixels a_painter → wpX_rectangle post (f_drafted, f_revisions, f_depth, f_known, nI s, f_edges, f_counted, f_begun, f_startX, f_startY, f_nowX, f_nowY, f_low, f_high, f_pointX, f_pointY, f_layer, 0, f_faultAt, f_units, f_used, a_draftKind, a_draftValue, a_streamOf, a_sizes, a_before, a_newest, a_opCount, a_ops, a_opAt, a_numbers, a_running, a_next, a_floor, a_mix, a_matrix, a_colour, a_width, a_clip, a_x1, a_y1, a_x2, a_y2, a_extra, a_winding, a_crossings, a_pixels, a_painter) (iZ x) (iZ y) (iZ w) (iZ h) := by
      intro post H
      unfold wpX_rectangle
      exact pt _ (br_f (by decide) (m1 _ ⟨5, H⟩))
    have YA : ∀ post : SY → Prop, wpY_lineTo (fun u => match u with | (g_revisions, g_shown, g_level, g_layer, g_depth, g_parts, g_edges, g_operands, g_units, g_fault, g_where, g_partEdges, b_stream, b_length, b_kind, b_num, b_matrix, b_colour, b_width, b_clip, b_paint, b_painter, b_running, b_at, b_saves, b_below, b_mixture, b_beginX, b_beginY, b_endX, b_endY, b_fromX, b_fromY, b_toX, b_toY, b_operand) => wY_rectangle_21 post (iZ x) (iZ y) (iZ w) (iZ h) g_revisions g_shown g_level g_layer g_depth g_parts g_edges g_operands g_units g_fault g_where g_partEdges b_stream b_length b_kind b_num b_matrix b_colour b_width b_clip b_paint b_painter b_running b_at b_saves b_below b_mixture b_beginX b_beginY b_endX b_endY b_fromX b_fromY b_toX b_toY b_operand) (g_revisions, g_shown, nI s, g_layer, g_depth, h_parts, h_edges, g_operands, g_units, 0, g_where, h_partEdges, b_stream, b_length, b_kind, b_num, b_matrix, b_colour, b_width, b_clip, b_paint, b_painter, b_running, b_at, b_saves, b_below, b_mixture, h_beginX, h_beginY, h_endX, h_endY, h_fromX, h_fromY, h_toX, h_toY, b_operand) (iZ (x + w)) (iZ y) → wpY_rectangle post (g_revisions, g_shown, nI s, g_layer, g_depth, g_parts, g_edges, g_operands, g_units, 0, g_where, g_partEdges, b_stream, b_length, b_kind, b_num, b_matrix, b_colour, b_width, b_clip, b_paint, b_painter, b_running, b_at, b_saves, b_below, b_mixture, b_beginX, b_beginY, b_endX, b_endY, b_fromX, b_fromY, b_toX, b_toY, b_operand) (iZ x) (iZ y) (iZ w) (iZ h) := by
      intro post H
      unfold wpY_rectangle
      refine m2 _ (br_t rfl ?_)
      rw [iz_add x w]
      exact H
    clear pt m1 m2 hp
    have S1 := j_side (f_drafted := f_drafted) (f_revisions := f_revisions) (f_depth := f_depth) (f_known := f_known) (f_edges := c_edges) (f_counted := c_counted) (f_begun := c_begun) (f_startX := c_startX) (f_startY := c_startY) (f_nowX := c_nowX) (f_nowY := c_nowY) (f_low := f_low) (f_high := f_high) (f_pointX := c_pointX) (f_pointY := c_pointY) (f_layer := f_layer) (f_faultAt := f_faultAt) (f_units := f_units) (f_used := f_used) (a_draftKind := a_draftKind) (a_draftValue := a_draftValue) (a_streamOf := a_streamOf) (a_sizes := a_sizes) (a_before := a_before) (a_newest := a_newest) (a_opCount := a_opCount) (a_ops := a_ops) (a_opAt := a_opAt) (a_numbers := a_numbers) (a_running := a_running) (a_next := a_next) (a_floor := a_floor) (a_mix := a_mix) (a_matrix := a_matrix) (a_colour := a_colour) (a_width := a_width) (a_clip := a_clip) (a_x1 := c_x1) (a_y1 := c_y1) (a_x2 := c_x2) (a_y2 := c_y2) (a_extra := c_extra) (a_winding := a_winding) (a_crossings := a_crossings) (a_pixels := a_pixels) (a_painter := a_painter) (g_revisions := g_revisions) (g_shown := g_shown) (g_layer := g_layer) (g_depth := g_depth) (g_parts := h_parts) (g_edges := h_edges) (g_operands := g_operands) (g_units := g_units) (g_where := g_where) (g_partEdges := h_partEdges) (b_stream := b_stream) (b_length := b_length) (b_kind := b_kind) (b_num := b_num) (b_matrix := b_matrix) (b_colour := b_colour) (b_width := b_width) (b_clip := b_clip) (b_paint := b_paint) (b_painter := b_painter) (b_running := b_running) (b_at := b_at) (b_saves := b_saves) (b_below := b_below) (b_mixture := b_mixture) (b_beginX := h_beginX) (b_beginY := h_beginY) (b_endX := h_endX) (b_endY := h_endY) (b_fromX := h_fromX) (b_fromY := h_fromY) (b_toX := h_toX) (b_toY := h_toY) (b_operand := b_operand) (k := 1) (xx := x + w) (yy := y) (iZ x) (iZ y) (iZ w) (iZ h) kp hs hM hE (by omega) (by omega) hf
    rcases S1 with ⟨z, hz, px, py, g1, g2⟩ | ⟨c_edges, c_counted, c_begun, c_startX, c_startY, c_nowX, c_nowY, c_pointX, c_pointY, h_parts, h_edges, h_partEdges, c_x1, c_y1, c_x2, c_y2, c_extra, h_beginX, h_beginY, h_endX, h_endY, h_fromX, h_fromY, h_toX, h_toY, kp, g1, g2⟩
    · refine Or.inl ⟨z, hz, c_edges, c_counted, c_begun, c_startX, c_startY, c_nowX, c_nowY, px, py, h_parts, h_edges, h_partEdges, c_x1, c_y1, c_x2, c_y2, c_extra, h_beginX, h_beginY, h_endX, h_endY, h_fromX, h_fromY, h_toX, h_toY, fun post H => XA post (r17_1 (g1 _ _ H)), fun post H => YA post (g2 _ (y21 hz H))⟩
    replace XA : ∀ post : SX → Prop, wX_rectangle_17 post (iZ x) (iZ y) (iZ w) (iZ h) 4 (nI 2) f_drafted f_revisions f_depth f_known (nI s) c_edges c_counted c_begun c_startX c_startY c_nowX c_nowY f_low f_high c_pointX c_pointY f_layer 0 f_faultAt f_units f_used a_draftKind a_draftValue a_streamOf a_sizes a_before a_newest a_opCount a_ops a_opAt a_numbers a_running a_next a_floor a_mix a_matrix a_colour a_width a_clip c_x1 c_y1 c_x2 c_y2 c_extra a_winding a_crossings a_pixels a_painter → wpX_rectangle post (f_drafted, f_revisions, f_depth, f_known, nI s, f_edges, f_counted, f_begun, f_startX, f_startY, f_nowX, f_nowY, f_low, f_high, f_pointX, f_pointY, f_layer, 0, f_faultAt, f_units, f_used, a_draftKind, a_draftValue, a_streamOf, a_sizes, a_before, a_newest, a_opCount, a_ops, a_opAt, a_numbers, a_running, a_next, a_floor, a_mix, a_matrix, a_colour, a_width, a_clip, a_x1, a_y1, a_x2, a_y2, a_extra, a_winding, a_crossings, a_pixels, a_painter) (iZ x) (iZ y) (iZ w) (iZ h) := fun post H => XA post (r17_1 (g1 _ _ H))
    replace YA : ∀ post : SY → Prop, wpY_lineTo (fun u => match u with | (g_revisions, g_shown, g_level, g_layer, g_depth, g_parts, g_edges, g_operands, g_units, g_fault, g_where, g_partEdges, b_stream, b_length, b_kind, b_num, b_matrix, b_colour, b_width, b_clip, b_paint, b_painter, b_running, b_at, b_saves, b_below, b_mixture, b_beginX, b_beginY, b_endX, b_endY, b_fromX, b_fromY, b_toX, b_toY, b_operand) => wY_rectangle_39 post (iZ x) (iZ y) (iZ h) g_revisions g_shown g_level g_layer g_depth g_parts g_edges g_operands g_units g_fault g_where g_partEdges b_stream b_length b_kind b_num b_matrix b_colour b_width b_clip b_paint b_painter b_running b_at b_saves b_below b_mixture b_beginX b_beginY b_endX b_endY b_fromX b_fromY b_toX b_toY b_operand) (g_revisions, g_shown, nI s, g_layer, g_depth, h_parts, h_edges, g_operands, g_units, 0, g_where, h_partEdges, b_stream, b_length, b_kind, b_num, b_matrix, b_colour, b_width, b_clip, b_paint, b_painter, b_running, b_at, b_saves, b_below, b_mixture, h_beginX, h_beginY, h_endX, h_endY, h_fromX, h_fromY, h_toX, h_toY, b_operand) (iZ (x + w)) (iZ (y + h)) → wpY_rectangle post (g_revisions, g_shown, nI s, g_layer, g_depth, g_parts, g_edges, g_operands, g_units, 0, g_where, g_partEdges, b_stream, b_length, b_kind, b_num, b_matrix, b_colour, b_width, b_clip, b_paint, b_painter, b_running, b_at, b_saves, b_below, b_mixture, b_beginX, b_beginY, b_endX, b_endY, b_fromX, b_fromY, b_toX, b_toY, b_operand) (iZ x) (iZ y) (iZ w) (iZ h) := by
      intro post H
      refine YA post (g2 _ ?_)
      show wY_rectangle_21 post (iZ x) (iZ y) (iZ w) (iZ h) g_revisions g_shown (nI s) g_layer g_depth h_parts h_edges g_operands g_units 0 g_where h_partEdges b_stream b_length b_kind b_num b_matrix b_colour b_width b_clip b_paint b_painter b_running b_at b_saves b_below b_mixture h_beginX h_beginY h_endX h_endY h_fromX h_fromY h_toX h_toY b_operand
      unfold wY_rectangle_21
      refine br_t rfl ?_
      rw [iz_add x w, iz_add y h]
      exact H
    clear g1 g2
    have S2 := j_side (f_drafted := f_drafted) (f_revisions := f_revisions) (f_depth := f_depth) (f_known := f_known) (f_edges := c_edges) (f_counted := c_counted) (f_begun := c_begun) (f_startX := c_startX) (f_startY := c_startY) (f_nowX := c_nowX) (f_nowY := c_nowY) (f_low := f_low) (f_high := f_high) (f_pointX := c_pointX) (f_pointY := c_pointY) (f_layer := f_layer) (f_faultAt := f_faultAt) (f_units := f_units) (f_used := f_used) (a_draftKind := a_draftKind) (a_draftValue := a_draftValue) (a_streamOf := a_streamOf) (a_sizes := a_sizes) (a_before := a_before) (a_newest := a_newest) (a_opCount := a_opCount) (a_ops := a_ops) (a_opAt := a_opAt) (a_numbers := a_numbers) (a_running := a_running) (a_next := a_next) (a_floor := a_floor) (a_mix := a_mix) (a_matrix := a_matrix) (a_colour := a_colour) (a_width := a_width) (a_clip := a_clip) (a_x1 := c_x1) (a_y1 := c_y1) (a_x2 := c_x2) (a_y2 := c_y2) (a_extra := c_extra) (a_winding := a_winding) (a_crossings := a_crossings) (a_pixels := a_pixels) (a_painter := a_painter) (g_revisions := g_revisions) (g_shown := g_shown) (g_layer := g_layer) (g_depth := g_depth) (g_parts := h_parts) (g_edges := h_edges) (g_operands := g_operands) (g_units := g_units) (g_where := g_where) (g_partEdges := h_partEdges) (b_stream := b_stream) (b_length := b_length) (b_kind := b_kind) (b_num := b_num) (b_matrix := b_matrix) (b_colour := b_colour) (b_width := b_width) (b_clip := b_clip) (b_paint := b_paint) (b_painter := b_painter) (b_running := b_running) (b_at := b_at) (b_saves := b_saves) (b_below := b_below) (b_mixture := b_mixture) (b_beginX := h_beginX) (b_beginY := h_beginY) (b_endX := h_endX) (b_endY := h_endY) (b_fromX := h_fromX) (b_fromY := h_fromY) (b_toX := h_toX) (b_toY := h_toY) (b_operand := b_operand) (k := 2) (xx := x + w) (yy := y + h) (iZ x) (iZ y) (iZ w) (iZ h) kp hs hM hE (by omega) (by omega) hf
    rcases S2 with ⟨z, hz, px, py, g1, g2⟩ | ⟨c_edges, c_counted, c_begun, c_startX, c_startY, c_nowX, c_nowY, c_pointX, c_pointY, h_parts, h_edges, h_partEdges, c_x1, c_y1, c_x2, c_y2, c_extra, h_beginX, h_beginY, h_endX, h_endY, h_fromX, h_fromY, h_toX, h_toY, kp, g1, g2⟩
    · refine Or.inl ⟨z, hz, c_edges, c_counted, c_begun, c_startX, c_startY, c_nowX, c_nowY, px, py, h_parts, h_edges, h_partEdges, c_x1, c_y1, c_x2, c_y2, c_extra, h_beginX, h_beginY, h_endX, h_endY, h_fromX, h_fromY, h_toX, h_toY, fun post H => XA post (r17_2 (g1 _ _ H)), fun post H => YA post (g2 _ (y39 hz H))⟩
    replace XA : ∀ post : SX → Prop, wX_rectangle_17 post (iZ x) (iZ y) (iZ w) (iZ h) 3 (nI 3) f_drafted f_revisions f_depth f_known (nI s) c_edges c_counted c_begun c_startX c_startY c_nowX c_nowY f_low f_high c_pointX c_pointY f_layer 0 f_faultAt f_units f_used a_draftKind a_draftValue a_streamOf a_sizes a_before a_newest a_opCount a_ops a_opAt a_numbers a_running a_next a_floor a_mix a_matrix a_colour a_width a_clip c_x1 c_y1 c_x2 c_y2 c_extra a_winding a_crossings a_pixels a_painter → wpX_rectangle post (f_drafted, f_revisions, f_depth, f_known, nI s, f_edges, f_counted, f_begun, f_startX, f_startY, f_nowX, f_nowY, f_low, f_high, f_pointX, f_pointY, f_layer, 0, f_faultAt, f_units, f_used, a_draftKind, a_draftValue, a_streamOf, a_sizes, a_before, a_newest, a_opCount, a_ops, a_opAt, a_numbers, a_running, a_next, a_floor, a_mix, a_matrix, a_colour, a_width, a_clip, a_x1, a_y1, a_x2, a_y2, a_extra, a_winding, a_crossings, a_pixels, a_painter) (iZ x) (iZ y) (iZ w) (iZ h) := fun post H => XA post (r17_2 (g1 _ _ H))
    replace YA : ∀ post : SY → Prop, wpY_lineTo (fun u => match u with | (g_revisions, g_shown, g_level, g_layer, g_depth, g_parts, g_edges, g_operands, g_units, g_fault, g_where, g_partEdges, b_stream, b_length, b_kind, b_num, b_matrix, b_colour, b_width, b_clip, b_paint, b_painter, b_running, b_at, b_saves, b_below, b_mixture, b_beginX, b_beginY, b_endX, b_endY, b_fromX, b_fromY, b_toX, b_toY, b_operand) => wY_rectangle_55 post g_revisions g_shown g_level g_layer g_depth g_parts g_edges g_operands g_units g_fault g_where g_partEdges b_stream b_length b_kind b_num b_matrix b_colour b_width b_clip b_paint b_painter b_running b_at b_saves b_below b_mixture b_beginX b_beginY b_endX b_endY b_fromX b_fromY b_toX b_toY b_operand) (g_revisions, g_shown, nI s, g_layer, g_depth, h_parts, h_edges, g_operands, g_units, 0, g_where, h_partEdges, b_stream, b_length, b_kind, b_num, b_matrix, b_colour, b_width, b_clip, b_paint, b_painter, b_running, b_at, b_saves, b_below, b_mixture, h_beginX, h_beginY, h_endX, h_endY, h_fromX, h_fromY, h_toX, h_toY, b_operand) (iZ x) (iZ (y + h)) → wpY_rectangle post (g_revisions, g_shown, nI s, g_layer, g_depth, g_parts, g_edges, g_operands, g_units, 0, g_where, g_partEdges, b_stream, b_length, b_kind, b_num, b_matrix, b_colour, b_width, b_clip, b_paint, b_painter, b_running, b_at, b_saves, b_below, b_mixture, b_beginX, b_beginY, b_endX, b_endY, b_fromX, b_fromY, b_toX, b_toY, b_operand) (iZ x) (iZ y) (iZ w) (iZ h) := by
      intro post H
      refine YA post (g2 _ ?_)
      show wY_rectangle_39 post (iZ x) (iZ y) (iZ h) g_revisions g_shown (nI s) g_layer g_depth h_parts h_edges g_operands g_units 0 g_where h_partEdges b_stream b_length b_kind b_num b_matrix b_colour b_width b_clip b_paint b_painter b_running b_at b_saves b_below b_mixture h_beginX h_beginY h_endX h_endY h_fromX h_fromY h_toX h_toY b_operand
      unfold wY_rectangle_39
      refine br_t rfl ?_
      rw [iz_add y h]
      exact H
    clear g1 g2
    have S3 := j_side (f_drafted := f_drafted) (f_revisions := f_revisions) (f_depth := f_depth) (f_known := f_known) (f_edges := c_edges) (f_counted := c_counted) (f_begun := c_begun) (f_startX := c_startX) (f_startY := c_startY) (f_nowX := c_nowX) (f_nowY := c_nowY) (f_low := f_low) (f_high := f_high) (f_pointX := c_pointX) (f_pointY := c_pointY) (f_layer := f_layer) (f_faultAt := f_faultAt) (f_units := f_units) (f_used := f_used) (a_draftKind := a_draftKind) (a_draftValue := a_draftValue) (a_streamOf := a_streamOf) (a_sizes := a_sizes) (a_before := a_before) (a_newest := a_newest) (a_opCount := a_opCount) (a_ops := a_ops) (a_opAt := a_opAt) (a_numbers := a_numbers) (a_running := a_running) (a_next := a_next) (a_floor := a_floor) (a_mix := a_mix) (a_matrix := a_matrix) (a_colour := a_colour) (a_width := a_width) (a_clip := a_clip) (a_x1 := c_x1) (a_y1 := c_y1) (a_x2 := c_x2) (a_y2 := c_y2) (a_extra := c_extra) (a_winding := a_winding) (a_crossings := a_crossings) (a_pixels := a_pixels) (a_painter := a_painter) (g_revisions := g_revisions) (g_shown := g_shown) (g_layer := g_layer) (g_depth := g_depth) (g_parts := h_parts) (g_edges := h_edges) (g_operands := g_operands) (g_units := g_units) (g_where := g_where) (g_partEdges := h_partEdges) (b_stream := b_stream) (b_length := b_length) (b_kind := b_kind) (b_num := b_num) (b_matrix := b_matrix) (b_colour := b_colour) (b_width := b_width) (b_clip := b_clip) (b_paint := b_paint) (b_painter := b_painter) (b_running := b_running) (b_at := b_at) (b_saves := b_saves) (b_below := b_below) (b_mixture := b_mixture) (b_beginX := h_beginX) (b_beginY := h_beginY) (b_endX := h_endX) (b_endY := h_endY) (b_fromX := h_fromX) (b_fromY := h_fromY) (b_toX := h_toX) (b_toY := h_toY) (b_operand := b_operand) (k := 3) (xx := x) (yy := y + h) (iZ x) (iZ y) (iZ w) (iZ h) kp hs hM hE (by omega) (by omega) hf
    rcases S3 with ⟨z, hz, px, py, g1, g2⟩ | ⟨c_edges, c_counted, c_begun, c_startX, c_startY, c_nowX, c_nowY, c_pointX, c_pointY, h_parts, h_edges, h_partEdges, c_x1, c_y1, c_x2, c_y2, c_extra, h_beginX, h_beginY, h_endX, h_endY, h_fromX, h_fromY, h_toX, h_toY, kp, g1, g2⟩
    · refine Or.inl ⟨z, hz, c_edges, c_counted, c_begun, c_startX, c_startY, c_nowX, c_nowY, px, py, h_parts, h_edges, h_partEdges, c_x1, c_y1, c_x2, c_y2, c_extra, h_beginX, h_beginY, h_endX, h_endY, h_fromX, h_fromY, h_toX, h_toY, fun post H => XA post (r17_3 (g1 _ _ H)), fun post H => YA post (g2 _ (y55 hz H))⟩
    replace XA : ∀ post : SX → Prop, wX_rectangle_17 post (iZ x) (iZ y) (iZ w) (iZ h) 2 (nI 4) f_drafted f_revisions f_depth f_known (nI s) c_edges c_counted c_begun c_startX c_startY c_nowX c_nowY f_low f_high c_pointX c_pointY f_layer 0 f_faultAt f_units f_used a_draftKind a_draftValue a_streamOf a_sizes a_before a_newest a_opCount a_ops a_opAt a_numbers a_running a_next a_floor a_mix a_matrix a_colour a_width a_clip c_x1 c_y1 c_x2 c_y2 c_extra a_winding a_crossings a_pixels a_painter → wpX_rectangle post (f_drafted, f_revisions, f_depth, f_known, nI s, f_edges, f_counted, f_begun, f_startX, f_startY, f_nowX, f_nowY, f_low, f_high, f_pointX, f_pointY, f_layer, 0, f_faultAt, f_units, f_used, a_draftKind, a_draftValue, a_streamOf, a_sizes, a_before, a_newest, a_opCount, a_ops, a_opAt, a_numbers, a_running, a_next, a_floor, a_mix, a_matrix, a_colour, a_width, a_clip, a_x1, a_y1, a_x2, a_y2, a_extra, a_winding, a_crossings, a_pixels, a_painter) (iZ x) (iZ y) (iZ w) (iZ h) := fun post H => XA post (r17_3 (g1 _ _ H))
    replace YA : ∀ post : SY → Prop, wpY_closePart (fun u => match u with | (g_revisions, g_shown, g_level, g_layer, g_depth, g_parts, g_edges, g_operands, g_units, g_fault, g_where, g_partEdges, b_stream, b_length, b_kind, b_num, b_matrix, b_colour, b_width, b_clip, b_paint, b_painter, b_running, b_at, b_saves, b_below, b_mixture, b_beginX, b_beginY, b_endX, b_endY, b_fromX, b_fromY, b_toX, b_toY, b_operand) => post (g_revisions, g_shown, g_level, g_layer, g_depth, g_parts, g_edges, g_operands, g_units, g_fault, g_where, g_partEdges, b_stream, b_length, b_kind, b_num, b_matrix, b_colour, b_width, b_clip, b_paint, b_painter, b_running, b_at, b_saves, b_below, b_mixture, b_beginX, b_beginY, b_endX, b_endY, b_fromX, b_fromY, b_toX, b_toY, b_operand)) (g_revisions, g_shown, nI s, g_layer, g_depth, h_parts, h_edges, g_operands, g_units, 0, g_where, h_partEdges, b_stream, b_length, b_kind, b_num, b_matrix, b_colour, b_width, b_clip, b_paint, b_painter, b_running, b_at, b_saves, b_below, b_mixture, h_beginX, h_beginY, h_endX, h_endY, h_fromX, h_fromY, h_toX, h_toY, b_operand) → wpY_rectangle post (g_revisions, g_shown, nI s, g_layer, g_depth, g_parts, g_edges, g_operands, g_units, 0, g_where, g_partEdges, b_stream, b_length, b_kind, b_num, b_matrix, b_colour, b_width, b_clip, b_paint, b_painter, b_running, b_at, b_saves, b_below, b_mixture, b_beginX, b_beginY, b_endX, b_endY, b_fromX, b_fromY, b_toX, b_toY, b_operand) (iZ x) (iZ y) (iZ w) (iZ h) := by
      intro post H
      refine YA post (g2 _ ?_)
      show wY_rectangle_55 post g_revisions g_shown (nI s) g_layer g_depth h_parts h_edges g_operands g_units 0 g_where h_partEdges b_stream b_length b_kind b_num b_matrix b_colour b_width b_clip b_paint b_painter b_running b_at b_saves b_below b_mixture h_beginX h_beginY h_endX h_endY h_fromX h_fromY h_toX h_toY b_operand
      unfold wY_rectangle_55
      exact br_t rfl H
    clear g1 g2
    have S4 := j_close (f_drafted := f_drafted) (f_revisions := f_revisions) (f_depth := f_depth) (f_known := f_known) (f_saved := nI s) (f_edges := c_edges) (f_counted := c_counted) (f_begun := c_begun) (f_startX := c_startX) (f_startY := c_startY) (f_nowX := c_nowX) (f_nowY := c_nowY) (f_low := f_low) (f_high := f_high) (f_pointX := c_pointX) (f_pointY := c_pointY) (f_layer := f_layer) (f_fault := 0) (f_faultAt := f_faultAt) (f_units := f_units) (f_used := f_used) (a_draftKind := a_draftKind) (a_draftValue := a_draftValue) (a_streamOf := a_streamOf) (a_sizes := a_sizes) (a_before := a_before) (a_newest := a_newest) (a_opCount := a_opCount) (a_ops := a_ops) (a_opAt := a_opAt) (a_numbers := a_numbers) (a_running := a_running) (a_next := a_next) (a_floor := a_floor) (a_mix := a_mix) (a_matrix := a_matrix) (a_colour := a_colour) (a_width := a_width) (a_clip := a_clip) (a_x1 := c_x1) (a_y1 := c_y1) (a_x2 := c_x2) (a_y2 := c_y2) (a_extra := c_extra) (a_winding := a_winding) (a_crossings := a_crossings) (a_pixels := a_pixels) (a_painter := a_painter) (g_revisions := g_revisions) (g_shown := g_shown) (g_level := nI s) (g_layer := g_layer) (g_depth := g_depth) (g_parts := h_parts) (g_edges := h_edges) (g_operands := g_operands) (g_units := g_units) (g_fault := 0) (g_where := g_where) (g_partEdges := h_partEdges) (b_stream := b_stream) (b_length := b_length) (b_kind := b_kind) (b_num := b_num) (b_matrix := b_matrix) (b_colour := b_colour) (b_width := b_width) (b_clip := b_clip) (b_paint := b_paint) (b_painter := b_painter) (b_running := b_running) (b_at := b_at) (b_saves := b_saves) (b_below := b_below) (b_mixture := b_mixture) (b_beginX := h_beginX) (b_beginY := h_beginY) (b_endX := h_endX) (b_endY := h_endY) (b_fromX := h_fromX) (b_fromY := h_fromY) (b_toX := h_toX) (b_toY := h_toY) (b_operand := b_operand) kp hf
    rcases S4 with ⟨z, hz, g1, g2⟩ | ⟨c_edges, c_counted, c_begun, c_startX, c_startY, c_nowX, c_nowY, c_pointX, c_pointY, h_parts, h_edges, h_partEdges, c_x1, c_y1, c_x2, c_y2, c_extra, h_beginX, h_beginY, h_endX, h_endY, h_fromX, h_fromY, h_toX, h_toY, kp, g1, g2⟩
    · refine Or.inl ⟨z, hz, c_edges, c_counted, c_begun, c_startX, c_startY, c_nowX, c_nowY, c_pointX, c_pointY, h_parts, h_edges, h_partEdges, c_x1, c_y1, c_x2, c_y2, c_extra, h_beginX, h_beginY, h_endX, h_endY, h_fromX, h_fromY, h_toX, h_toY, fun post H => XA post (r17_4 (g1 _ H)), fun post H => YA post (g2 _ H)⟩
    · refine Or.inr ⟨c_edges, c_counted, c_begun, c_startX, c_startY, c_nowX, c_nowY, _, _, h_parts, h_edges, h_partEdges, c_x1, c_y1, c_x2, c_y2, c_extra, h_beginX, h_beginY, h_endX, h_endY, h_fromX, h_fromY, h_toX, h_toY, kp, fun post H => XA post (r17_4 (g1 _ H)), fun post H => YA post (g2 _ H)⟩
end
end
section
/-! the stack of frames: next step, save, restore, push, pop -/
theorem lyc_c {a b : Nat → Int32} : ∀ {D : Nat}, (∀ d, d < D → a d = b d) → lyc a D = lyc b D := by
  intro D
  induction D with
  | zero => intro _; rfl
  | succ D ih =>
    intro h
    show lyc a D + _ = lyc b D + _
    rw [ih (fun d hd => h d (by omega)), h D (by omega)]
theorem lyc_b {a : Nat → Int32} (h0 : (a 0).toInt < 0) : ∀ D : Nat, lyc a (D + 1) ≤ D := by
  intro D
  induction D with
  | zero =>
    show 0 + (if 0 ≤ (a 0).toInt then 1 else 0) ≤ 0
    rw [if_neg (by omega)]; omega
  | succ D ih =>
    show lyc a (D + 1) + (if 0 ≤ (a (D + 1)).toInt then 1 else 0) ≤ D + 1
    split <;> omega
theorem lyc_u {a : Nat → Int32} {D : Nat} {x : Int} (hx : -1 ≤ x ∧ x ≤ 16) : lyc (upd a D (iZ x)) (D + 1) = lyc a D + if 0 ≤ x then 1 else 0 := by
  show lyc (upd a D (iZ x)) D + (if 0 ≤ (upd a D (iZ x) D).toInt then 1 else 0) = _
  rw [pk_us, iz_T (by omega), lyc_c (b := a) (fun d hd => un_lt hd)]
section
variable {K D s l : Nat} {a_opCount a_opAt a_running a_next a_floor a_mix b_stream b_running b_at b_saves b_below b_mixture : Nat → Int32}
theorem sk_l (h : (sk K (D + 1) s l a_opCount a_opAt a_running a_next a_floor a_mix b_stream b_running b_at b_saves b_below b_mixture)) : l ≤ D := by
  obtain ⟨h1, h2, h3, h4⟩ := h
  obtain ⟨σ, φ, ς, μ, k1, k2, k3, k4, k5, k6, k7, k8, k9, k10, k11, k12, k13, k14, k15⟩ := h4 0 (by omega)
  rw [h3]
  refine lyc_b ?_ D
  rw [k11, k13 rfl]
  decide
theorem sk_D (h : (sk K (D + 1) s l a_opCount a_opAt a_running a_next a_floor a_mix b_stream b_running b_at b_saves b_below b_mixture)) : D ≤ s := by
  obtain ⟨h1, h2, h3, h4⟩ := h
  obtain ⟨σ, φ, ς, μ, k1, k2, k3, k4, k5, k6, k7, k8, k9, k10, k11, k12, k13, k14, k15⟩ := h4 D (by omega)
  rw [if_pos rfl] at k9
  omega
theorem sk_next {n r M : Nat} {at' : Nat → Int32} (h : (sk K (D + 1) s l a_opCount a_opAt a_running a_next a_floor a_mix b_stream b_running b_at b_saves b_below b_mixture)) (hr : a_running D = nI r) (hK : K ≤ 8) (hM : a_opCount r = nI M) (hM40 : M ≤ 40) (hn : n + 1 ≤ M) (e1 : at' D = nI (stp (fun n => a_opAt (40 * r + n)) (n + 1))) (e2 : ∀ d, d ≠ D → at' d = b_at d) (hrK : r < K) :
    (sk K (D + 1) s l a_opCount a_opAt a_running (upd a_next D (nI (n + 1))) a_floor a_mix b_stream b_running at' b_saves b_below b_mixture) := by
  obtain ⟨h1, h2, h3, h4⟩ := h
  refine ⟨h1, h2, h3, fun d hd => ?_⟩
  obtain ⟨σ, φ, ς, μ, k1, k2, k3, k4, k5, k6, k7, k8, k9, k10, k11, k12, k13, k14, k15⟩ := h4 d hd
  refine ⟨σ, φ, ς, μ, k1, k2, k3, k4, k5, k6, k7, k8, k9, k10, k11, k12, k13, k14, fun r' hr' e' => ?_⟩
  by_cases c : d = D
  · subst c
    have : r' = r := nj_inj (e'.symm.trans hr) (by omega) (by omega)
    subst this
    exact ⟨n + 1, M, hM, hM40, hn, pk_us, e1⟩
  · rw [pk_un c, e2 d c]
    exact k15 r' hr' e'
theorem sk_set {s' ς' φ : Nat} (h : (sk K (D + 1) s l a_opCount a_opAt a_running a_next a_floor a_mix b_stream b_running b_at b_saves b_below b_mixture)) (hφ : a_floor D = nI φ) (hφ2 : φ ≤ 6) (hs : s' ≤ 6) (e : φ + ς' = s') : (sk K (D + 1) s' l a_opCount a_opAt a_running a_next a_floor a_mix b_stream b_running b_at (upd b_saves D (nI ς')) b_below b_mixture) := by
  obtain ⟨h1, h2, h3, h4⟩ := h
  refine ⟨h1, hs, h3, fun d hd => ?_⟩
  obtain ⟨σ, φ', ς, μ, k1, k2, k3, k4, k5, k6, k7, k8, k9, k10, k11, k12, k13, k14, k15⟩ := h4 d hd
  by_cases c : d = D
  · subst c
    have : φ' = φ := nj_inj (k4.symm.trans hφ) (by omega) (by omega)
    subst this
    refine ⟨σ, φ', ς', μ, k1, k2, k3, k4, k5, pk_us, k7, k8, ?_, k10, k11, k12, k13, k14, k15⟩
    rw [if_pos rfl]; exact e
  · refine ⟨σ, φ', ς, μ, k1, k2, k3, k4, k5, ?_, k7, k8, ?_, k10, k11, k12, k13, k14, k15⟩
    · rw [pk_un c]; exact k6
    · rw [if_neg (by omega)] at k9 ⊢; exact k9
theorem sk_push {σ : Nat} {a : Int} {x : Int32} (h : (sk K (D + 1) s l a_opCount a_opAt a_running a_next a_floor a_mix b_stream b_running b_at b_saves b_below b_mixture)) (hs : s < 6) (hσ : σ < 6) (ha : -1 ≤ a ∧ a ≤ 16) (hx : NW b_stream σ K x) (htop : a_running D ≠ -1) (hK : K ≤ 8) (hO : ∀ r, r < K → ∃ M, a_opCount r = nI M ∧ M ≤ 40) :
    (sk K (D + 1 + 1) (s + 1) (l + if 0 ≤ a then 1 else 0) a_opCount a_opAt (upd a_running (D + 1) x) (upd a_next (D + 1) 0) (upd a_floor (D + 1) (nI (s + 1))) (upd a_mix (D + 1) (iZ a)) b_stream (upd b_running (D + 1) (nI σ)) (upd b_at (D + 1) 0) (upd b_saves (D + 1) 0) (upd b_below (D + 1) (nI (s + 1))) (upd b_mixture (D + 1) (iZ a))) := by
  have hD := sk_D h
  obtain ⟨h1, h2, h3, h4⟩ := h
  refine ⟨by omega, by omega, by rw [lyc_u ha, h3], fun d hd => ?_⟩
  by_cases c : d = D + 1
  · subst c
    refine ⟨σ, s + 1, 0, a, hσ, pk_us, by rw [pk_us]; exact hx, pk_us, pk_us, pk_us, by omega, by omega, by rw [if_pos rfl], pk_us, pk_us, ha, fun z => by omega, fun z => by omega, fun r hr _ => ?_⟩
    obtain ⟨M, hM, hM2⟩ := hO r hr
    exact ⟨0, M, hM, hM2, by omega, pk_us, pk_us⟩
  · obtain ⟨σ', φ, ς, μ, k1, k2, k3, k4, k5, k6, k7, k8, k9, k10, k11, k12, k13, k14, k15⟩ := h4 d (by omega)
    refine ⟨σ', φ, ς, μ, k1, by rw [pk_un c]; exact k2, by rw [pk_un c]; exact k3, by rw [pk_un c]; exact k4, by rw [pk_un c]; exact k5, by rw [pk_un c]; exact k6, k7, k8, ?_, by rw [pk_un c]; exact k10, by rw [pk_un c]; exact k11, k12, k13, ?_, ?_⟩
    · rw [if_neg (by omega)]
      by_cases c2 : d = D
      · subst c2
        rw [if_pos rfl] at k9
        rw [pk_us, nI_clamp (by omega)]
        omega
      · rw [if_neg (by omega)] at k9
        rw [pk_un (by omega)]
        exact k9
    · intro _
      rw [pk_un c]
      by_cases c2 : d = D
      · subst c2; exact htop
      · exact k14 (by omega)
    · intro r hr e
      rw [pk_un c] at e
      rw [pk_un c, pk_un c]
      exact k15 r hr e
theorem sk_pop {φ : Nat} (h : (sk K (D + 1) s l a_opCount a_opAt a_running a_next a_floor a_mix b_stream b_running b_at b_saves b_below b_mixture)) (hφ : a_floor D = nI φ) (hφ2 : φ ≤ 6) : (sk K D (if D = 0 then s else φ - 1) (lyc b_mixture D) a_opCount a_opAt a_running a_next a_floor a_mix b_stream b_running b_at b_saves b_below b_mixture) := by
  obtain ⟨h1, h2, h3, h4⟩ := h
  refine ⟨by omega, by split <;> omega, rfl, fun d hd => ?_⟩
  obtain ⟨σ, φ', ς, μ, k1, k2, k3, k4, k5, k6, k7, k8, k9, k10, k11, k12, k13, k14, k15⟩ := h4 d (by omega)
  refine ⟨σ, φ', ς, μ, k1, k2, k3, k4, k5, k6, k7, k8, ?_, k10, k11, k12, k13, fun z => k14 (by omega), k15⟩
  rw [if_neg (by omega)] at k9
  by_cases c : d + 1 = D
  · subst c
    rw [if_pos rfl, if_neg (by omega)]
    rw [hφ, nI_clamp (by omega)] at k9
    exact k9
  · rw [if_neg c]; exact k9
end
section
variable {s : Nat} {a_matrix a_colour a_width a_clip b_matrix b_clip : Nat → Int32}
theorem gs_up (h : (gs s a_matrix a_colour a_width a_clip b_matrix b_clip)) : (gs (s + 1) (cpf 6 s a_matrix 6) (upd a_colour (s + 1) (a_colour s)) (upd a_width (s + 1) (a_width s)) (cpf 12 s a_clip 12) (cpf 6 s b_matrix 6) (cpf 192 s b_clip 192)) := by
  obtain ⟨h1, h2, h3, h4, h5⟩ := h
  refine ⟨fun k hk => ?_, fun k hk => ?_, fun i => ?_, fun i => ?_, fun l hl j hj => ?_⟩
  · rcases Nat.lt_or_ge k (6 * (s + 1)) with t | t
    · rw [cpf_lo t]; exact h1 k (by omega)
    · obtain ⟨i, rfl⟩ : ∃ i, k = 6 * (s + 1) + i := ⟨k - 6 * (s + 1), by omega⟩
      rw [cpf_hi (by omega)]
      obtain ⟨q1, q2⟩ := h1 (6 * s + i) (by omega)
      exact ⟨q1, fun z => q2 (by omega)⟩
  · rcases Nat.lt_or_ge k (6 * (s + 1)) with t | t
    · rw [cpf_lo t, cpf_lo t]; exact h2 k (by omega)
    · obtain ⟨i, rfl⟩ : ∃ i, k = 6 * (s + 1) + i := ⟨k - 6 * (s + 1), by omega⟩
      rw [cpf_hi (by omega), cpf_hi (by omega)]
      exact h2 (6 * s + i) (by omega)
  · by_cases c : i = s + 1
    · subst c; rw [pk_us]; exact h3 s
    · rw [pk_un c]; exact h3 i
  · by_cases c : i = s + 1
    · subst c; rw [pk_us]; exact h4 s
    · rw [pk_un c]; exact h4 i
  · rcases Nat.lt_or_ge s l with t | t
    · have : l = s + 1 := by omega
      subst this
      obtain ⟨q1, q2⟩ := h5 s (by omega) j hj
      refine ⟨by rw [cpf_hi hj]; exact q1, fun i hi => ?_⟩
      rw [cpf_hi hj, cpf_hi (by omega)]
      exact q2 i hi
    · obtain ⟨q1, q2⟩ := h5 l t j hj
      refine ⟨by rw [cpf_lo (by omega)]; exact q1, fun i hi => ?_⟩
      rw [cpf_lo (by omega), cpf_lo (by omega)]
      exact q2 i hi
theorem gs_dn {s' : Nat} (h : (gs s a_matrix a_colour a_width a_clip b_matrix b_clip)) (hs : s' ≤ s) : (gs s' a_matrix a_colour a_width a_clip b_matrix b_clip) := by
  obtain ⟨h1, h2, h3, h4, h5⟩ := h
  exact ⟨fun k hk => h1 k (by omega), fun k hk => h2 k (by omega), h3, h4, fun l hl => h5 l (by omega)⟩
theorem gs_clip {p : Nat} (h : (gs s a_matrix a_colour a_width a_clip b_matrix b_clip)) (hp : p < 192) : b_clip (192 * s + p) = 0 ∨ b_clip (192 * s + p) = 1 := by
  obtain ⟨h1, h2, h3, h4, h5⟩ := h
  obtain ⟨_, q⟩ := h5 s (Nat.le_refl s) (p / 16) (by omega)
  have := (q (p % 16) (by omega)).1
  rw [show 16 * (p / 16) + p % 16 = p by omega] at this
  exact this
theorem gs_cut {H : Nat → Bool} {cl : Nat → Int32} (h : (gs s a_matrix a_colour a_width a_clip b_matrix b_clip)) (h1 : ∀ q, q < 12 * s → cl q = a_clip q) (h2 : ∀ j, j < 12 → (∃ v, v < 65536 ∧ cl (12 * s + j) = nI v) ∧ ∀ i, i < 16 → (bt (cl (12 * s + j)) i = true ↔ H (16 * j + i) = true)) :
    (gs s a_matrix a_colour a_width cl b_matrix (cf H s b_clip 192)) := by
  obtain ⟨g1, g2, g3, g4, g5⟩ := h
  refine ⟨g1, g2, g3, g4, fun l hl j hj => ?_⟩
  rcases Nat.lt_or_ge l s with t | t
  · obtain ⟨q1, q2⟩ := g5 l hl j hj
    rw [h1 (12 * l + j) (by omega)]
    refine ⟨q1, fun i hi => ?_⟩
    have e : cf H s b_clip 192 (192 * l + (16 * j + i)) = b_clip (192 * l + (16 * j + i)) := if_neg (by omega)
    rw [e]
    exact q2 i hi
  · have : l = s := by omega
    subst this
    obtain ⟨q1, q2⟩ := h2 j hj
    refine ⟨q1, fun i hi => ?_⟩
    have e : cf H l b_clip 192 (192 * l + (16 * j + i)) = if H (16 * j + i) = true then 1 else 0 := by
      unfold cf
      rw [if_pos ⟨by omega, by omega⟩, show 192 * l + (16 * j + i) - 192 * l = 16 * j + i by omega]
    rw [e, q2 i hi]
    by_cases c : H (16 * j + i) = true
    · rw [if_pos c]
      exact ⟨Or.inr rfl, ⟨fun _ => by decide, fun _ => c⟩⟩
    · rw [if_neg c]
      exact ⟨Or.inl rfl, ⟨fun z => absurd z c, fun z => absurd rfl z⟩⟩
theorem gs_m6 {v0 v1 v2 v3 v4 v5 : Int} (h : (gs s a_matrix a_colour a_width a_clip b_matrix b_clip)) (h0 : (-50 ≤ v0 ∧ v0 ≤ 50) ∧ (-50 ≤ v1 ∧ v1 ≤ 50)) (h2 : (-50 ≤ v2 ∧ v2 ≤ 50) ∧ (-50 ≤ v3 ∧ v3 ≤ 50)) (h4 : (-4000 ≤ v4 ∧ v4 ≤ 4000) ∧ (-4000 ≤ v5 ∧ v5 ≤ 4000)) :
    (gs s (m6 a_matrix (6 * s) (iZ v0) (iZ v1) (iZ v2) (iZ v3) (iZ v4) (iZ v5)) a_colour a_width a_clip (m6 b_matrix (6 * s) (iZ v0) (iZ v1) (iZ v2) (iZ v3) (iZ v4) (iZ v5)) b_clip) := by
  obtain ⟨g1, g2, g3, g4, g5⟩ := h
  have key : ∀ (M : Nat → Int32) k, k < 6 * s + 6 → m6 M (6 * s) (iZ v0) (iZ v1) (iZ v2) (iZ v3) (iZ v4) (iZ v5) k = if k < 6 * s then M k else if k = 6 * s then iZ v0 else if k = 6 * s + 1 then iZ v1 else if k = 6 * s + 2 then iZ v2 else if k = 6 * s + 3 then iZ v3 else if k = 6 * s + 4 then iZ v4 else iZ v5 := by
    intro M k hk
    unfold m6 upd
    by_cases c : k < 6 * s
    · rw [if_pos c, if_neg (by omega), if_neg (by omega), if_neg (by omega), if_neg (by omega), if_neg (by omega), if_neg (by omega)]
    · rw [if_neg c]
      have : k = 6 * s ∨ k = 6 * s + 1 ∨ k = 6 * s + 2 ∨ k = 6 * s + 3 ∨ k = 6 * s + 4 ∨ k = 6 * s + 5 := by omega
      rcases this with rfl | rfl | rfl | rfl | rfl | rfl <;> simp
  refine ⟨fun k hk => ?_, fun k hk => ?_, g3, g4, g5⟩
  · rw [key a_matrix k hk]
    by_cases c : k < 6 * s
    · rw [if_pos c]; exact g1 k (by omega)
    · rw [if_neg c]
      have : k = 6 * s ∨ k = 6 * s + 1 ∨ k = 6 * s + 2 ∨ k = 6 * s + 3 ∨ k = 6 * s + 4 ∨ k = 6 * s + 5 := by omega
      rcases this with rfl | rfl | rfl | rfl | rfl | rfl
      · rw [if_pos rfl, iz_T (by omega)]; omega
      · rw [if_neg (by omega), if_pos rfl, iz_T (by omega)]; omega
      · rw [if_neg (by omega), if_neg (by omega), if_pos rfl, iz_T (by omega)]; omega
      · rw [if_neg (by omega), if_neg (by omega), if_neg (by omega), if_pos rfl, iz_T (by omega)]; omega
      · rw [if_neg (by omega), if_neg (by omega), if_neg (by omega), if_neg (by omega), if_pos rfl, iz_T (by omega)]; omega
      · rw [if_neg (by omega), if_neg (by omega), if_neg (by omega), if_neg (by omega), if_neg (by omega), iz_T (by omega)]; omega
  · rw [key a_matrix k hk, key b_matrix k hk]
    by_cases c : k < 6 * s
    · rw [if_pos c, if_pos c]; exact g2 k hk
    · rw [if_neg c, if_neg c]
end
end
section
/-! operators in lockstep: MOVE, LINE, CLOSE, RECT, DROP -/
def OUT (R K M pl : Nat) (u : SX) (v : SY) : Prop := EXR R K M u v ∨ EFR R pl u v
def OPR (R K M pl k a : Nat) (u : SX) (v : SY) : Prop :=
  ∃ v' : SY, (∀ Q : SY → Prop, Q v' → wpY_operator Q v (nI k) (nI pl)) ∧ (∀ P : SX → Prop, (∀ u', OUT R K M pl u' v' → P u') → wpX_perform P u (nI k) (nI a))
theorem hu_n {U : Nat} (h : U ≤ 199) : ¬ nI (199 - U) = 200 := by
  rw [show (200 : Int32) = nI 200 from rfl, nI_eq (by omega) (by omega)]; omega
theorem hu_1 {U : Nat} (h : U ≤ 199) : nI (199 - U) + 1 = nI (200 - U) := by
  rw [nI_1, show 199 - U + 1 = 200 - U by omega]
section
variable {f_drafted f_revisions f_depth f_known f_saved f_edges f_counted f_begun f_startX f_startY f_nowX f_nowY f_low f_high f_pointX f_pointY f_layer f_fault f_faultAt f_units f_used : Int32} {a_draftKind a_draftValue a_streamOf a_sizes a_before a_newest a_opCount a_ops a_opAt a_numbers a_running a_next a_floor a_mix a_matrix a_colour a_width a_clip a_x1 a_y1 a_x2 a_y2 a_extra a_winding a_crossings a_pixels a_painter : Nat → Int32}
variable {g_revisions g_shown g_level g_layer g_depth g_parts g_edges g_operands g_units g_fault g_where g_partEdges : Int32} {b_stream b_length b_kind b_num b_matrix b_colour b_width b_clip b_paint b_painter b_running b_at b_saves b_below b_mixture b_beginX b_beginY b_endX b_endY b_fromX b_fromY b_toX b_toY b_operand : Nat → Int32}
variable {R K D s l U pl a : Nat}
theorem y266 {k : Nat} {Q : SY → Prop} (hk : k < 5 ∨ 9 < k) (h15 : k ≠ 15) (h17 : k ≤ 17) (h : Q (g_revisions, g_shown, g_level, g_layer, g_depth, g_parts, g_edges, g_operands, g_units, g_fault, g_where, g_partEdges, b_stream, b_length, b_kind, b_num, b_matrix, b_colour, b_width, b_clip, b_paint, b_painter, b_running, b_at, b_saves, b_below, b_mixture, b_beginX, b_beginY, b_endX, b_endY, b_fromX, b_fromY, b_toX, b_toY, b_operand)) : wY_operator_266 Q (nI k) g_revisions g_shown g_level g_layer g_depth g_parts g_edges g_operands g_units g_fault g_where g_partEdges b_stream b_length b_kind b_num b_matrix b_colour b_width b_clip b_paint b_painter b_running b_at b_saves b_below b_mixture b_beginX b_beginY b_endX b_endY b_fromX b_fromY b_toX b_toY b_operand := by
  have y277 : wY_operator_277 Q (nI k) g_revisions g_shown g_level g_layer g_depth g_parts g_edges g_operands g_units g_fault g_where g_partEdges b_stream b_length b_kind b_num b_matrix b_colour b_width b_clip b_paint b_painter b_running b_at b_saves b_below b_mixture b_beginX b_beginY b_endX b_endY b_fromX b_fromY b_toX b_toY b_operand := by
    unfold wY_operator_277
    exact pk_eq k 15 (fun z => absurd z h15) (fun _ => h)
  unfold wY_operator_266
  refine pk_lt k 5 (fun _ => y277) (fun z => ?_)
  exact pk_le k 9 (fun z2 => by omega) (fun _ => y277)
theorem y266p {k : Nat} {Q : SY → Prop} (hk : (5 ≤ k ∧ k ≤ 9) ∨ k = 15) (h : Q (g_revisions, g_shown, g_level, g_layer, g_depth, 0, 0, g_operands, g_units, g_fault, g_where, g_partEdges, b_stream, b_length, b_kind, b_num, b_matrix, b_colour, b_width, b_clip, b_paint, b_painter, b_running, b_at, b_saves, b_below, b_mixture, b_beginX, b_beginY, b_endX, b_endY, b_fromX, b_fromY, b_toX, b_toY, b_operand)) : wY_operator_266 Q (nI k) g_revisions g_shown g_level g_layer g_depth g_parts g_edges g_operands g_units g_fault g_where g_partEdges b_stream b_length b_kind b_num b_matrix b_colour b_width b_clip b_paint b_painter b_running b_at b_saves b_below b_mixture b_beginX b_beginY b_endX b_endY b_fromX b_fromY b_toX b_toY b_operand := by
  have y277 : k = 15 → wY_operator_277 Q (nI k) g_revisions g_shown g_level g_layer g_depth g_parts g_edges g_operands g_units g_fault g_where g_partEdges b_stream b_length b_kind b_num b_matrix b_colour b_width b_clip b_paint b_painter b_running b_at b_saves b_below b_mixture b_beginX b_beginY b_endX b_endY b_fromX b_fromY b_toX b_toY b_operand := by
    intro e
    unfold wY_operator_277
    exact pk_eq k 15 (fun _ => h) (fun z => absurd e z)
  unfold wY_operator_266
  refine pk_lt k 5 (fun z => y277 (by omega)) (fun z => ?_)
  exact pk_le k 9 (fun _ => h) (fun z2 => y277 (by omega))
theorem op_1 (h : (ec R K D s l U f_drafted f_edges f_counted f_begun f_startX f_startY f_nowX f_nowY a_draftKind a_draftValue a_streamOf a_sizes a_before a_newest a_opCount a_ops a_opAt a_numbers a_running a_next a_floor a_mix a_matrix a_colour a_width a_clip a_x1 a_y1 a_x2 a_y2 a_extra a_pixels a_painter g_parts g_edges g_partEdges b_stream b_length b_kind b_num b_matrix b_clip b_running b_at b_saves b_below b_mixture b_beginX b_beginY b_endX b_endY b_fromX b_fromY b_toX b_toY)) (hf : fl (nI D) a_running a_next a_streamOf a_opAt pl) (hU : U ≤ 199) (ha : a + 2 ≤ 320) (o : ∀ i, i < 2 → ∃ z : Int, (-1000 ≤ z ∧ z ≤ 1000) ∧ a_numbers (a + i) = iZ z ∧ b_operand i = iZ z) :
    OPR R K (2 * U + D + 2) pl 1 a (f_drafted, nI R, nI D, nI K, nI s, f_edges, f_counted, f_begun, f_startX, f_startY, f_nowX, f_nowY, f_low, f_high, f_pointX, f_pointY, nI l, 0, -1, nI U, f_used, a_draftKind, a_draftValue, a_streamOf, a_sizes, a_before, a_newest, a_opCount, a_ops, a_opAt, a_numbers, a_running, a_next, a_floor, a_mix, a_matrix, a_colour, a_width, a_clip, a_x1, a_y1, a_x2, a_y2, a_extra, a_winding, a_crossings, a_pixels, a_painter) (nI R, nI K, nI s, nI l, nI D, g_parts, g_edges, nI 2, nI (199 - U), 0, -1, g_partEdges, b_stream, b_length, b_kind, b_num, b_matrix, a_colour, a_width, b_clip, a_pixels, a_painter, b_running, b_at, b_saves, b_below, b_mixture, b_beginX, b_beginY, b_endX, b_endY, b_fromX, b_fromY, b_toX, b_toY, b_operand) := by
  obtain ⟨hKR, hD, hS, hG, hP, hpx, hpt, _⟩ := h
  obtain ⟨z0, b0, e0, f0⟩ := o 0 (by decide)
  obtain ⟨z1, b1, e1, f1⟩ := o 1 (by decide)
  have hs : s < 7 := by have := hS.2.1; omega
  have hnu := hu_n hU
  have hu1 := hu_1 hU
  have X0 : ∀ P : SX → Prop, wpX_point (fun r u => match u with | (f_drafted, f_revisions, f_depth, f_known, f_saved, f_edges, f_counted, f_begun, f_startX, f_startY, f_nowX, f_nowY, f_low, f_high, f_pointX, f_pointY, f_layer, f_fault, f_faultAt, f_units, f_used, a_draftKind, a_draftValue, a_streamOf, a_sizes, a_before, a_newest, a_opCount, a_ops, a_opAt, a_numbers, a_running, a_next, a_floor, a_mix, a_matrix, a_colour, a_width, a_clip, a_x1, a_y1, a_x2, a_y2, a_extra, a_winding, a_crossings, a_pixels, a_painter) => ((r = 0 → P (f_drafted, f_revisions, f_depth, f_known, f_saved, f_edges, f_counted, f_begun, f_startX, f_startY, f_nowX, f_nowY, f_low, f_high, f_pointX, f_pointY, f_layer, f_fault, f_faultAt, f_units, f_used, a_draftKind, a_draftValue, a_streamOf, a_sizes, a_before, a_newest, a_opCount, a_ops, a_opAt, a_numbers, a_running, a_next, a_floor, a_mix, a_matrix, a_colour, a_width, a_clip, a_x1, a_y1, a_x2, a_y2, a_extra, a_winding, a_crossings, a_pixels, a_painter)) ∧ (¬ r = 0 → wpX_move (fun u => match u with | (f_drafted, f_revisions, f_depth, f_known, f_saved, f_edges, f_counted, f_begun, f_startX, f_startY, f_nowX, f_nowY, f_low, f_high, f_pointX, f_pointY, f_layer, f_fault, f_faultAt, f_units, f_used, a_draftKind, a_draftValue, a_streamOf, a_sizes, a_before, a_newest, a_opCount, a_ops, a_opAt, a_numbers, a_running, a_next, a_floor, a_mix, a_matrix, a_colour, a_width, a_clip, a_x1, a_y1, a_x2, a_y2, a_extra, a_winding, a_crossings, a_pixels, a_painter) => P (f_drafted, f_revisions, f_depth, f_known, f_saved, f_edges, f_counted, f_begun, f_startX, f_startY, f_nowX, f_nowY, f_low, f_high, f_pointX, f_pointY, f_layer, f_fault, f_faultAt, f_units, f_used, a_draftKind, a_draftValue, a_streamOf, a_sizes, a_before, a_newest, a_opCount, a_ops, a_opAt, a_numbers, a_running, a_next, a_floor, a_mix, a_matrix, a_colour, a_width, a_clip, a_x1, a_y1, a_x2, a_y2, a_extra, a_winding, a_crossings, a_pixels, a_painter)) (f_drafted, f_revisions, f_depth, f_known, f_saved, f_edges, f_counted, f_begun, f_startX, f_startY, f_nowX, f_nowY, f_low, f_high, f_pointX, f_pointY, f_layer, f_fault, f_faultAt, f_units, f_used, a_draftKind, a_draftValue, a_streamOf, a_sizes, a_before, a_newest, a_opCount, a_ops, a_opAt, a_numbers, a_running, a_next, a_floor, a_mix, a_matrix, a_colour, a_width, a_clip, a_x1, a_y1, a_x2, a_y2, a_extra, a_winding, a_crossings, a_pixels, a_painter)))) (f_drafted, nI R, nI D, nI K, nI s, f_edges, f_counted, f_begun, f_startX, f_startY, f_nowX, f_nowY, f_low, f_high, f_pointX, f_pointY, nI l, 0, -1, nI U, f_used, a_draftKind, a_draftValue, a_streamOf, a_sizes, a_before, a_newest, a_opCount, a_ops, a_opAt, a_numbers, a_running, a_next, a_floor, a_mix, a_matrix, a_colour, a_width, a_clip, a_x1, a_y1, a_x2, a_y2, a_extra, a_winding, a_crossings, a_pixels, a_painter) (iZ z0) (iZ z1) → wpX_perform P (f_drafted, nI R, nI D, nI K, nI s, f_edges, f_counted, f_begun, f_startX, f_startY, f_nowX, f_nowY, f_low, f_high, f_pointX, f_pointY, nI l, 0, -1, nI U, f_used, a_draftKind, a_draftValue, a_streamOf, a_sizes, a_before, a_newest, a_opCount, a_ops, a_opAt, a_numbers, a_running, a_next, a_floor, a_mix, a_matrix, a_colour, a_width, a_clip, a_x1, a_y1, a_x2, a_y2, a_extra, a_winding, a_crossings, a_pixels, a_painter) (nI 1) (nI a) := by
    intro P H
    unfold wpX_perform
    refine (br_f (by decide) (br_f (by decide) (br_t rfl (?_))))
    rw [nj_a (c := 1) a 1, nI_clamp (n := a) (by omega), nI_clamp (n := a + 1) (by omega), e1, show a_numbers a = iZ z0 from e0]
    exact ⟨vp_in_nI (by omega) (by omega), vp_in_nI (by omega) (by omega), H⟩
  have Y0 : ∀ Q : SY → Prop, wpY_moveTo (fun u => match u with | (g_revisions, g_shown, g_level, g_layer, g_depth, g_parts, g_edges, g_operands, g_units, g_fault, g_where, g_partEdges, b_stream, b_length, b_kind, b_num, b_matrix, b_colour, b_width, b_clip, b_paint, b_painter, b_running, b_at, b_saves, b_below, b_mixture, b_beginX, b_beginY, b_endX, b_endY, b_fromX, b_fromY, b_toX, b_toY, b_operand) => wY_operator_266 Q (nI 1) g_revisions g_shown g_level g_layer g_depth g_parts g_edges g_operands g_units g_fault g_where g_partEdges b_stream b_length b_kind b_num b_matrix b_colour b_width b_clip b_paint b_painter b_running b_at b_saves b_below b_mixture b_beginX b_beginY b_endX b_endY b_fromX b_fromY b_toX b_toY b_operand) (nI R, nI K, nI s, nI l, nI D, g_parts, g_edges, 0, nI (200 - U), 0, -1, g_partEdges, b_stream, b_length, b_kind, b_num, b_matrix, a_colour, a_width, b_clip, a_pixels, a_painter, b_running, b_at, b_saves, b_below, b_mixture, b_beginX, b_beginY, b_endX, b_endY, b_fromX, b_fromY, b_toX, b_toY, b_operand) (iZ z0) (iZ z1) → wpY_operator Q (nI R, nI K, nI s, nI l, nI D, g_parts, g_edges, nI 2, nI (199 - U), 0, -1, g_partEdges, b_stream, b_length, b_kind, b_num, b_matrix, a_colour, a_width, b_clip, a_pixels, a_painter, b_running, b_at, b_saves, b_below, b_mixture, b_beginX, b_beginY, b_endX, b_endY, b_fromX, b_fromY, b_toX, b_toY, b_operand) (nI 1) (nI pl) := by
    intro Q H
    unfold wpY_operator wpY_wanted
    exact (br_t rfl (br_t rfl (br_f hnu (nm_r hu1 (nm_r f0 (nm_r f1 (br_t rfl (H))))))))
  by_cases near : (-4000 ≤ pX a_matrix s z0 z1 ∧ pX a_matrix s z0 z1 ≤ 4000) ∧ (-4000 ≤ pY a_matrix s z0 z1 ∧ pY a_matrix s z0 z1 ≤ 4000)
  · have eq := pXY_c hG.2.1 z0 z1
    obtain ⟨c_edges, c_counted, c_begun, c_startX, c_startY, c_nowX, c_nowY, c_pointX, c_pointY, h_parts, h_edges, h_partEdges, c_x1, c_y1, c_x2, c_y2, c_extra, h_beginX, h_beginY, h_endX, h_endY, h_fromX, h_fromY, h_toX, h_toY, kp, m1, m2⟩ := j_move (f_drafted := f_drafted) (f_revisions := nI R) (f_depth := nI D) (f_known := nI K) (f_saved := nI s) (f_edges := f_edges) (f_counted := f_counted) (f_begun := f_begun) (f_startX := f_startX) (f_startY := f_startY) (f_nowX := f_nowX) (f_nowY := f_nowY) (f_low := f_low) (f_high := f_high) (f_layer := nI l) (f_fault := 0) (f_faultAt := -1) (f_units := nI U) (f_used := f_used) (a_draftKind := a_draftKind) (a_draftValue := a_draftValue) (a_streamOf := a_streamOf) (a_sizes := a_sizes) (a_before := a_before) (a_newest := a_newest) (a_opCount := a_opCount) (a_ops := a_ops) (a_opAt := a_opAt) (a_numbers := a_numbers) (a_running := a_running) (a_next := a_next) (a_floor := a_floor) (a_mix := a_mix) (a_matrix := a_matrix) (a_colour := a_colour) (a_width := a_width) (a_clip := a_clip) (a_x1 := a_x1) (a_y1 := a_y1) (a_x2 := a_x2) (a_y2 := a_y2) (a_extra := a_extra) (a_winding := a_winding) (a_crossings := a_crossings) (a_pixels := a_pixels) (a_painter := a_painter) (g_revisions := nI R) (g_shown := nI K) (g_layer := nI l) (g_depth := nI D) (g_parts := g_parts) (g_edges := g_edges) (g_operands := 0) (g_units := nI (200 - U)) (g_fault := 0) (g_where := -1) (g_partEdges := g_partEdges) (b_stream := b_stream) (b_length := b_length) (b_kind := b_kind) (b_num := b_num) (b_matrix := b_matrix) (b_colour := a_colour) (b_width := a_width) (b_clip := b_clip) (b_paint := a_pixels) (b_painter := a_painter) (b_running := b_running) (b_at := b_at) (b_saves := b_saves) (b_below := b_below) (b_mixture := b_mixture) (b_beginX := b_beginX) (b_beginY := b_beginY) (b_endX := b_endX) (b_endY := b_endY) (b_fromX := b_fromX) (b_fromY := b_fromY) (b_toX := b_toX) (b_toY := b_toY) (b_operand := b_operand) hP hs (mxr_c hG.2.1 hG.1) (by omega) (by omega) eq.1 eq.2 near.1 near.2
    refine ⟨(nI R, nI K, nI s, nI l, nI D, h_parts, h_edges, 0, nI (200 - U), 0, -1, h_partEdges, b_stream, b_length, b_kind, b_num, b_matrix, a_colour, a_width, b_clip, a_pixels, a_painter, b_running, b_at, b_saves, b_below, b_mixture, h_beginX, h_beginY, h_endX, h_endY, h_fromX, h_fromY, h_toX, h_toY, b_operand), fun Q hq => Y0 Q (m2 _ (y266 (by omega) (by omega) (by omega) hq)), fun P hp => X0 P (xx_point hs hG.1 (by omega) (by omega) hf (fun _ _ => br_f (by decide) (m1 _ (hp _ (Or.inl (exr_mk (by omega) ⟨hKR, hD, hS, hG, kp, hpx, hpt, by omega⟩))))) (fun z => absurd near z))⟩
  · obtain ⟨k1, k2⟩ := j_moveBad (f_drafted := f_drafted) (f_revisions := nI R) (f_depth := nI D) (f_known := nI K) (f_edges := f_edges) (f_counted := f_counted) (f_begun := f_begun) (f_startX := f_startX) (f_startY := f_startY) (f_nowX := f_nowX) (f_nowY := f_nowY) (f_low := f_low) (f_high := f_high) (f_pointX := f_pointX) (f_pointY := f_pointY) (f_layer := nI l) (f_fault := 0) (f_faultAt := -1) (f_units := nI U) (f_used := f_used) (a_draftKind := a_draftKind) (a_draftValue := a_draftValue) (a_streamOf := a_streamOf) (a_sizes := a_sizes) (a_before := a_before) (a_newest := a_newest) (a_opCount := a_opCount) (a_ops := a_ops) (a_opAt := a_opAt) (a_numbers := a_numbers) (a_running := a_running) (a_next := a_next) (a_floor := a_floor) (a_mix := a_mix) (a_matrix := a_matrix) (a_colour := a_colour) (a_width := a_width) (a_clip := a_clip) (a_x1 := a_x1) (a_y1 := a_y1) (a_x2 := a_x2) (a_y2 := a_y2) (a_extra := a_extra) (a_winding := a_winding) (a_crossings := a_crossings) (a_pixels := a_pixels) (a_painter := a_painter) (g_revisions := nI R) (g_shown := nI K) (g_layer := nI l) (g_depth := nI D) (g_parts := g_parts) (g_edges := g_edges) (g_operands := 0) (g_units := nI (200 - U)) (g_fault := 0) (g_where := -1) (g_partEdges := g_partEdges) (b_stream := b_stream) (b_length := b_length) (b_kind := b_kind) (b_num := b_num) (b_matrix := b_matrix) (b_colour := a_colour) (b_width := a_width) (b_clip := b_clip) (b_paint := a_pixels) (b_painter := a_painter) (b_running := b_running) (b_at := b_at) (b_saves := b_saves) (b_below := b_below) (b_mixture := b_mixture) (b_beginX := b_beginX) (b_beginY := b_beginY) (b_endX := b_endX) (b_endY := b_endY) (b_fromX := b_fromX) (b_fromY := b_fromY) (b_toX := b_toX) (b_toY := b_toY) (b_operand := b_operand) hP hs hG.1 hG.2.1 (by omega) (by omega) hf near
    exact ⟨(nI R, nI K, nI s, nI l, nI D, g_parts, g_edges, 0, nI (200 - U), 3, -1, g_partEdges, b_stream, b_length, b_kind, b_num, b_matrix, a_colour, a_width, b_clip, a_pixels, a_painter, b_running, b_at, b_saves, b_below, b_mixture, b_beginX, b_beginY, b_endX, b_endY, b_fromX, b_fromY, b_toX, b_toY, b_operand), fun Q hq => Y0 Q (k2 _ (y266 (by omega) (by omega) (by omega) hq)), fun P hp => X0 P (k1 _ (br_t rfl (hp _ (Or.inr (efr_mk (by decide) (by omega) hD hG.2.2.1 hG.2.2.2.1 hpx hpt)))))⟩
theorem op_2 (h : (ec R K D s l U f_drafted f_edges f_counted f_begun f_startX f_startY f_nowX f_nowY a_draftKind a_draftValue a_streamOf a_sizes a_before a_newest a_opCount a_ops a_opAt a_numbers a_running a_next a_floor a_mix a_matrix a_colour a_width a_clip a_x1 a_y1 a_x2 a_y2 a_extra a_pixels a_painter g_parts g_edges g_partEdges b_stream b_length b_kind b_num b_matrix b_clip b_running b_at b_saves b_below b_mixture b_beginX b_beginY b_endX b_endY b_fromX b_fromY b_toX b_toY)) (hf : fl (nI D) a_running a_next a_streamOf a_opAt pl) (hU : U ≤ 199) (ha : a + 2 ≤ 320) (o : ∀ i, i < 2 → ∃ z : Int, (-1000 ≤ z ∧ z ≤ 1000) ∧ a_numbers (a + i) = iZ z ∧ b_operand i = iZ z) :
    OPR R K (2 * U + D + 2) pl 2 a (f_drafted, nI R, nI D, nI K, nI s, f_edges, f_counted, f_begun, f_startX, f_startY, f_nowX, f_nowY, f_low, f_high, f_pointX, f_pointY, nI l, 0, -1, nI U, f_used, a_draftKind, a_draftValue, a_streamOf, a_sizes, a_before, a_newest, a_opCount, a_ops, a_opAt, a_numbers, a_running, a_next, a_floor, a_mix, a_matrix, a_colour, a_width, a_clip, a_x1, a_y1, a_x2, a_y2, a_extra, a_winding, a_crossings, a_pixels, a_painter) (nI R, nI K, nI s, nI l, nI D, g_parts, g_edges, nI 2, nI (199 - U), 0, -1, g_partEdges, b_stream, b_length, b_kind, b_num, b_matrix, a_colour, a_width, b_clip, a_pixels, a_painter, b_running, b_at, b_saves, b_below, b_mixture, b_beginX, b_beginY, b_endX, b_endY, b_fromX, b_fromY, b_toX, b_toY, b_operand) := by
  obtain ⟨hKR, hD, hS, hG, hP, hpx, hpt, _⟩ := h
  obtain ⟨z0, b0, e0, f0⟩ := o 0 (by decide)
  obtain ⟨z1, b1, e1, f1⟩ := o 1 (by decide)
  have hs : s < 7 := by have := hS.2.1; omega
  have hnu := hu_n hU
  have hu1 := hu_1 hU
  have X0 : ∀ P : SX → Prop, wpX_point (fun r u => match u with | (f_drafted, f_revisions, f_depth, f_known, f_saved, f_edges, f_counted, f_begun, f_startX, f_startY, f_nowX, f_nowY, f_low, f_high, f_pointX, f_pointY, f_layer, f_fault, f_faultAt, f_units, f_used, a_draftKind, a_draftValue, a_streamOf, a_sizes, a_before, a_newest, a_opCount, a_ops, a_opAt, a_numbers, a_running, a_next, a_floor, a_mix, a_matrix, a_colour, a_width, a_clip, a_x1, a_y1, a_x2, a_y2, a_extra, a_winding, a_crossings, a_pixels, a_painter) => ((r = 0 → P (f_drafted, f_revisions, f_depth, f_known, f_saved, f_edges, f_counted, f_begun, f_startX, f_startY, f_nowX, f_nowY, f_low, f_high, f_pointX, f_pointY, f_layer, f_fault, f_faultAt, f_units, f_used, a_draftKind, a_draftValue, a_streamOf, a_sizes, a_before, a_newest, a_opCount, a_ops, a_opAt, a_numbers, a_running, a_next, a_floor, a_mix, a_matrix, a_colour, a_width, a_clip, a_x1, a_y1, a_x2, a_y2, a_extra, a_winding, a_crossings, a_pixels, a_painter)) ∧ (¬ r = 0 → wpX_line (fun u => match u with | (f_drafted, f_revisions, f_depth, f_known, f_saved, f_edges, f_counted, f_begun, f_startX, f_startY, f_nowX, f_nowY, f_low, f_high, f_pointX, f_pointY, f_layer, f_fault, f_faultAt, f_units, f_used, a_draftKind, a_draftValue, a_streamOf, a_sizes, a_before, a_newest, a_opCount, a_ops, a_opAt, a_numbers, a_running, a_next, a_floor, a_mix, a_matrix, a_colour, a_width, a_clip, a_x1, a_y1, a_x2, a_y2, a_extra, a_winding, a_crossings, a_pixels, a_painter) => P (f_drafted, f_revisions, f_depth, f_known, f_saved, f_edges, f_counted, f_begun, f_startX, f_startY, f_nowX, f_nowY, f_low, f_high, f_pointX, f_pointY, f_layer, f_fault, f_faultAt, f_units, f_used, a_draftKind, a_draftValue, a_streamOf, a_sizes, a_before, a_newest, a_opCount, a_ops, a_opAt, a_numbers, a_running, a_next, a_floor, a_mix, a_matrix, a_colour, a_width, a_clip, a_x1, a_y1, a_x2, a_y2, a_extra, a_winding, a_crossings, a_pixels, a_painter)) (f_drafted, f_revisions, f_depth, f_known, f_saved, f_edges, f_counted, f_begun, f_startX, f_startY, f_nowX, f_nowY, f_low, f_high, f_pointX, f_pointY, f_layer, f_fault, f_faultAt, f_units, f_used, a_draftKind, a_draftValue, a_streamOf, a_sizes, a_before, a_newest, a_opCount, a_ops, a_opAt, a_numbers, a_running, a_next, a_floor, a_mix, a_matrix, a_colour, a_width, a_clip, a_x1, a_y1, a_x2, a_y2, a_extra, a_winding, a_crossings, a_pixels, a_painter) f_pointX f_pointY))) (f_drafted, nI R, nI D, nI K, nI s, f_edges, f_counted, f_begun, f_startX, f_startY, f_nowX, f_nowY, f_low, f_high, f_pointX, f_pointY, nI l, 0, -1, nI U, f_used, a_draftKind, a_draftValue, a_streamOf, a_sizes, a_before, a_newest, a_opCount, a_ops, a_opAt, a_numbers, a_running, a_next, a_floor, a_mix, a_matrix, a_colour, a_width, a_clip, a_x1, a_y1, a_x2, a_y2, a_extra, a_winding, a_crossings, a_pixels, a_painter) (iZ z0) (iZ z1) → wpX_perform P (f_drafted, nI R, nI D, nI K, nI s, f_edges, f_counted, f_begun, f_startX, f_startY, f_nowX, f_nowY, f_low, f_high, f_pointX, f_pointY, nI l, 0, -1, nI U, f_used, a_draftKind, a_draftValue, a_streamOf, a_sizes, a_before, a_newest, a_opCount, a_ops, a_opAt, a_numbers, a_running, a_next, a_floor, a_mix, a_matrix, a_colour, a_width, a_clip, a_x1, a_y1, a_x2, a_y2, a_extra, a_winding, a_crossings, a_pixels, a_painter) (nI 2) (nI a) := by
    intro P H
    unfold wpX_perform
    refine (br_f (by decide) (br_f (by decide) (br_f (by decide) (br_t rfl (?_)))))
    rw [nj_a (c := 1) a 1, nI_clamp (n := a) (by omega), nI_clamp (n := a + 1) (by omega), e1, show a_numbers a = iZ z0 from e0]
    exact ⟨vp_in_nI (by omega) (by omega), vp_in_nI (by omega) (by omega), H⟩
  have Y0 : ∀ Q : SY → Prop, wpY_lineTo (fun u => match u with | (g_revisions, g_shown, g_level, g_layer, g_depth, g_parts, g_edges, g_operands, g_units, g_fault, g_where, g_partEdges, b_stream, b_length, b_kind, b_num, b_matrix, b_colour, b_width, b_clip, b_paint, b_painter, b_running, b_at, b_saves, b_below, b_mixture, b_beginX, b_beginY, b_endX, b_endY, b_fromX, b_fromY, b_toX, b_toY, b_operand) => wY_operator_266 Q (nI 2) g_revisions g_shown g_level g_layer g_depth g_parts g_edges g_operands g_units g_fault g_where g_partEdges b_stream b_length b_kind b_num b_matrix b_colour b_width b_clip b_paint b_painter b_running b_at b_saves b_below b_mixture b_beginX b_beginY b_endX b_endY b_fromX b_fromY b_toX b_toY b_operand) (nI R, nI K, nI s, nI l, nI D, g_parts, g_edges, 0, nI (200 - U), 0, -1, g_partEdges, b_stream, b_length, b_kind, b_num, b_matrix, a_colour, a_width, b_clip, a_pixels, a_painter, b_running, b_at, b_saves, b_below, b_mixture, b_beginX, b_beginY, b_endX, b_endY, b_fromX, b_fromY, b_toX, b_toY, b_operand) (iZ z0) (iZ z1) → wpY_operator Q (nI R, nI K, nI s, nI l, nI D, g_parts, g_edges, nI 2, nI (199 - U), 0, -1, g_partEdges, b_stream, b_length, b_kind, b_num, b_matrix, a_colour, a_width, b_clip, a_pixels, a_painter, b_running, b_at, b_saves, b_below, b_mixture, b_beginX, b_beginY, b_endX, b_endY, b_fromX, b_fromY, b_toX, b_toY, b_operand) (nI 2) (nI pl) := by
    intro Q H
    unfold wpY_operator wpY_wanted
    exact (br_f (by decide) (br_t rfl (br_t rfl (br_f hnu (nm_r hu1 (nm_r f0 (nm_r f1 (br_f (by decide) (br_t rfl (H))))))))))
  have J := j_lineTo (f_drafted := f_drafted) (f_revisions := nI R) (f_depth := nI D) (f_known := nI K) (f_edges := f_edges) (f_counted := f_counted) (f_begun := f_begun) (f_startX := f_startX) (f_startY := f_startY) (f_nowX := f_nowX) (f_nowY := f_nowY) (f_low := f_low) (f_high := f_high) (f_pointX := f_pointX) (f_pointY := f_pointY) (f_layer := nI l) (f_fault := 0) (f_faultAt := -1) (f_units := nI U) (f_used := f_used) (a_draftKind := a_draftKind) (a_draftValue := a_draftValue) (a_streamOf := a_streamOf) (a_sizes := a_sizes) (a_before := a_before) (a_newest := a_newest) (a_opCount := a_opCount) (a_ops := a_ops) (a_opAt := a_opAt) (a_numbers := a_numbers) (a_running := a_running) (a_next := a_next) (a_floor := a_floor) (a_mix := a_mix) (a_matrix := a_matrix) (a_colour := a_colour) (a_width := a_width) (a_clip := a_clip) (a_x1 := a_x1) (a_y1 := a_y1) (a_x2 := a_x2) (a_y2 := a_y2) (a_extra := a_extra) (a_winding := a_winding) (a_crossings := a_crossings) (a_pixels := a_pixels) (a_painter := a_painter) (g_revisions := nI R) (g_shown := nI K) (g_layer := nI l) (g_depth := nI D) (g_parts := g_parts) (g_edges := g_edges) (g_operands := 0) (g_units := nI (200 - U)) (g_fault := 0) (g_where := -1) (g_partEdges := g_partEdges) (b_stream := b_stream) (b_length := b_length) (b_kind := b_kind) (b_num := b_num) (b_matrix := b_matrix) (b_colour := a_colour) (b_width := a_width) (b_clip := b_clip) (b_paint := a_pixels) (b_painter := a_painter) (b_running := b_running) (b_at := b_at) (b_saves := b_saves) (b_below := b_below) (b_mixture := b_mixture) (b_beginX := b_beginX) (b_beginY := b_beginY) (b_endX := b_endX) (b_endY := b_endY) (b_fromX := b_fromX) (b_fromY := b_fromY) (b_toX := b_toX) (b_toY := b_toY) (b_operand := b_operand) hP hs hG.1 hG.2.1 (xx := z0) (yy := z1) (by omega) (by omega) hf
  rcases J with ⟨w, px, py, hw, k1, k2⟩ | ⟨px, py, k0, ⟨w, hw, k1, k2⟩ | ⟨c_edges, c_counted, c_begun, c_startX, c_startY, c_nowX, c_nowY, c_pointX, c_pointY, h_parts, h_edges, h_partEdges, c_x1, c_y1, c_x2, c_y2, c_extra, h_beginX, h_beginY, h_endX, h_endY, h_fromX, h_fromY, h_toX, h_toY, kp, k1, k2⟩⟩
  · exact ⟨(nI R, nI K, nI s, nI l, nI D, g_parts, g_edges, 0, nI (200 - U), w, -1, g_partEdges, b_stream, b_length, b_kind, b_num, b_matrix, a_colour, a_width, b_clip, a_pixels, a_painter, b_running, b_at, b_saves, b_below, b_mixture, b_beginX, b_beginY, b_endX, b_endY, b_fromX, b_fromY, b_toX, b_toY, b_operand), fun Q hq => Y0 Q (k2 _ (y266 (by omega) (by omega) (by omega) hq)), fun P hp => X0 P (k1 _ (br_t rfl (hp _ (Or.inr (efr_mk hw (by omega) hD hG.2.2.1 hG.2.2.2.1 hpx hpt)))))⟩
  · exact ⟨(nI R, nI K, nI s, nI l, nI D, g_parts, g_edges, 0, nI (200 - U), w, -1, g_partEdges, b_stream, b_length, b_kind, b_num, b_matrix, a_colour, a_width, b_clip, a_pixels, a_painter, b_running, b_at, b_saves, b_below, b_mixture, b_beginX, b_beginY, b_endX, b_endY, b_fromX, b_fromY, b_toX, b_toY, b_operand), fun Q hq => Y0 Q (k2 _ (y266 (by omega) (by omega) (by omega) hq)), fun P hp => X0 P (k0 _ (br_f (by decide) (k1 _ (hp _ (Or.inr (efr_mk hw (by omega) hD hG.2.2.1 hG.2.2.2.1 hpx hpt))))))⟩
  · exact ⟨(nI R, nI K, nI s, nI l, nI D, h_parts, h_edges, 0, nI (200 - U), 0, -1, h_partEdges, b_stream, b_length, b_kind, b_num, b_matrix, a_colour, a_width, b_clip, a_pixels, a_painter, b_running, b_at, b_saves, b_below, b_mixture, h_beginX, h_beginY, h_endX, h_endY, h_fromX, h_fromY, h_toX, h_toY, b_operand), fun Q hq => Y0 Q (k2 _ (y266 (by omega) (by omega) (by omega) hq)), fun P hp => X0 P (k0 _ (br_f (by decide) (k1 _ (hp _ (Or.inl (exr_mk (by omega) ⟨hKR, hD, hS, hG, kp, hpx, hpt, by omega⟩))))))⟩
theorem op_3 (h : (ec R K D s l U f_drafted f_edges f_counted f_begun f_startX f_startY f_nowX f_nowY a_draftKind a_draftValue a_streamOf a_sizes a_before a_newest a_opCount a_ops a_opAt a_numbers a_running a_next a_floor a_mix a_matrix a_colour a_width a_clip a_x1 a_y1 a_x2 a_y2 a_extra a_pixels a_painter g_parts g_edges g_partEdges b_stream b_length b_kind b_num b_matrix b_clip b_running b_at b_saves b_below b_mixture b_beginX b_beginY b_endX b_endY b_fromX b_fromY b_toX b_toY)) (hf : fl (nI D) a_running a_next a_streamOf a_opAt pl) (hU : U ≤ 199) :
    OPR R K (2 * U + D + 2) pl 3 a (f_drafted, nI R, nI D, nI K, nI s, f_edges, f_counted, f_begun, f_startX, f_startY, f_nowX, f_nowY, f_low, f_high, f_pointX, f_pointY, nI l, 0, -1, nI U, f_used, a_draftKind, a_draftValue, a_streamOf, a_sizes, a_before, a_newest, a_opCount, a_ops, a_opAt, a_numbers, a_running, a_next, a_floor, a_mix, a_matrix, a_colour, a_width, a_clip, a_x1, a_y1, a_x2, a_y2, a_extra, a_winding, a_crossings, a_pixels, a_painter) (nI R, nI K, nI s, nI l, nI D, g_parts, g_edges, nI 0, nI (199 - U), 0, -1, g_partEdges, b_stream, b_length, b_kind, b_num, b_matrix, a_colour, a_width, b_clip, a_pixels, a_painter, b_running, b_at, b_saves, b_below, b_mixture, b_beginX, b_beginY, b_endX, b_endY, b_fromX, b_fromY, b_toX, b_toY, b_operand) := by
  obtain ⟨hKR, hD, hS, hG, hP, hpx, hpt, _⟩ := h
  have hnu := hu_n hU
  have hu1 := hu_1 hU
  have X0 : ∀ P : SX → Prop, wpX_line (fun u => match u with | (f_drafted, f_revisions, f_depth, f_known, f_saved, f_edges, f_counted, f_begun, f_startX, f_startY, f_nowX, f_nowY, f_low, f_high, f_pointX, f_pointY, f_layer, f_fault, f_faultAt, f_units, f_used, a_draftKind, a_draftValue, a_streamOf, a_sizes, a_before, a_newest, a_opCount, a_ops, a_opAt, a_numbers, a_running, a_next, a_floor, a_mix, a_matrix, a_colour, a_width, a_clip, a_x1, a_y1, a_x2, a_y2, a_extra, a_winding, a_crossings, a_pixels, a_painter) => P (f_drafted, f_revisions, f_depth, f_known, f_saved, f_edges, f_counted, f_begun, f_startX, f_startY, f_nowX, f_nowY, f_low, f_high, f_pointX, f_pointY, f_layer, f_fault, f_faultAt, f_units, f_used, a_draftKind, a_draftValue, a_streamOf, a_sizes, a_before, a_newest, a_opCount, a_ops, a_opAt, a_numbers, a_running, a_next, a_floor, a_mix, a_matrix, a_colour, a_width, a_clip, a_x1, a_y1, a_x2, a_y2, a_extra, a_winding, a_crossings, a_pixels, a_painter)) (f_drafted, nI R, nI D, nI K, nI s, f_edges, f_counted, f_begun, f_startX, f_startY, f_nowX, f_nowY, f_low, f_high, f_pointX, f_pointY, nI l, 0, -1, nI U, f_used, a_draftKind, a_draftValue, a_streamOf, a_sizes, a_before, a_newest, a_opCount, a_ops, a_opAt, a_numbers, a_running, a_next, a_floor, a_mix, a_matrix, a_colour, a_width, a_clip, a_x1, a_y1, a_x2, a_y2, a_extra, a_winding, a_crossings, a_pixels, a_painter) f_startX f_startY → wpX_perform P (f_drafted, nI R, nI D, nI K, nI s, f_edges, f_counted, f_begun, f_startX, f_startY, f_nowX, f_nowY, f_low, f_high, f_pointX, f_pointY, nI l, 0, -1, nI U, f_used, a_draftKind, a_draftValue, a_streamOf, a_sizes, a_before, a_newest, a_opCount, a_ops, a_opAt, a_numbers, a_running, a_next, a_floor, a_mix, a_matrix, a_colour, a_width, a_clip, a_x1, a_y1, a_x2, a_y2, a_extra, a_winding, a_crossings, a_pixels, a_painter) (nI 3) (nI a) := by
    intro P H
    unfold wpX_perform
    exact (br_f (by decide) (br_f (by decide) (br_f (by decide) (br_f (by decide) (br_t rfl (H))))))
  have Y0 : ∀ Q : SY → Prop, wpY_closePart (fun u => match u with | (g_revisions, g_shown, g_level, g_layer, g_depth, g_parts, g_edges, g_operands, g_units, g_fault, g_where, g_partEdges, b_stream, b_length, b_kind, b_num, b_matrix, b_colour, b_width, b_clip, b_paint, b_painter, b_running, b_at, b_saves, b_below, b_mixture, b_beginX, b_beginY, b_endX, b_endY, b_fromX, b_fromY, b_toX, b_toY, b_operand) => wY_operator_266 Q (nI 3) g_revisions g_shown g_level g_layer g_depth g_parts g_edges g_operands g_units g_fault g_where g_partEdges b_stream b_length b_kind b_num b_matrix b_colour b_width b_clip b_paint b_painter b_running b_at b_saves b_below b_mixture b_beginX b_beginY b_endX b_endY b_fromX b_fromY b_toX b_toY b_operand) (nI R, nI K, nI s, nI l, nI D, g_parts, g_edges, 0, nI (200 - U), 0, -1, g_partEdges, b_stream, b_length, b_kind, b_num, b_matrix, a_colour, a_width, b_clip, a_pixels, a_painter, b_running, b_at, b_saves, b_below, b_mixture, b_beginX, b_beginY, b_endX, b_endY, b_fromX, b_fromY, b_toX, b_toY, b_operand) → wpY_operator Q (nI R, nI K, nI s, nI l, nI D, g_parts, g_edges, nI 0, nI (199 - U), 0, -1, g_partEdges, b_stream, b_length, b_kind, b_num, b_matrix, a_colour, a_width, b_clip, a_pixels, a_painter, b_running, b_at, b_saves, b_below, b_mixture, b_beginX, b_beginY, b_endX, b_endY, b_fromX, b_fromY, b_toX, b_toY, b_operand) (nI 3) (nI pl) := by
    intro Q H
    unfold wpY_operator wpY_wanted
    exact (br_f (by decide) (br_f (by decide) (br_f (by decide) (br_f (by decide) (br_f (by decide) (br_f (by decide) (br_f (by decide) (br_f (by decide) (br_t rfl (br_f hnu (nm_r hu1 (nm_r rfl (nm_r rfl (br_f (by decide) (br_f (by decide) (br_t rfl (H)))))))))))))))))
  have J := j_close (f_drafted := f_drafted) (f_revisions := nI R) (f_depth := nI D) (f_known := nI K) (f_saved := nI s) (f_edges := f_edges) (f_counted := f_counted) (f_begun := f_begun) (f_startX := f_startX) (f_startY := f_startY) (f_nowX := f_nowX) (f_nowY := f_nowY) (f_low := f_low) (f_high := f_high) (f_pointX := f_pointX) (f_pointY := f_pointY) (f_layer := nI l) (f_fault := 0) (f_faultAt := -1) (f_units := nI U) (f_used := f_used) (a_draftKind := a_draftKind) (a_draftValue := a_draftValue) (a_streamOf := a_streamOf) (a_sizes := a_sizes) (a_before := a_before) (a_newest := a_newest) (a_opCount := a_opCount) (a_ops := a_ops) (a_opAt := a_opAt) (a_numbers := a_numbers) (a_running := a_running) (a_next := a_next) (a_floor := a_floor) (a_mix := a_mix) (a_matrix := a_matrix) (a_colour := a_colour) (a_width := a_width) (a_clip := a_clip) (a_x1 := a_x1) (a_y1 := a_y1) (a_x2 := a_x2) (a_y2 := a_y2) (a_extra := a_extra) (a_winding := a_winding) (a_crossings := a_crossings) (a_pixels := a_pixels) (a_painter := a_painter) (g_revisions := nI R) (g_shown := nI K) (g_level := nI s) (g_layer := nI l) (g_depth := nI D) (g_parts := g_parts) (g_edges := g_edges) (g_operands := 0) (g_units := nI (200 - U)) (g_fault := 0) (g_where := -1) (g_partEdges := g_partEdges) (b_stream := b_stream) (b_length := b_length) (b_kind := b_kind) (b_num := b_num) (b_matrix := b_matrix) (b_colour := a_colour) (b_width := a_width) (b_clip := b_clip) (b_paint := a_pixels) (b_painter := a_painter) (b_running := b_running) (b_at := b_at) (b_saves := b_saves) (b_below := b_below) (b_mixture := b_mixture) (b_beginX := b_beginX) (b_beginY := b_beginY) (b_endX := b_endX) (b_endY := b_endY) (b_fromX := b_fromX) (b_fromY := b_fromY) (b_toX := b_toX) (b_toY := b_toY) (b_operand := b_operand) hP hf
  rcases J with ⟨w, hw, k1, k2⟩ | ⟨c_edges, c_counted, c_begun, c_startX, c_startY, c_nowX, c_nowY, c_pointX, c_pointY, h_parts, h_edges, h_partEdges, c_x1, c_y1, c_x2, c_y2, c_extra, h_beginX, h_beginY, h_endX, h_endY, h_fromX, h_fromY, h_toX, h_toY, kp, k1, k2⟩
  · exact ⟨(nI R, nI K, nI s, nI l, nI D, g_parts, g_edges, 0, nI (200 - U), w, -1, g_partEdges, b_stream, b_length, b_kind, b_num, b_matrix, a_colour, a_width, b_clip, a_pixels, a_painter, b_running, b_at, b_saves, b_below, b_mixture, b_beginX, b_beginY, b_endX, b_endY, b_fromX, b_fromY, b_toX, b_toY, b_operand), fun Q hq => Y0 Q (k2 _ (y266 (by omega) (by omega) (by omega) hq)), fun P hp => X0 P (k1 _ (hp _ (Or.inr (efr_mk hw (by omega) hD hG.2.2.1 hG.2.2.2.1 hpx hpt))))⟩
  · exact ⟨(nI R, nI K, nI s, nI l, nI D, h_parts, h_edges, 0, nI (200 - U), 0, -1, h_partEdges, b_stream, b_length, b_kind, b_num, b_matrix, a_colour, a_width, b_clip, a_pixels, a_painter, b_running, b_at, b_saves, b_below, b_mixture, h_beginX, h_beginY, h_endX, h_endY, h_fromX, h_fromY, h_toX, h_toY, b_operand), fun Q hq => Y0 Q (k2 _ (y266 (by omega) (by omega) (by omega) hq)), fun P hp => X0 P (k1 _ (hp _ (Or.inl (exr_mk (by omega) ⟨hKR, hD, hS, hG, kp, hpx, hpt, by omega⟩))))⟩
theorem op_4 (h : (ec R K D s l U f_drafted f_edges f_counted f_begun f_startX f_startY f_nowX f_nowY a_draftKind a_draftValue a_streamOf a_sizes a_before a_newest a_opCount a_ops a_opAt a_numbers a_running a_next a_floor a_mix a_matrix a_colour a_width a_clip a_x1 a_y1 a_x2 a_y2 a_extra a_pixels a_painter g_parts g_edges g_partEdges b_stream b_length b_kind b_num b_matrix b_clip b_running b_at b_saves b_below b_mixture b_beginX b_beginY b_endX b_endY b_fromX b_fromY b_toX b_toY)) (hf : fl (nI D) a_running a_next a_streamOf a_opAt pl) (hU : U ≤ 199) (ha : a + 4 ≤ 320) (o : ∀ i, i < 4 → ∃ z : Int, (-1000 ≤ z ∧ z ≤ 1000) ∧ a_numbers (a + i) = iZ z ∧ b_operand i = iZ z) :
    OPR R K (2 * U + D + 2) pl 4 a (f_drafted, nI R, nI D, nI K, nI s, f_edges, f_counted, f_begun, f_startX, f_startY, f_nowX, f_nowY, f_low, f_high, f_pointX, f_pointY, nI l, 0, -1, nI U, f_used, a_draftKind, a_draftValue, a_streamOf, a_sizes, a_before, a_newest, a_opCount, a_ops, a_opAt, a_numbers, a_running, a_next, a_floor, a_mix, a_matrix, a_colour, a_width, a_clip, a_x1, a_y1, a_x2, a_y2, a_extra, a_winding, a_crossings, a_pixels, a_painter) (nI R, nI K, nI s, nI l, nI D, g_parts, g_edges, nI 4, nI (199 - U), 0, -1, g_partEdges, b_stream, b_length, b_kind, b_num, b_matrix, a_colour, a_width, b_clip, a_pixels, a_painter, b_running, b_at, b_saves, b_below, b_mixture, b_beginX, b_beginY, b_endX, b_endY, b_fromX, b_fromY, b_toX, b_toY, b_operand) := by
  obtain ⟨hKR, hD, hS, hG, hP, hpx, hpt, _⟩ := h
  obtain ⟨z0, b0, e0, f0⟩ := o 0 (by decide)
  obtain ⟨z1, b1, e1, f1⟩ := o 1 (by decide)
  obtain ⟨z2, b2, e2, f2⟩ := o 2 (by decide)
  obtain ⟨z3, b3, e3, f3⟩ := o 3 (by decide)
  have hs : s < 7 := by have := hS.2.1; omega
  have hnu := hu_n hU
  have hu1 := hu_1 hU
  have X0 : ∀ P : SX → Prop, wpX_rectangle (fun u => match u with | (f_drafted, f_revisions, f_depth, f_known, f_saved, f_edges, f_counted, f_begun, f_startX, f_startY, f_nowX, f_nowY, f_low, f_high, f_pointX, f_pointY, f_layer, f_fault, f_faultAt, f_units, f_used, a_draftKind, a_draftValue, a_streamOf, a_sizes, a_before, a_newest, a_opCount, a_ops, a_opAt, a_numbers, a_running, a_next, a_floor, a_mix, a_matrix, a_colour, a_width, a_clip, a_x1, a_y1, a_x2, a_y2, a_extra, a_winding, a_crossings, a_pixels, a_painter) => P (f_drafted, f_revisions, f_depth, f_known, f_saved, f_edges, f_counted, f_begun, f_startX, f_startY, f_nowX, f_nowY, f_low, f_high, f_pointX, f_pointY, f_layer, f_fault, f_faultAt, f_units, f_used, a_draftKind, a_draftValue, a_streamOf, a_sizes, a_before, a_newest, a_opCount, a_ops, a_opAt, a_numbers, a_running, a_next, a_floor, a_mix, a_matrix, a_colour, a_width, a_clip, a_x1, a_y1, a_x2, a_y2, a_extra, a_winding, a_crossings, a_pixels, a_painter)) (f_drafted, nI R, nI D, nI K, nI s, f_edges, f_counted, f_begun, f_startX, f_startY, f_nowX, f_nowY, f_low, f_high, f_pointX, f_pointY, nI l, 0, -1, nI U, f_used, a_draftKind, a_draftValue, a_streamOf, a_sizes, a_before, a_newest, a_opCount, a_ops, a_opAt, a_numbers, a_running, a_next, a_floor, a_mix, a_matrix, a_colour, a_width, a_clip, a_x1, a_y1, a_x2, a_y2, a_extra, a_winding, a_crossings, a_pixels, a_painter) (iZ z0) (iZ z1) (iZ z2) (iZ z3) → wpX_perform P (f_drafted, nI R, nI D, nI K, nI s, f_edges, f_counted, f_begun, f_startX, f_startY, f_nowX, f_nowY, f_low, f_high, f_pointX, f_pointY, nI l, 0, -1, nI U, f_used, a_draftKind, a_draftValue, a_streamOf, a_sizes, a_before, a_newest, a_opCount, a_ops, a_opAt, a_numbers, a_running, a_next, a_floor, a_mix, a_matrix, a_colour, a_width, a_clip, a_x1, a_y1, a_x2, a_y2, a_extra, a_winding, a_crossings, a_pixels, a_painter) (nI 4) (nI a) := by
    intro P H
    unfold wpX_perform
    refine (br_f (by decide) (br_f (by decide) (br_f (by decide) (br_f (by decide) (br_f (by decide) (br_t rfl (?_)))))))
    rw [nj_a (c := 1) a 1, nj_a (c := 2) a 2, nj_a (c := 3) a 3, nI_clamp (n := a) (by omega), nI_clamp (n := a + 1) (by omega), nI_clamp (n := a + 2) (by omega), nI_clamp (n := a + 3) (by omega), e1, e2, e3, show a_numbers a = iZ z0 from e0]
    exact ⟨vp_in_nI (by omega) (by omega), vp_in_nI (by omega) (by omega), vp_in_nI (by omega) (by omega), vp_in_nI (by omega) (by omega), H⟩
  have Y0 : ∀ Q : SY → Prop, wpY_rectangle (fun u => match u with | (g_revisions, g_shown, g_level, g_layer, g_depth, g_parts, g_edges, g_operands, g_units, g_fault, g_where, g_partEdges, b_stream, b_length, b_kind, b_num, b_matrix, b_colour, b_width, b_clip, b_paint, b_painter, b_running, b_at, b_saves, b_below, b_mixture, b_beginX, b_beginY, b_endX, b_endY, b_fromX, b_fromY, b_toX, b_toY, b_operand) => wY_operator_266 Q (nI 4) g_revisions g_shown g_level g_layer g_depth g_parts g_edges g_operands g_units g_fault g_where g_partEdges b_stream b_length b_kind b_num b_matrix b_colour b_width b_clip b_paint b_painter b_running b_at b_saves b_below b_mixture b_beginX b_beginY b_endX b_endY b_fromX b_fromY b_toX b_toY b_operand) (nI R, nI K, nI s, nI l, nI D, g_parts, g_edges, 0, nI (200 - U), 0, -1, g_partEdges, b_stream, b_length, b_kind, b_num, b_matrix, a_colour, a_width, b_clip, a_pixels, a_painter, b_running, b_at, b_saves, b_below, b_mixture, b_beginX, b_beginY, b_endX, b_endY, b_fromX, b_fromY, b_toX, b_toY, b_operand) (iZ z0) (iZ z1) (iZ z2) (iZ z3) → wpY_operator Q (nI R, nI K, nI s, nI l, nI D, g_parts, g_edges, nI 4, nI (199 - U), 0, -1, g_partEdges, b_stream, b_length, b_kind, b_num, b_matrix, a_colour, a_width, b_clip, a_pixels, a_painter, b_running, b_at, b_saves, b_below, b_mixture, b_beginX, b_beginY, b_endX, b_endY, b_fromX, b_fromY, b_toX, b_toY, b_operand) (nI 4) (nI pl) := by
    intro Q H
    rw [← f2, ← f3] at H
    unfold wpY_operator wpY_wanted
    exact (br_f (by decide) (br_f (by decide) (br_f (by decide) (br_t rfl (br_t rfl (br_f hnu (nm_r hu1 (nm_r f0 (nm_r f1 (br_f (by decide) (br_f (by decide) (br_f (by decide) (br_t rfl (H))))))))))))))
  have J := j_rect (f_drafted := f_drafted) (f_revisions := nI R) (f_depth := nI D) (f_known := nI K) (f_edges := f_edges) (f_counted := f_counted) (f_begun := f_begun) (f_startX := f_startX) (f_startY := f_startY) (f_nowX := f_nowX) (f_nowY := f_nowY) (f_low := f_low) (f_high := f_high) (f_pointX := f_pointX) (f_pointY := f_pointY) (f_layer := nI l) (f_faultAt := -1) (f_units := nI U) (f_used := f_used) (a_draftKind := a_draftKind) (a_draftValue := a_draftValue) (a_streamOf := a_streamOf) (a_sizes := a_sizes) (a_before := a_before) (a_newest := a_newest) (a_opCount := a_opCount) (a_ops := a_ops) (a_opAt := a_opAt) (a_numbers := a_numbers) (a_running := a_running) (a_next := a_next) (a_floor := a_floor) (a_mix := a_mix) (a_matrix := a_matrix) (a_colour := a_colour) (a_width := a_width) (a_clip := a_clip) (a_x1 := a_x1) (a_y1 := a_y1) (a_x2 := a_x2) (a_y2 := a_y2) (a_extra := a_extra) (a_winding := a_winding) (a_crossings := a_crossings) (a_pixels := a_pixels) (a_painter := a_painter) (g_revisions := nI R) (g_shown := nI K) (g_layer := nI l) (g_depth := nI D) (g_parts := g_parts) (g_edges := g_edges) (g_operands := 0) (g_units := nI (200 - U)) (g_where := -1) (g_partEdges := g_partEdges) (b_stream := b_stream) (b_length := b_length) (b_kind := b_kind) (b_num := b_num) (b_matrix := b_matrix) (b_colour := a_colour) (b_width := a_width) (b_clip := b_clip) (b_paint := a_pixels) (b_painter := a_painter) (b_running := b_running) (b_at := b_at) (b_saves := b_saves) (b_below := b_below) (b_mixture := b_mixture) (b_beginX := b_beginX) (b_beginY := b_beginY) (b_endX := b_endX) (b_endY := b_endY) (b_fromX := b_fromX) (b_fromY := b_fromY) (b_toX := b_toX) (b_toY := b_toY) (b_operand := b_operand) hP hs hG.1 hG.2.1 b0 b1 b2 b3 hf
  rcases J with ⟨w, hw, c_edges, c_counted, c_begun, c_startX, c_startY, c_nowX, c_nowY, c_pointX, c_pointY, h_parts, h_edges, h_partEdges, c_x1, c_y1, c_x2, c_y2, c_extra, h_beginX, h_beginY, h_endX, h_endY, h_fromX, h_fromY, h_toX, h_toY, k1, k2⟩ | ⟨c_edges, c_counted, c_begun, c_startX, c_startY, c_nowX, c_nowY, c_pointX, c_pointY, h_parts, h_edges, h_partEdges, c_x1, c_y1, c_x2, c_y2, c_extra, h_beginX, h_beginY, h_endX, h_endY, h_fromX, h_fromY, h_toX, h_toY, kp, k1, k2⟩
  · exact ⟨(nI R, nI K, nI s, nI l, nI D, h_parts, h_edges, 0, nI (200 - U), w, -1, h_partEdges, b_stream, b_length, b_kind, b_num, b_matrix, a_colour, a_width, b_clip, a_pixels, a_painter, b_running, b_at, b_saves, b_below, b_mixture, h_beginX, h_beginY, h_endX, h_endY, h_fromX, h_fromY, h_toX, h_toY, b_operand), fun Q hq => Y0 Q (k2 _ (y266 (by omega) (by omega) (by omega) hq)), fun P hp => X0 P (k1 _ (hp _ (Or.inr (efr_mk hw (by omega) hD hG.2.2.1 hG.2.2.2.1 hpx hpt))))⟩
  · exact ⟨(nI R, nI K, nI s, nI l, nI D, h_parts, h_edges, 0, nI (200 - U), 0, -1, h_partEdges, b_stream, b_length, b_kind, b_num, b_matrix, a_colour, a_width, b_clip, a_pixels, a_painter, b_running, b_at, b_saves, b_below, b_mixture, h_beginX, h_beginY, h_endX, h_endY, h_fromX, h_fromY, h_toX, h_toY, b_operand), fun Q hq => Y0 Q (k2 _ (y266 (by omega) (by omega) (by omega) hq)), fun P hp => X0 P (k1 _ (hp _ (Or.inl (exr_mk (by omega) ⟨hKR, hD, hS, hG, kp, hpx, hpt, by omega⟩))))⟩
theorem op_9 (h : (ec R K D s l U f_drafted f_edges f_counted f_begun f_startX f_startY f_nowX f_nowY a_draftKind a_draftValue a_streamOf a_sizes a_before a_newest a_opCount a_ops a_opAt a_numbers a_running a_next a_floor a_mix a_matrix a_colour a_width a_clip a_x1 a_y1 a_x2 a_y2 a_extra a_pixels a_painter g_parts g_edges g_partEdges b_stream b_length b_kind b_num b_matrix b_clip b_running b_at b_saves b_below b_mixture b_beginX b_beginY b_endX b_endY b_fromX b_fromY b_toX b_toY)) (hU : U ≤ 199) :
    OPR R K (2 * U + D + 2) pl 9 a (f_drafted, nI R, nI D, nI K, nI s, f_edges, f_counted, f_begun, f_startX, f_startY, f_nowX, f_nowY, f_low, f_high, f_pointX, f_pointY, nI l, 0, -1, nI U, f_used, a_draftKind, a_draftValue, a_streamOf, a_sizes, a_before, a_newest, a_opCount, a_ops, a_opAt, a_numbers, a_running, a_next, a_floor, a_mix, a_matrix, a_colour, a_width, a_clip, a_x1, a_y1, a_x2, a_y2, a_extra, a_winding, a_crossings, a_pixels, a_painter) (nI R, nI K, nI s, nI l, nI D, g_parts, g_edges, nI 0, nI (199 - U), 0, -1, g_partEdges, b_stream, b_length, b_kind, b_num, b_matrix, a_colour, a_width, b_clip, a_pixels, a_painter, b_running, b_at, b_saves, b_below, b_mixture, b_beginX, b_beginY, b_endX, b_endY, b_fromX, b_fromY, b_toX, b_toY, b_operand) := by
  obtain ⟨hKR, hD, hS, hG, hP, hpx, hpt, _⟩ := h
  have hnu := hu_n hU
  have hu1 := hu_1 hU
  refine ⟨(nI R, nI K, nI s, nI l, nI D, 0, 0, 0, nI (200 - U), 0, -1, g_partEdges, b_stream, b_length, b_kind, b_num, b_matrix, a_colour, a_width, b_clip, a_pixels, a_painter, b_running, b_at, b_saves, b_below, b_mixture, b_beginX, b_beginY, b_endX, b_endY, b_fromX, b_fromY, b_toX, b_toY, b_operand), fun Q hq => ?_, fun P hp => ?_⟩
  · unfold wpY_operator wpY_wanted
    exact (br_f (by decide) (br_f (by decide) (br_f (by decide) (br_f (by decide) (br_f (by decide) (br_f (by decide) (br_f (by decide) (br_f (by decide) (br_t rfl (br_f hnu (nm_r hu1 (nm_r rfl (nm_r rfl (br_f (by decide) (br_f (by decide) (br_f (by decide) (br_f (by decide) (br_f (by decide) (br_f (by decide) (br_f (by decide) (br_f (by decide) (br_f (by decide) (br_f (by decide) (br_f (by decide) (br_f (by decide) (br_f (by decide) (br_f (by decide) (br_f (by decide) (br_f (by decide) (y266p (k := 9) (by omega) hq))))))))))))))))))))))))))))))
  · unfold wpX_perform
    refine (br_f (by decide) (br_f (by decide) (br_f (by decide) (br_f (by decide) (br_f (by decide) (br_f (by decide) (br_f (by decide) (br_f (by decide) (br_f (by decide) (br_f (by decide) (br_t rfl (?_))))))))))))
    unfold wX_perform_427
    refine br_t rfl ?_
    unfold wX_perform_438 wpX_forget
    exact hp _ (Or.inl (exr_mk (by omega) ⟨hKR, hD, hS, hG, Or.inl ⟨rfl, rfl, rfl, rfl, rfl⟩, hpx, hpt, by omega⟩))
end
end
section
/-! operators in lockstep: FILL, ODDFILL, CLIP, ODDCLIP, STROKE -/
theorem cw_0 (px py : Int) : ∀ x y, cw px py x y x y = 0 := fun x y => cn_same _ _ _ _
theorem pc_tx {E C Q : Nat} {x1 y1 x2 y2 ex fx fy tx ty dx dy bx by_ : Nat → Int32} (h : pC E C Q (fun _ => 0) x1 y1 x2 y2 ex fx fy tx ty dx dy bx by_) (px py : Int) : txS px py E x1 y1 x2 y2 = tyS px py C Q fx fy tx ty dx dy bx by_ := by
  obtain ⟨a1, a2, a3, a4, a5, a6, a7⟩ := h
  have := a6 (cw px py) (cw_0 px py)
  dsimp only at this
  rw [Int.add_zero] at this
  exact this
section
variable {f_drafted f_revisions f_depth f_known f_saved f_edges f_counted f_begun f_startX f_startY f_nowX f_nowY f_low f_high f_pointX f_pointY f_layer f_fault f_faultAt f_units f_used : Int32} {a_draftKind a_draftValue a_streamOf a_sizes a_before a_newest a_opCount a_ops a_opAt a_numbers a_running a_next a_floor a_mix a_matrix a_colour a_width a_clip a_x1 a_y1 a_x2 a_y2 a_extra a_winding a_crossings a_pixels a_painter : Nat → Int32}
variable {g_revisions g_shown g_level g_layer g_depth g_parts g_edges g_operands g_units g_fault g_where g_partEdges : Int32} {b_stream b_length b_kind b_num b_matrix b_colour b_width b_clip b_paint b_painter b_running b_at b_saves b_below b_mixture b_beginX b_beginY b_endX b_endY b_fromX b_fromY b_toX b_toY b_operand : Nat → Int32}
variable {R K D s l U pl a : Nat}
theorem xx_finP (hp : (rPa f_edges f_counted f_begun f_startX f_startY f_nowX f_nowY a_x1 a_y1 a_x2 a_y2 a_extra g_parts g_edges g_partEdges b_beginX b_beginY b_endX b_endY b_fromX b_fromY b_toX b_toY)) : ∃ (E C Q : Nat) (nx ny : Int32) (p1 p2 p3 p4 p5 : Nat → Int32), E ≤ 56 ∧ C ≤ 24 ∧ Q ≤ 30 ∧ g_edges = nI C ∧ g_parts = nI Q ∧ pC E C Q (fun _ => 0) p1 p2 p3 p4 p5 b_fromX b_fromY b_toX b_toY b_endX b_endY b_beginX b_beginY ∧
    ∀ post : SX → Prop, post (f_drafted, f_revisions, f_depth, f_known, f_saved, nI E, f_counted, f_begun, f_startX, f_startY, nx, ny, f_low, f_high, f_pointX, f_pointY, f_layer, f_fault, f_faultAt, f_units, f_used, a_draftKind, a_draftValue, a_streamOf, a_sizes, a_before, a_newest, a_opCount, a_ops, a_opAt, a_numbers, a_running, a_next, a_floor, a_mix, a_matrix, a_colour, a_width, a_clip, p1, p2, p3, p4, p5, a_winding, a_crossings, a_pixels, a_painter) → wpX_finish post (f_drafted, f_revisions, f_depth, f_known, f_saved, f_edges, f_counted, f_begun, f_startX, f_startY, f_nowX, f_nowY, f_low, f_high, f_pointX, f_pointY, f_layer, f_fault, f_faultAt, f_units, f_used, a_draftKind, a_draftValue, a_streamOf, a_sizes, a_before, a_newest, a_opCount, a_ops, a_opAt, a_numbers, a_running, a_next, a_floor, a_mix, a_matrix, a_colour, a_width, a_clip, a_x1, a_y1, a_x2, a_y2, a_extra, a_winding, a_crossings, a_pixels, a_painter) := by
  rcases hp with ⟨rfl, rfl, rfl, rfl, rfl⟩ | ⟨rfl, E, C, Q, pe, rfl, rfl, rfl, rfl, rfl, q1, q2, n1, n2, n3, n4, p1, p2, p3, pc⟩
  · refine ⟨0, 0, 0, f_nowX, f_nowY, a_x1, a_y1, a_x2, a_y2, a_extra, by omega, by omega, by omega, rfl, rfl, pc_nil rfl rfl rfl, fun post h => ?_⟩
    unfold wpX_finish
    exact br_t rfl h
  · have pc2 := pc
    obtain ⟨a1, a2, a3, a4, a5, _, _⟩ := pc2
    have r := a5 Q (by omega)
    have rx : rg f_nowX := by rw [n1]; exact r.1
    have ry : rg f_nowY := by rw [n2]; exact r.2.1
    have rsx : rg f_startX := by rw [n3]; exact r.2.2.1
    have rsy : rg f_startY := by rw [n4]; exact r.2.2.2
    obtain ⟨nx, e1, bx⟩ := rg_i rx
    obtain ⟨ny, e2, by_⟩ := rg_i ry
    obtain ⟨sx, e3, bsx⟩ := rg_i rsx
    obtain ⟨sy, e4, bsy⟩ := rg_i rsy
    by_cases same : nx = sx ∧ ny = sy
    · have fin := pc_fin0 pc (by rw [e1, e3, same.1]) (by rw [e2, e4, same.2])
      refine ⟨E, C, Q + 1, f_nowX, f_nowY, a_x1, a_y1, a_x2, a_y2, a_extra, by omega, a2, by omega, rfl, rfl, fin, fun post h => ?_⟩
      subst e1 e2 e3 e4
      exact xx_finish (by omega) bsx bsy bx by_ (fun _ _ => h) (fun z => absurd same z)
    · have ns : ¬ (f_nowX = f_startX ∧ f_nowY = f_startY) := by
        rintro ⟨z1, z2⟩
        rw [e1, e3, iz_eq (by omega) (by omega)] at z1
        rw [e2, e4, iz_eq (by omega) (by omega)] at z2
        exact same ⟨z1, z2⟩
      have hE2 := p3 ns
      have fin := pc_fin1 pc hE2 rx ry rsx rsy
      refine ⟨E + 1, C, Q + 1, f_startX, f_startY, upd a_x1 E f_nowX, upd a_y1 E f_nowY, upd a_x2 E f_startX, upd a_y2 E f_startY, upd a_extra E 1, by omega, a2, by omega, rfl, rfl, fin, fun post h => ?_⟩
      subst e1 e2 e3 e4
      exact xx_finish (by omega) bsx bsy bx by_ (fun z1 z2 => absurd ⟨z1, z2⟩ same) (fun _ => h)
theorem hit_eq {k C Q : Nat} {w : Int} {fx fy tx ty ex ey bx by_ : Nat → Int32} {i j : Nat} (hi : i < 16) : hitY k C Q w fx fy tx ty ex ey bx by_ (16 * j + i) ↔
    (if k = 15 then ∃ e, e < C ∧ tw w (8 * (i : Int) + 5) (8 * (j : Int) + 5) (fx e) (fy e) (tx e) (ty e) else if k = 6 ∨ k = 8 then tyS (8 * (i : Int) + 5) (8 * (j : Int) + 5) C Q fx fy tx ty ex ey bx by_ % 2 = 1 else tyS (8 * (i : Int) + 5) (8 * (j : Int) + 5) C Q fx fy tx ty ex ey bx by_ ≠ 0) := by
  unfold hitY
  rw [show (16 * j + i) % 16 = i by omega, show (16 * j + i) / 16 = j by omega]
  exact Iff.rfl
theorem op_56 {k : Nat} (hk : k = 5 ∨ k = 6) (h : (ec R K D s l U f_drafted f_edges f_counted f_begun f_startX f_startY f_nowX f_nowY a_draftKind a_draftValue a_streamOf a_sizes a_before a_newest a_opCount a_ops a_opAt a_numbers a_running a_next a_floor a_mix a_matrix a_colour a_width a_clip a_x1 a_y1 a_x2 a_y2 a_extra a_pixels a_painter g_parts g_edges g_partEdges b_stream b_length b_kind b_num b_matrix b_clip b_running b_at b_saves b_below b_mixture b_beginX b_beginY b_endX b_endY b_fromX b_fromY b_toX b_toY)) (hf : fl (nI D) a_running a_next a_streamOf a_opAt pl) (hl : l < 7) (hpl : pl < 400) (hU : U ≤ 199) :
    OPR R K (2 * U + D + 2) pl k a (f_drafted, nI R, nI D, nI K, nI s, f_edges, f_counted, f_begun, f_startX, f_startY, f_nowX, f_nowY, f_low, f_high, f_pointX, f_pointY, nI l, 0, -1, nI U, f_used, a_draftKind, a_draftValue, a_streamOf, a_sizes, a_before, a_newest, a_opCount, a_ops, a_opAt, a_numbers, a_running, a_next, a_floor, a_mix, a_matrix, a_colour, a_width, a_clip, a_x1, a_y1, a_x2, a_y2, a_extra, a_winding, a_crossings, a_pixels, a_painter) (nI R, nI K, nI s, nI l, nI D, g_parts, g_edges, nI 0, nI (199 - U), 0, -1, g_partEdges, b_stream, b_length, b_kind, b_num, b_matrix, a_colour, a_width, b_clip, a_pixels, a_painter, b_running, b_at, b_saves, b_below, b_mixture, b_beginX, b_beginY, b_endX, b_endY, b_fromX, b_fromY, b_toX, b_toY, b_operand) := by
  obtain ⟨hKR, hD, hS, hG, hP, hpx, hpt, _⟩ := h
  have hs : s < 7 := by have := hS.2.1; omega
  have hnu := hu_n hU
  have hu1 := hu_1 hU
  obtain ⟨E, C, Q, nx, ny, p1, p2, p3, p4, p5, hE, hC, hQ, eC, eQ, pc, fin⟩ := xx_finP (f_drafted := f_drafted) (f_revisions := nI R) (f_depth := nI D) (f_known := nI K) (f_saved := nI s) (f_edges := f_edges) (f_counted := f_counted) (f_begun := f_begun) (f_startX := f_startX) (f_startY := f_startY) (f_nowX := f_nowX) (f_nowY := f_nowY) (f_low := f_low) (f_high := f_high) (f_pointX := f_pointX) (f_pointY := f_pointY) (f_layer := nI l) (f_fault := 0) (f_faultAt := -1) (f_units := nI U) (f_used := f_used) (a_draftKind := a_draftKind) (a_draftValue := a_draftValue) (a_streamOf := a_streamOf) (a_sizes := a_sizes) (a_before := a_before) (a_newest := a_newest) (a_opCount := a_opCount) (a_ops := a_ops) (a_opAt := a_opAt) (a_numbers := a_numbers) (a_running := a_running) (a_next := a_next) (a_floor := a_floor) (a_mix := a_mix) (a_matrix := a_matrix) (a_colour := a_colour) (a_width := a_width) (a_clip := a_clip) (a_x1 := a_x1) (a_y1 := a_y1) (a_x2 := a_x2) (a_y2 := a_y2) (a_extra := a_extra) (a_winding := a_winding) (a_crossings := a_crossings) (a_pixels := a_pixels) (a_painter := a_painter) (g_parts := g_parts) (g_edges := g_edges) (g_partEdges := g_partEdges) (b_beginX := b_beginX) (b_beginY := b_beginY) (b_endX := b_endX) (b_endY := b_endY) (b_fromX := b_fromX) (b_fromY := b_fromY) (b_toX := b_toX) (b_toY := b_toY) hP
  have pc2 := pc
  obtain ⟨a1, a2, a3, a4, a5, _, _⟩ := pc2
  subst eC eQ
  have hc2 := hG.2.2.1 s
  have hH : ∀ p, p < 192 → (dB (hitY k C Q (a_width s).toInt b_fromX b_fromY b_toX b_toY b_endX b_endY b_beginX b_beginY p ∧ ¬ b_clip (192 * s + p) = 0) = true ↔ (hitY k C Q (a_width s).toInt b_fromX b_fromY b_toX b_toY b_endX b_endY b_beginX b_beginY p ∧ ¬ b_clip (192 * s + p) = 0)) := fun p _ => dB_t
  have hHx : ∀ j i : Nat, j < 12 → i < 16 → (dB (hitY k C Q (a_width s).toInt b_fromX b_fromY b_toX b_toY b_endX b_endY b_beginX b_beginY (16 * j + i) ∧ ¬ b_clip (192 * s + (16 * j + i)) = 0) = true ↔ ((if (if k = 6 ∨ k = 8 then (1 : Int32) else 0) = 0 then txS (8 * (i : Int) + 5) (8 * (j : Int) + 5) E p1 p2 p3 p4 ≠ 0 else txS (8 * (i : Int) + 5) (8 * (j : Int) + 5) E p1 p2 p3 p4 % 2 = 1) ∧ bt (a_clip (12 * s + j)) i = true)) := by
    intro j i hj hi
    rw [dB_t, hit_eq hi, pc_tx pc, ((hG.2.2.2.2 s (Nat.le_refl s) j hj).2 i hi).2]
    rcases hk with rfl | rfl
    · exact Iff.rfl
    · exact Iff.rfl
  generalize hHd : (fun p => dB (hitY k C Q (a_width s).toInt b_fromX b_fromY b_toX b_toY b_endX b_endY b_beginX b_beginY p ∧ ¬ b_clip (192 * s + p) = 0)) = H
  have hH' : ∀ p, p < 192 → (H p = true ↔ (hitY k C Q (a_width s).toInt b_fromX b_fromY b_toX b_toY b_endX b_endY b_beginX b_beginY p ∧ ¬ b_clip (192 * s + p) = 0)) := by rw [← hHd]; exact hH
  have hHx' : ∀ j i : Nat, j < 12 → i < 16 → (H (16 * j + i) = true ↔ ((if (if k = 6 ∨ k = 8 then (1 : Int32) else 0) = 0 then txS (8 * (i : Int) + 5) (8 * (j : Int) + 5) E p1 p2 p3 p4 ≠ 0 else txS (8 * (i : Int) + 5) (8 * (j : Int) + 5) E p1 p2 p3 p4 % 2 = 1) ∧ bt (a_clip (12 * s + j)) i = true)) := by rw [← hHd]; exact hHx
  have hcb : -1 ≤ (nI pl).toInt ∧ (nI pl).toInt ≤ 1000 := by rw [nI_toInt (by omega)]; omega
  refine ⟨(nI R, nI K, nI s, nI l, nI D, 0, 0, 0, nI (200 - U), 0, -1, g_partEdges, b_stream, b_length, b_kind, b_num, b_matrix, a_colour, a_width, b_clip, pf H l (a_colour s) a_pixels 192, pf H l (nI pl) a_painter 192, b_running, b_at, b_saves, b_below, b_mixture, b_beginX, b_beginY, b_endX, b_endY, b_fromX, b_fromY, b_toX, b_toY, b_operand), fun Q' hq => ?_, fun P hp => ?_⟩
  · have Y1 : wpY_fill (fun u => match u with | (g_revisions, g_shown, g_level, g_layer, g_depth, g_parts, g_edges, g_operands, g_units, g_fault, g_where, g_partEdges, b_stream, b_length, b_kind, b_num, b_matrix, b_colour, b_width, b_clip, b_paint, b_painter, b_running, b_at, b_saves, b_below, b_mixture, b_beginX, b_beginY, b_endX, b_endY, b_fromX, b_fromY, b_toX, b_toY, b_operand) => wY_operator_266 Q' (nI k) g_revisions g_shown g_level g_layer g_depth g_parts g_edges g_operands g_units g_fault g_where g_partEdges b_stream b_length b_kind b_num b_matrix b_colour b_width b_clip b_paint b_painter b_running b_at b_saves b_below b_mixture b_beginX b_beginY b_endX b_endY b_fromX b_fromY b_toX b_toY b_operand) (nI R, nI K, nI s, nI l, nI D, nI Q, nI C, 0, nI (200 - U), 0, -1, g_partEdges, b_stream, b_length, b_kind, b_num, b_matrix, a_colour, a_width, b_clip, a_pixels, a_painter, b_running, b_at, b_saves, b_below, b_mixture, b_beginX, b_beginY, b_endX, b_endY, b_fromX, b_fromY, b_toX, b_toY, b_operand) (nI k) (nI pl) :=
      yy_fill (H := H) (by omega) hC hQ hs hl (iz_of (a_width s)) (hG.2.2.2.1 s) rfl a4 a5 hH' (y266p (by omega) hq)
    unfold wpY_operator wpY_wanted
    rcases hk with rfl | rfl
    · exact (br_f (by decide) (br_f (by decide) (br_f (by decide) (br_f (by decide) (br_f (by decide) (br_f (by decide) (br_f (by decide) (br_f (by decide) (br_t rfl (br_f hnu (nm_r hu1 (nm_r rfl (nm_r rfl (br_f (by decide) (br_f (by decide) (br_f (by decide) (br_f (by decide) (br_t rfl (Y1)))))))))))))))))))
    · exact (br_f (by decide) (br_f (by decide) (br_f (by decide) (br_f (by decide) (br_f (by decide) (br_f (by decide) (br_f (by decide) (br_f (by decide) (br_t rfl (br_f hnu (nm_r hu1 (nm_r rfl (nm_r rfl (br_f (by decide) (br_f (by decide) (br_f (by decide) (br_f (by decide) (br_f (by decide) (br_t rfl (Y1))))))))))))))))))))
  · have X1 : wX_perform_427 P (nI k) f_drafted (nI R) (nI D) (nI K) (nI s) f_edges f_counted f_begun f_startX f_startY f_nowX f_nowY f_low f_high f_pointX f_pointY (nI l) 0 (-1) (nI U) f_used a_draftKind a_draftValue a_streamOf a_sizes a_before a_newest a_opCount a_ops a_opAt a_numbers a_running a_next a_floor a_mix a_matrix a_colour a_width a_clip a_x1 a_y1 a_x2 a_y2 a_extra a_winding a_crossings a_pixels a_painter := by
      unfold wX_perform_427
      refine pk_eq k 9 (fun z => by omega) (fun _ => ?_)
      unfold wpX_area
      refine fin _ ?_
      refine xa_6 hE a3 ?_ (by omega)
      intro W aw ac w1 w2 w3
      refine ⟨13, ?_⟩
      have := xa_74f (post := fun u => match u with | (f_drafted, f_revisions, f_depth, f_known, f_saved, f_edges, f_counted, f_begun, f_startX, f_startY, f_nowX, f_nowY, f_low, f_high, f_pointX, f_pointY, f_layer, f_fault, f_faultAt, f_units, f_used, a_draftKind, a_draftValue, a_streamOf, a_sizes, a_before, a_newest, a_opCount, a_ops, a_opAt, a_numbers, a_running, a_next, a_floor, a_mix, a_matrix, a_colour, a_width, a_clip, a_x1, a_y1, a_x2, a_y2, a_extra, a_winding, a_crossings, a_pixels, a_painter) => wX_perform_438 P f_drafted f_revisions f_depth f_known f_saved f_edges f_counted f_begun f_startX f_startY f_nowX f_nowY f_low f_high f_pointX f_pointY f_layer f_fault f_faultAt f_units f_used a_draftKind a_draftValue a_streamOf a_sizes a_before a_newest a_opCount a_ops a_opAt a_numbers a_running a_next a_floor a_mix a_matrix a_colour a_width a_clip a_x1 a_y1 a_x2 a_y2 a_extra a_winding a_crossings a_pixels a_painter) (f_drafted := f_drafted) (f_revisions := nI R) (f_depth := nI D) (f_known := nI K) (f_edges := nI E) (f_counted := f_counted) (f_begun := f_begun) (f_startX := f_startX) (f_startY := f_startY) (f_nowX := nx) (f_nowY := ny) (f_low := f_low) (f_high := f_high) (f_pointX := f_pointX) (f_pointY := f_pointY) (f_fault := 0) (f_faultAt := -1) (f_units := nI U) (f_used := f_used) (a_draftKind := a_draftKind) (a_draftValue := a_draftValue) (a_streamOf := a_streamOf) (a_sizes := a_sizes) (a_before := a_before) (a_newest := a_newest) (a_opCount := a_opCount) (a_ops := a_ops) (a_opAt := a_opAt) (a_numbers := a_numbers) (a_running := a_running) (a_next := a_next) (a_floor := a_floor) (a_mix := a_mix) (a_matrix := a_matrix) (a_colour := a_colour) (a_width := a_width) (a_clip := a_clip) (a_x1 := p1) (a_y1 := p2) (a_x2 := p3) (a_y2 := p4) (a_extra := p5) (a_winding := aw) (a_crossings := ac) (px := a_pixels) (pt := a_painter) (k := k) (od := if k = 6 ∨ k = 8 then 1 else 0) (H := H) (E := E) (W := W) (by rcases hk with rfl | rfl; exact Or.inl ⟨rfl, rfl⟩; exact Or.inr ⟨rfl, rfl⟩) hs hl rfl hc2 hf w1 w2 w3 hHx' ?_ 12 0 (by omega) 13 (by omega)
      · rw [pf_0, pf_0] at this
        exact this
      · show wX_perform_438 P f_drafted (nI R) (nI D) (nI K) (nI s) (nI E) f_counted f_begun f_startX f_startY nx ny f_low f_high f_pointX f_pointY (nI l) 0 (-1) (nI U) f_used a_draftKind a_draftValue a_streamOf a_sizes a_before a_newest a_opCount a_ops a_opAt a_numbers a_running a_next a_floor a_mix a_matrix a_colour a_width a_clip p1 p2 p3 p4 p5 aw ac (pf H l (a_colour s) a_pixels 192) (pf H l (nI pl) a_painter 192)
        unfold wX_perform_438 wpX_forget
        exact hp _ (Or.inl (exr_mk (by omega) ⟨hKR, hD, hS, hG, Or.inl ⟨rfl, rfl, rfl, rfl, rfl⟩, pf_r (by omega) hpx, pf_rt hcb hpt, by omega⟩))
    unfold wpX_perform
    rcases hk with rfl | rfl
    · exact (br_f (by decide) (br_f (by decide) (br_f (by decide) (br_f (by decide) (br_f (by decide) (br_f (by decide) (br_t rfl (X1))))))))
    · exact (br_f (by decide) (br_f (by decide) (br_f (by decide) (br_f (by decide) (br_f (by decide) (br_f (by decide) (br_f (by decide) (br_t rfl (X1)))))))))
theorem op_78 {k : Nat} (hk : k = 7 ∨ k = 8) (h : (ec R K D s l U f_drafted f_edges f_counted f_begun f_startX f_startY f_nowX f_nowY a_draftKind a_draftValue a_streamOf a_sizes a_before a_newest a_opCount a_ops a_opAt a_numbers a_running a_next a_floor a_mix a_matrix a_colour a_width a_clip a_x1 a_y1 a_x2 a_y2 a_extra a_pixels a_painter g_parts g_edges g_partEdges b_stream b_length b_kind b_num b_matrix b_clip b_running b_at b_saves b_below b_mixture b_beginX b_beginY b_endX b_endY b_fromX b_fromY b_toX b_toY)) (hU : U ≤ 199) :
    OPR R K (2 * U + D + 2) pl k a (f_drafted, nI R, nI D, nI K, nI s, f_edges, f_counted, f_begun, f_startX, f_startY, f_nowX, f_nowY, f_low, f_high, f_pointX, f_pointY, nI l, 0, -1, nI U, f_used, a_draftKind, a_draftValue, a_streamOf, a_sizes, a_before, a_newest, a_opCount, a_ops, a_opAt, a_numbers, a_running, a_next, a_floor, a_mix, a_matrix, a_colour, a_width, a_clip, a_x1, a_y1, a_x2, a_y2, a_extra, a_winding, a_crossings, a_pixels, a_painter) (nI R, nI K, nI s, nI l, nI D, g_parts, g_edges, nI 0, nI (199 - U), 0, -1, g_partEdges, b_stream, b_length, b_kind, b_num, b_matrix, a_colour, a_width, b_clip, a_pixels, a_painter, b_running, b_at, b_saves, b_below, b_mixture, b_beginX, b_beginY, b_endX, b_endY, b_fromX, b_fromY, b_toX, b_toY, b_operand) := by
  obtain ⟨hKR, hD, hS, hG, hP, hpx, hpt, _⟩ := h
  have hs : s < 7 := by have := hS.2.1; omega
  have hnu := hu_n hU
  have hu1 := hu_1 hU
  obtain ⟨E, C, Q, nx, ny, p1, p2, p3, p4, p5, hE, hC, hQ, eC, eQ, pc, fin⟩ := xx_finP (f_drafted := f_drafted) (f_revisions := nI R) (f_depth := nI D) (f_known := nI K) (f_saved := nI s) (f_edges := f_edges) (f_counted := f_counted) (f_begun := f_begun) (f_startX := f_startX) (f_startY := f_startY) (f_nowX := f_nowX) (f_nowY := f_nowY) (f_low := f_low) (f_high := f_high) (f_pointX := f_pointX) (f_pointY := f_pointY) (f_layer := nI l) (f_fault := 0) (f_faultAt := -1) (f_units := nI U) (f_used := f_used) (a_draftKind := a_draftKind) (a_draftValue := a_draftValue) (a_streamOf := a_streamOf) (a_sizes := a_sizes) (a_before := a_before) (a_newest := a_newest) (a_opCount := a_opCount) (a_ops := a_ops) (a_opAt := a_opAt) (a_numbers := a_numbers) (a_running := a_running) (a_next := a_next) (a_floor := a_floor) (a_mix := a_mix) (a_matrix := a_matrix) (a_colour := a_colour) (a_width := a_width) (a_clip := a_clip) (a_x1 := a_x1) (a_y1 := a_y1) (a_x2 := a_x2) (a_y2 := a_y2) (a_extra := a_extra) (a_winding := a_winding) (a_crossings := a_crossings) (a_pixels := a_pixels) (a_painter := a_painter) (g_parts := g_parts) (g_edges := g_edges) (g_partEdges := g_partEdges) (b_beginX := b_beginX) (b_beginY := b_beginY) (b_endX := b_endX) (b_endY := b_endY) (b_fromX := b_fromX) (b_fromY := b_fromY) (b_toX := b_toX) (b_toY := b_toY) hP
  have pc2 := pc
  obtain ⟨a1, a2, a3, a4, a5, _, _⟩ := pc2
  subst eC eQ
  have hHx : ∀ j i : Nat, j < 12 → i < 16 → (dB (hitY k C Q (a_width s).toInt b_fromX b_fromY b_toX b_toY b_endX b_endY b_beginX b_beginY (16 * j + i) ∧ ¬ b_clip (192 * s + (16 * j + i)) = 0) = true ↔ ((if (if k = 6 ∨ k = 8 then (1 : Int32) else 0) = 0 then txS (8 * (i : Int) + 5) (8 * (j : Int) + 5) E p1 p2 p3 p4 ≠ 0 else txS (8 * (i : Int) + 5) (8 * (j : Int) + 5) E p1 p2 p3 p4 % 2 = 1) ∧ bt (a_clip (12 * s + j)) i = true)) := by
    intro j i hj hi
    rw [dB_t, hit_eq hi, pc_tx pc, ((hG.2.2.2.2 s (Nat.le_refl s) j hj).2 i hi).2]
    rcases hk with rfl | rfl
    · exact Iff.rfl
    · exact Iff.rfl
  generalize hHd : (fun p => dB (hitY k C Q (a_width s).toInt b_fromX b_fromY b_toX b_toY b_endX b_endY b_beginX b_beginY p ∧ ¬ b_clip (192 * s + p) = 0)) = H
  have hH' : ∀ p, p < 192 → (H p = true ↔ (hitY k C Q (a_width s).toInt b_fromX b_fromY b_toX b_toY b_endX b_endY b_beginX b_beginY p ∧ ¬ b_clip (192 * s + p) = 0)) := by rw [← hHd]; exact fun p _ => dB_t
  have hHx' : ∀ j i : Nat, j < 12 → i < 16 → (H (16 * j + i) = true ↔ ((if (if k = 6 ∨ k = 8 then (1 : Int32) else 0) = 0 then txS (8 * (i : Int) + 5) (8 * (j : Int) + 5) E p1 p2 p3 p4 ≠ 0 else txS (8 * (i : Int) + 5) (8 * (j : Int) + 5) E p1 p2 p3 p4 % 2 = 1) ∧ bt (a_clip (12 * s + j)) i = true)) := by rw [← hHd]; exact hHx
  refine ⟨(nI R, nI K, nI s, nI l, nI D, 0, 0, 0, nI (200 - U), 0, -1, g_partEdges, b_stream, b_length, b_kind, b_num, b_matrix, a_colour, a_width, cf H s b_clip 192, a_pixels, a_painter, b_running, b_at, b_saves, b_below, b_mixture, b_beginX, b_beginY, b_endX, b_endY, b_fromX, b_fromY, b_toX, b_toY, b_operand), fun Q' hq => ?_, fun P hp => ?_⟩
  · have Y1 : wpY_cut (fun u => match u with | (g_revisions, g_shown, g_level, g_layer, g_depth, g_parts, g_edges, g_operands, g_units, g_fault, g_where, g_partEdges, b_stream, b_length, b_kind, b_num, b_matrix, b_colour, b_width, b_clip, b_paint, b_painter, b_running, b_at, b_saves, b_below, b_mixture, b_beginX, b_beginY, b_endX, b_endY, b_fromX, b_fromY, b_toX, b_toY, b_operand) => wY_operator_266 Q' (nI k) g_revisions g_shown g_level g_layer g_depth g_parts g_edges g_operands g_units g_fault g_where g_partEdges b_stream b_length b_kind b_num b_matrix b_colour b_width b_clip b_paint b_painter b_running b_at b_saves b_below b_mixture b_beginX b_beginY b_endX b_endY b_fromX b_fromY b_toX b_toY b_operand) (nI R, nI K, nI s, nI l, nI D, nI Q, nI C, 0, nI (200 - U), 0, -1, g_partEdges, b_stream, b_length, b_kind, b_num, b_matrix, a_colour, a_width, b_clip, a_pixels, a_painter, b_running, b_at, b_saves, b_below, b_mixture, b_beginX, b_beginY, b_endX, b_endY, b_fromX, b_fromY, b_toX, b_toY, b_operand) (nI k) :=
      yy_cut (H := H) (w := (a_width s).toInt) (by omega) hC hQ hs a4 a5 hH' (y266p (by omega) hq)
    unfold wpY_operator wpY_wanted
    rcases hk with rfl | rfl
    · exact (br_f (by decide) (br_f (by decide) (br_f (by decide) (br_f (by decide) (br_f (by decide) (br_f (by decide) (br_f (by decide) (br_f (by decide) (br_t rfl (br_f hnu (nm_r hu1 (nm_r rfl (nm_r rfl (br_f (by decide) (br_f (by decide) (br_f (by decide) (br_f (by decide) (br_f (by decide) (br_f (by decide) (br_f (by decide) (br_t rfl (Y1))))))))))))))))))))))
    · exact (br_f (by decide) (br_f (by decide) (br_f (by decide) (br_f (by decide) (br_f (by decide) (br_f (by decide) (br_f (by decide) (br_f (by decide) (br_t rfl (br_f hnu (nm_r hu1 (nm_r rfl (nm_r rfl (br_f (by decide) (br_f (by decide) (br_f (by decide) (br_f (by decide) (br_f (by decide) (br_f (by decide) (br_f (by decide) (br_f (by decide) (br_t rfl (Y1)))))))))))))))))))))))
  · have X1 : wX_perform_427 P (nI k) f_drafted (nI R) (nI D) (nI K) (nI s) f_edges f_counted f_begun f_startX f_startY f_nowX f_nowY f_low f_high f_pointX f_pointY (nI l) 0 (-1) (nI U) f_used a_draftKind a_draftValue a_streamOf a_sizes a_before a_newest a_opCount a_ops a_opAt a_numbers a_running a_next a_floor a_mix a_matrix a_colour a_width a_clip a_x1 a_y1 a_x2 a_y2 a_extra a_winding a_crossings a_pixels a_painter := by
      unfold wX_perform_427
      refine pk_eq k 9 (fun z => by omega) (fun _ => ?_)
      unfold wpX_area
      refine fin _ ?_
      refine xa_6 hE a3 ?_ (by omega)
      intro W aw ac w1 w2 w3
      refine ⟨13, ?_⟩
      refine xa_74c (post := fun u => match u with | (f_drafted, f_revisions, f_depth, f_known, f_saved, f_edges, f_counted, f_begun, f_startX, f_startY, f_nowX, f_nowY, f_low, f_high, f_pointX, f_pointY, f_layer, f_fault, f_faultAt, f_units, f_used, a_draftKind, a_draftValue, a_streamOf, a_sizes, a_before, a_newest, a_opCount, a_ops, a_opAt, a_numbers, a_running, a_next, a_floor, a_mix, a_matrix, a_colour, a_width, a_clip, a_x1, a_y1, a_x2, a_y2, a_extra, a_winding, a_crossings, a_pixels, a_painter) => wX_perform_438 P f_drafted f_revisions f_depth f_known f_saved f_edges f_counted f_begun f_startX f_startY f_nowX f_nowY f_low f_high f_pointX f_pointY f_layer f_fault f_faultAt f_units f_used a_draftKind a_draftValue a_streamOf a_sizes a_before a_newest a_opCount a_ops a_opAt a_numbers a_running a_next a_floor a_mix a_matrix a_colour a_width a_clip a_x1 a_y1 a_x2 a_y2 a_extra a_winding a_crossings a_pixels a_painter) (c0 := a_clip) (k := k) (od := if k = 6 ∨ k = 8 then 1 else 0) (E := E) (W := W) (by rcases hk with rfl | rfl; exact Or.inl ⟨rfl, rfl⟩; exact Or.inr ⟨rfl, rfl⟩) hs w1 w2 w3 ?_ 12 0 (by omega) 13 (by omega) a_clip (fun _ _ => rfl) (fun j' hj' => absurd hj' (Nat.not_lt_zero j'))
      intro cl c1 c2
      show wX_perform_438 P f_drafted (nI R) (nI D) (nI K) (nI s) (nI E) f_counted f_begun f_startX f_startY nx ny f_low f_high f_pointX f_pointY (nI l) 0 (-1) (nI U) f_used a_draftKind a_draftValue a_streamOf a_sizes a_before a_newest a_opCount a_ops a_opAt a_numbers a_running a_next a_floor a_mix a_matrix a_colour a_width cl p1 p2 p3 p4 p5 aw ac a_pixels a_painter
      unfold wX_perform_438 wpX_forget
      refine hp _ (Or.inl (exr_mk (by omega) ⟨hKR, hD, hS, gs_cut (H := H) hG c1 (fun j hj => ⟨(c2 j hj).1, fun i hi => ?_⟩), Or.inl ⟨rfl, rfl, rfl, rfl, rfl⟩, hpx, hpt, by omega⟩))
      rw [(c2 j hj).2 i hi, hHx' j i hj hi]
    unfold wpX_perform
    rcases hk with rfl | rfl
    · exact (br_f (by decide) (br_f (by decide) (br_f (by decide) (br_f (by decide) (br_f (by decide) (br_f (by decide) (br_f (by decide) (br_f (by decide) (br_t rfl (X1))))))))))
    · exact (br_f (by decide) (br_f (by decide) (br_f (by decide) (br_f (by decide) (br_f (by decide) (br_f (by decide) (br_f (by decide) (br_f (by decide) (br_f (by decide) (br_t rfl (X1)))))))))))
theorem op_15 (h : (ec R K D s l U f_drafted f_edges f_counted f_begun f_startX f_startY f_nowX f_nowY a_draftKind a_draftValue a_streamOf a_sizes a_before a_newest a_opCount a_ops a_opAt a_numbers a_running a_next a_floor a_mix a_matrix a_colour a_width a_clip a_x1 a_y1 a_x2 a_y2 a_extra a_pixels a_painter g_parts g_edges g_partEdges b_stream b_length b_kind b_num b_matrix b_clip b_running b_at b_saves b_below b_mixture b_beginX b_beginY b_endX b_endY b_fromX b_fromY b_toX b_toY)) (hf : fl (nI D) a_running a_next a_streamOf a_opAt pl) (hl : l < 7) (hpl : pl < 400) (hU : U ≤ 199) :
    OPR R K (2 * U + D + 2) pl 15 a (f_drafted, nI R, nI D, nI K, nI s, f_edges, f_counted, f_begun, f_startX, f_startY, f_nowX, f_nowY, f_low, f_high, f_pointX, f_pointY, nI l, 0, -1, nI U, f_used, a_draftKind, a_draftValue, a_streamOf, a_sizes, a_before, a_newest, a_opCount, a_ops, a_opAt, a_numbers, a_running, a_next, a_floor, a_mix, a_matrix, a_colour, a_width, a_clip, a_x1, a_y1, a_x2, a_y2, a_extra, a_winding, a_crossings, a_pixels, a_painter) (nI R, nI K, nI s, nI l, nI D, g_parts, g_edges, nI 0, nI (199 - U), 0, -1, g_partEdges, b_stream, b_length, b_kind, b_num, b_matrix, a_colour, a_width, b_clip, a_pixels, a_painter, b_running, b_at, b_saves, b_below, b_mixture, b_beginX, b_beginY, b_endX, b_endY, b_fromX, b_fromY, b_toX, b_toY, b_operand) := by
  obtain ⟨hKR, hD, hS, hG, hP, hpx, hpt, _⟩ := h
  have hs : s < 7 := by have := hS.2.1; omega
  have hnu := hu_n hU
  have hu1 := hu_1 hU
  obtain ⟨E, C, Q, hE, hC, hQ, eE, eC, eQ, r0, r1, r2, any⟩ : ∃ E C Q : Nat, E ≤ 56 ∧ C ≤ 24 ∧ Q ≤ 30 ∧ f_edges = nI E ∧ g_edges = nI C ∧ g_parts = nI Q ∧ qrg a_x1 a_y1 a_x2 a_y2 E ∧ qrg b_fromX b_fromY b_toX b_toY C ∧ qrg b_endX b_endY b_beginX b_beginY Q ∧ (∀ g : Int32 → Int32 → Int32 → Int32 → Prop, (∃ e, e < E ∧ a_extra e = 0 ∧ g (a_x1 e) (a_y1 e) (a_x2 e) (a_y2 e)) ↔ (∃ e, e < C ∧ g (b_fromX e) (b_fromY e) (b_toX e) (b_toY e))) := by
    rcases hP with ⟨rfl, rfl, rfl, rfl, rfl⟩ | ⟨rfl, E, C, Q, pe, rfl, rfl, rfl, rfl, rfl, q1, q2, n1, n2, n3, n4, p1, p2, p3, pc⟩
    · obtain ⟨a1, a2, a3, a4, a5, _, a7⟩ := pc_nil (x1 := a_x1) (y1 := a_y1) (x2 := a_x2) (y2 := a_y2) (ex := a_extra) (fx := b_fromX) (fy := b_fromY) (tx := b_toX) (ty := b_toY) (dx := b_endX) (dy := b_endY) (bx := b_beginX) (by_ := b_beginY) (E := 0) (C := 0) (Q := 0) rfl rfl rfl
      exact ⟨0, 0, 0, by omega, by omega, by omega, rfl, rfl, rfl, a3, a4, a5, a7⟩
    · obtain ⟨a1, a2, a3, a4, a5, _, a7⟩ := pc
      exact ⟨E, C, Q + 1, by omega, a2, by omega, rfl, rfl, rfl, a3, a4, a5, a7⟩
  subst eE eC eQ
  have hc2 := hG.2.2.1 s
  have hHx : ∀ j i : Nat, j < 12 → i < 16 → (dB (hitY 15 C Q (a_width s).toInt b_fromX b_fromY b_toX b_toY b_endX b_endY b_beginX b_beginY (16 * j + i) ∧ ¬ b_clip (192 * s + (16 * j + i)) = 0) = true ↔ ((∃ e, e < E ∧ a_extra e = 0 ∧ tw (a_width s).toInt (8 * (i : Int) + 5) (8 * (j : Int) + 5) (a_x1 e) (a_y1 e) (a_x2 e) (a_y2 e)) ∧ bt (a_clip (12 * s + j)) i = true)) := by
    intro j i hj hi
    rw [dB_t, hit_eq hi, ((hG.2.2.2.2 s (Nat.le_refl s) j hj).2 i hi).2, if_pos rfl, any (tw (a_width s).toInt (8 * (i : Int) + 5) (8 * (j : Int) + 5))]
  generalize hHd : (fun p => dB (hitY 15 C Q (a_width s).toInt b_fromX b_fromY b_toX b_toY b_endX b_endY b_beginX b_beginY p ∧ ¬ b_clip (192 * s + p) = 0)) = H
  have hH' : ∀ p, p < 192 → (H p = true ↔ (hitY 15 C Q (a_width s).toInt b_fromX b_fromY b_toX b_toY b_endX b_endY b_beginX b_beginY p ∧ ¬ b_clip (192 * s + p) = 0)) := by rw [← hHd]; exact fun p _ => dB_t
  have hHx' : ∀ j i : Nat, j < 12 → i < 16 → (H (16 * j + i) = true ↔ ((∃ e, e < E ∧ a_extra e = 0 ∧ tw (a_width s).toInt (8 * (i : Int) + 5) (8 * (j : Int) + 5) (a_x1 e) (a_y1 e) (a_x2 e) (a_y2 e)) ∧ bt (a_clip (12 * s + j)) i = true)) := by rw [← hHd]; exact hHx
  have hcb : -1 ≤ (nI pl).toInt ∧ (nI pl).toInt ≤ 1000 := by rw [nI_toInt (by omega)]; omega
  refine ⟨(nI R, nI K, nI s, nI l, nI D, 0, 0, 0, nI (200 - U), 0, -1, g_partEdges, b_stream, b_length, b_kind, b_num, b_matrix, a_colour, a_width, b_clip, pf H l (a_colour s) a_pixels 192, pf H l (nI pl) a_painter 192, b_running, b_at, b_saves, b_below, b_mixture, b_beginX, b_beginY, b_endX, b_endY, b_fromX, b_fromY, b_toX, b_toY, b_operand), fun Q' hq => ?_, fun P hp => ?_⟩
  · have Y1 : wpY_fill (fun u => match u with | (g_revisions, g_shown, g_level, g_layer, g_depth, g_parts, g_edges, g_operands, g_units, g_fault, g_where, g_partEdges, b_stream, b_length, b_kind, b_num, b_matrix, b_colour, b_width, b_clip, b_paint, b_painter, b_running, b_at, b_saves, b_below, b_mixture, b_beginX, b_beginY, b_endX, b_endY, b_fromX, b_fromY, b_toX, b_toY, b_operand) => wY_operator_266 Q' (nI 15) g_revisions g_shown g_level g_layer g_depth g_parts g_edges g_operands g_units g_fault g_where g_partEdges b_stream b_length b_kind b_num b_matrix b_colour b_width b_clip b_paint b_painter b_running b_at b_saves b_below b_mixture b_beginX b_beginY b_endX b_endY b_fromX b_fromY b_toX b_toY b_operand) (nI R, nI K, nI s, nI l, nI D, nI Q, nI C, 0, nI (200 - U), 0, -1, g_partEdges, b_stream, b_length, b_kind, b_num, b_matrix, a_colour, a_width, b_clip, a_pixels, a_painter, b_running, b_at, b_saves, b_below, b_mixture, b_beginX, b_beginY, b_endX, b_endY, b_fromX, b_fromY, b_toX, b_toY, b_operand) (nI 15) (nI pl) :=
      yy_fill (H := H) (by omega) hC hQ hs hl (iz_of (a_width s)) (hG.2.2.2.1 s) rfl r1 r2 hH' (y266p (by omega) hq)
    unfold wpY_operator wpY_wanted
    exact (br_f (by decide) (br_f (by decide) (br_f (by decide) (br_f (by decide) (br_f (by decide) (br_f (by decide) (br_f (by decide) (br_f (by decide) (br_t rfl (br_f hnu (nm_r hu1 (nm_r rfl (nm_r rfl (br_f (by decide) (br_f (by decide) (br_f (by decide) (br_f (by decide) (br_f (by decide) (br_f (by decide) (br_t rfl (Y1)))))))))))))))))))))
  · unfold wpX_perform
    refine (br_f (by decide) (br_f (by decide) (br_f (by decide) (br_f (by decide) (br_f (by decide) (br_f (by decide) (br_f (by decide) (br_f (by decide) (br_f (by decide) (br_f (by decide) (br_f (by decide) (br_f (by decide) (br_f (by decide) (br_f (by decide) (br_f (by decide) (br_f (by decide) (br_t rfl (?_))))))))))))))))))
    refine xx_stroke (H := H) hs hl hE (iz_of (a_width s)) (hG.2.2.2.1 s) rfl hc2 hf r0 hHx' ?_
    intro lo hi
    unfold wpX_forget
    exact hp _ (Or.inl (exr_mk (by omega) ⟨hKR, hD, hS, hG, Or.inl ⟨rfl, rfl, rfl, rfl, rfl⟩, pf_r (by omega) hpx, pf_rt hcb hpt, by omega⟩))
end
end
section
/-! operators in lockstep: SAVE, RESTORE, MATRIX, GRAY, WIDTH -/
section
variable {f_drafted f_revisions f_depth f_known f_saved f_edges f_counted f_begun f_startX f_startY f_nowX f_nowY f_low f_high f_pointX f_pointY f_layer f_fault f_faultAt f_units f_used : Int32} {a_draftKind a_draftValue a_streamOf a_sizes a_before a_newest a_opCount a_ops a_opAt a_numbers a_running a_next a_floor a_mix a_matrix a_colour a_width a_clip a_x1 a_y1 a_x2 a_y2 a_extra a_winding a_crossings a_pixels a_painter : Nat → Int32}
variable {g_revisions g_shown g_level g_layer g_depth g_parts g_edges g_operands g_units g_fault g_where g_partEdges : Int32} {b_stream b_length b_kind b_num b_matrix b_colour b_width b_clip b_paint b_painter b_running b_at b_saves b_below b_mixture b_beginX b_beginY b_endX b_endY b_fromX b_fromY b_toX b_toY b_operand : Nat → Int32}
variable {R K D s l U pl a : Nat}
theorem etaX {P : SX → Prop} (u : SX) : P u → (match u with | (f_drafted, f_revisions, f_depth, f_known, f_saved, f_edges, f_counted, f_begun, f_startX, f_startY, f_nowX, f_nowY, f_low, f_high, f_pointX, f_pointY, f_layer, f_fault, f_faultAt, f_units, f_used, a_draftKind, a_draftValue, a_streamOf, a_sizes, a_before, a_newest, a_opCount, a_ops, a_opAt, a_numbers, a_running, a_next, a_floor, a_mix, a_matrix, a_colour, a_width, a_clip, a_x1, a_y1, a_x2, a_y2, a_extra, a_winding, a_crossings, a_pixels, a_painter) => P (f_drafted, f_revisions, f_depth, f_known, f_saved, f_edges, f_counted, f_begun, f_startX, f_startY, f_nowX, f_nowY, f_low, f_high, f_pointX, f_pointY, f_layer, f_fault, f_faultAt, f_units, f_used, a_draftKind, a_draftValue, a_streamOf, a_sizes, a_before, a_newest, a_opCount, a_ops, a_opAt, a_numbers, a_running, a_next, a_floor, a_mix, a_matrix, a_colour, a_width, a_clip, a_x1, a_y1, a_x2, a_y2, a_extra, a_winding, a_crossings, a_pixels, a_painter)) := by
  intro h
  obtain ⟨f_drafted, f_revisions, f_depth, f_known, f_saved, f_edges, f_counted, f_begun, f_startX, f_startY, f_nowX, f_nowY, f_low, f_high, f_pointX, f_pointY, f_layer, f_fault, f_faultAt, f_units, f_used, a_draftKind, a_draftValue, a_streamOf, a_sizes, a_before, a_newest, a_opCount, a_ops, a_opAt, a_numbers, a_running, a_next, a_floor, a_mix, a_matrix, a_colour, a_width, a_clip, a_x1, a_y1, a_x2, a_y2, a_extra, a_winding, a_crossings, a_pixels, a_painter⟩ := u
  exact h
theorem etaY {Q : SY → Prop} {k : Nat} (hk : k < 5 ∨ 9 < k) (h15 : k ≠ 15) (h17 : k ≤ 17) (v : SY) : Q v → (match v with | (g_revisions, g_shown, g_level, g_layer, g_depth, g_parts, g_edges, g_operands, g_units, g_fault, g_where, g_partEdges, b_stream, b_length, b_kind, b_num, b_matrix, b_colour, b_width, b_clip, b_paint, b_painter, b_running, b_at, b_saves, b_below, b_mixture, b_beginX, b_beginY, b_endX, b_endY, b_fromX, b_fromY, b_toX, b_toY, b_operand) => wY_operator_266 Q (nI k) g_revisions g_shown g_level g_layer g_depth g_parts g_edges g_operands g_units g_fault g_where g_partEdges b_stream b_length b_kind b_num b_matrix b_colour b_width b_clip b_paint b_painter b_running b_at b_saves b_below b_mixture b_beginX b_beginY b_endX b_endY b_fromX b_fromY b_toX b_toY b_operand) := by
  intro h
  obtain ⟨g_revisions, g_shown, g_level, g_layer, g_depth, g_parts, g_edges, g_operands, g_units, g_fault, g_where, g_partEdges, b_stream, b_length, b_kind, b_num, b_matrix, b_colour, b_width, b_clip, b_paint, b_painter, b_running, b_at, b_saves, b_below, b_mixture, b_beginX, b_beginY, b_endX, b_endY, b_fromX, b_fromY, b_toX, b_toY, b_operand⟩ := v
  exact y266 hk h15 h17 h
theorem fl_D (hf : fl (nI D) a_running a_next a_streamOf a_opAt pl) (hD : D ≤ 7) : ∃ d, D = d + 1 := by
  obtain ⟨d, r, n, σ, p, e, hd, _⟩ := hf
  exact ⟨d, nj_inj e (by omega) (by omega)⟩
theorem op_10 (h : (ec R K D s l U f_drafted f_edges f_counted f_begun f_startX f_startY f_nowX f_nowY a_draftKind a_draftValue a_streamOf a_sizes a_before a_newest a_opCount a_ops a_opAt a_numbers a_running a_next a_floor a_mix a_matrix a_colour a_width a_clip a_x1 a_y1 a_x2 a_y2 a_extra a_pixels a_painter g_parts g_edges g_partEdges b_stream b_length b_kind b_num b_matrix b_clip b_running b_at b_saves b_below b_mixture b_beginX b_beginY b_endX b_endY b_fromX b_fromY b_toX b_toY)) (hf : fl (nI D) a_running a_next a_streamOf a_opAt pl) (hU : U ≤ 199) :
    OPR R K (2 * U + D + 2) pl 10 a (f_drafted, nI R, nI D, nI K, nI s, f_edges, f_counted, f_begun, f_startX, f_startY, f_nowX, f_nowY, f_low, f_high, f_pointX, f_pointY, nI l, 0, -1, nI U, f_used, a_draftKind, a_draftValue, a_streamOf, a_sizes, a_before, a_newest, a_opCount, a_ops, a_opAt, a_numbers, a_running, a_next, a_floor, a_mix, a_matrix, a_colour, a_width, a_clip, a_x1, a_y1, a_x2, a_y2, a_extra, a_winding, a_crossings, a_pixels, a_painter) (nI R, nI K, nI s, nI l, nI D, g_parts, g_edges, nI 0, nI (199 - U), 0, -1, g_partEdges, b_stream, b_length, b_kind, b_num, b_matrix, a_colour, a_width, b_clip, a_pixels, a_painter, b_running, b_at, b_saves, b_below, b_mixture, b_beginX, b_beginY, b_endX, b_endY, b_fromX, b_fromY, b_toX, b_toY, b_operand) := by
  obtain ⟨hKR, hD, hS, hG, hP, hpx, hpt, _⟩ := h
  have hs : s ≤ 6 := hS.2.1
  have hnu := hu_n hU
  have hu1 := hu_1 hU
  obtain ⟨d, rfl⟩ := fl_D hf hS.1
  obtain ⟨σ, φ, ς, μ, k1, k2, k3, k4, k5, k6, k7, k8, k9, _⟩ := hS.2.2.2 d (by omega)
  rw [if_pos rfl] at k9
  have hd : d < 7 := by have := hS.1; omega
  have hC : ∀ j, j < 12 → ∃ v, v < 65536 ∧ a_clip (12 * s + j) = nI v := fun j hj => (hG.2.2.2.2 s (Nat.le_refl s) j hj).1
  have X0 : ∀ P : SX → Prop, wpX_save (fun u => match u with | (f_drafted, f_revisions, f_depth, f_known, f_saved, f_edges, f_counted, f_begun, f_startX, f_startY, f_nowX, f_nowY, f_low, f_high, f_pointX, f_pointY, f_layer, f_fault, f_faultAt, f_units, f_used, a_draftKind, a_draftValue, a_streamOf, a_sizes, a_before, a_newest, a_opCount, a_ops, a_opAt, a_numbers, a_running, a_next, a_floor, a_mix, a_matrix, a_colour, a_width, a_clip, a_x1, a_y1, a_x2, a_y2, a_extra, a_winding, a_crossings, a_pixels, a_painter) => P (f_drafted, f_revisions, f_depth, f_known, f_saved, f_edges, f_counted, f_begun, f_startX, f_startY, f_nowX, f_nowY, f_low, f_high, f_pointX, f_pointY, f_layer, f_fault, f_faultAt, f_units, f_used, a_draftKind, a_draftValue, a_streamOf, a_sizes, a_before, a_newest, a_opCount, a_ops, a_opAt, a_numbers, a_running, a_next, a_floor, a_mix, a_matrix, a_colour, a_width, a_clip, a_x1, a_y1, a_x2, a_y2, a_extra, a_winding, a_crossings, a_pixels, a_painter)) (f_drafted, nI R, nI (d + 1), nI K, nI s, f_edges, f_counted, f_begun, f_startX, f_startY, f_nowX, f_nowY, f_low, f_high, f_pointX, f_pointY, nI l, 0, -1, nI U, f_used, a_draftKind, a_draftValue, a_streamOf, a_sizes, a_before, a_newest, a_opCount, a_ops, a_opAt, a_numbers, a_running, a_next, a_floor, a_mix, a_matrix, a_colour, a_width, a_clip, a_x1, a_y1, a_x2, a_y2, a_extra, a_winding, a_crossings, a_pixels, a_painter) → wpX_perform P (f_drafted, nI R, nI (d + 1), nI K, nI s, f_edges, f_counted, f_begun, f_startX, f_startY, f_nowX, f_nowY, f_low, f_high, f_pointX, f_pointY, nI l, 0, -1, nI U, f_used, a_draftKind, a_draftValue, a_streamOf, a_sizes, a_before, a_newest, a_opCount, a_ops, a_opAt, a_numbers, a_running, a_next, a_floor, a_mix, a_matrix, a_colour, a_width, a_clip, a_x1, a_y1, a_x2, a_y2, a_extra, a_winding, a_crossings, a_pixels, a_painter) (nI 10) (nI a) := by
    intro P H
    unfold wpX_perform
    exact (br_f (by decide) (br_f (by decide) (br_f (by decide) (br_f (by decide) (br_f (by decide) (br_f (by decide) (br_f (by decide) (br_f (by decide) (br_f (by decide) (br_f (by decide) (br_f (by decide) (br_t rfl (H)))))))))))))
  have Y0 : ∀ Q : SY → Prop, wpY_save (fun u => match u with | (g_revisions, g_shown, g_level, g_layer, g_depth, g_parts, g_edges, g_operands, g_units, g_fault, g_where, g_partEdges, b_stream, b_length, b_kind, b_num, b_matrix, b_colour, b_width, b_clip, b_paint, b_painter, b_running, b_at, b_saves, b_below, b_mixture, b_beginX, b_beginY, b_endX, b_endY, b_fromX, b_fromY, b_toX, b_toY, b_operand) => wY_operator_266 Q (nI 10) g_revisions g_shown g_level g_layer g_depth g_parts g_edges g_operands g_units g_fault g_where g_partEdges b_stream b_length b_kind b_num b_matrix b_colour b_width b_clip b_paint b_painter b_running b_at b_saves b_below b_mixture b_beginX b_beginY b_endX b_endY b_fromX b_fromY b_toX b_toY b_operand) (nI R, nI K, nI s, nI l, nI (d + 1), g_parts, g_edges, 0, nI (200 - U), 0, -1, g_partEdges, b_stream, b_length, b_kind, b_num, b_matrix, a_colour, a_width, b_clip, a_pixels, a_painter, b_running, b_at, b_saves, b_below, b_mixture, b_beginX, b_beginY, b_endX, b_endY, b_fromX, b_fromY, b_toX, b_toY, b_operand) → wpY_operator Q (nI R, nI K, nI s, nI l, nI (d + 1), g_parts, g_edges, nI 0, nI (199 - U), 0, -1, g_partEdges, b_stream, b_length, b_kind, b_num, b_matrix, a_colour, a_width, b_clip, a_pixels, a_painter, b_running, b_at, b_saves, b_below, b_mixture, b_beginX, b_beginY, b_endX, b_endY, b_fromX, b_fromY, b_toX, b_toY, b_operand) (nI 10) (nI pl) := by
    intro Q H
    unfold wpY_operator wpY_wanted
    exact (br_f (by decide) (br_f (by decide) (br_f (by decide) (br_f (by decide) (br_f (by decide) (br_f (by decide) (br_f (by decide) (br_f (by decide) (br_t rfl (br_f hnu (nm_r hu1 (nm_r rfl (nm_r rfl (br_f (by decide) (br_f (by decide) (br_f (by decide) (br_f (by decide) (br_f (by decide) (br_f (by decide) (br_f (by decide) (br_f (by decide) (br_f (by decide) (br_t rfl (H))))))))))))))))))))))))
  by_cases c : s = 6
  · exact ⟨(nI R, nI K, nI s, nI l, nI (d + 1), g_parts, g_edges, 0, nI (200 - U), 6, -1, g_partEdges, b_stream, b_length, b_kind, b_num, b_matrix, a_colour, a_width, b_clip, a_pixels, a_painter, b_running, b_at, b_saves, b_below, b_mixture, b_beginX, b_beginY, b_endX, b_endY, b_fromX, b_fromY, b_toX, b_toY, b_operand), fun Q hq => Y0 Q (yy_save hs hd (fun p hp => gs_clip hG hp) (fun _ => y266 (by omega) (by omega) (by omega) hq) (fun z => by omega)), fun P hp => X0 P (xx_save hs hf hG.1 hC (hG.2.2.1 s) (hG.2.2.2.1 s) (fun _ => hp _ (Or.inr (efr_mk (by decide) (by omega) hD hG.2.2.1 hG.2.2.2.1 hpx hpt))) (fun z => by omega))⟩
  · have hS' := sk_set (s' := s + 1) (ς' := ς + 1) hS k4 k8 (by omega) (by omega)
    have hG' := gs_up hG
    refine ⟨(nI R, nI K, nI (s + 1), nI l, nI (d + 1), g_parts, g_edges, 0, nI (200 - U), 0, -1, g_partEdges, b_stream, b_length, b_kind, b_num, cpf 6 s b_matrix 6, upd a_colour (s + 1) (a_colour s), upd a_width (s + 1) (a_width s), cpf 192 s b_clip 192, a_pixels, a_painter, b_running, b_at, upd b_saves d (nI (ς + 1)), b_below, b_mixture, b_beginX, b_beginY, b_endX, b_endY, b_fromX, b_fromY, b_toX, b_toY, b_operand), fun Q hq => Y0 Q (yy_save hs hd (fun p hp => gs_clip hG hp) (fun z => absurd z c) (fun _ => ?_)), fun P hp => X0 P (xx_save hs hf hG.1 hC (hG.2.2.1 s) (hG.2.2.2.1 s) (fun z => absurd z c) (fun _ => hp _ (Or.inl (exr_mk (by omega) ⟨hKR, hD, hS', hG', hP, hpx, hpt, by omega⟩))))⟩
    rw [k6, nI_1]
    exact y266 (by omega) (by omega) (by omega) hq
theorem op_11 (h : (ec R K D s l U f_drafted f_edges f_counted f_begun f_startX f_startY f_nowX f_nowY a_draftKind a_draftValue a_streamOf a_sizes a_before a_newest a_opCount a_ops a_opAt a_numbers a_running a_next a_floor a_mix a_matrix a_colour a_width a_clip a_x1 a_y1 a_x2 a_y2 a_extra a_pixels a_painter g_parts g_edges g_partEdges b_stream b_length b_kind b_num b_matrix b_clip b_running b_at b_saves b_below b_mixture b_beginX b_beginY b_endX b_endY b_fromX b_fromY b_toX b_toY)) (hf : fl (nI D) a_running a_next a_streamOf a_opAt pl) (hU : U ≤ 199) :
    OPR R K (2 * U + D + 2) pl 11 a (f_drafted, nI R, nI D, nI K, nI s, f_edges, f_counted, f_begun, f_startX, f_startY, f_nowX, f_nowY, f_low, f_high, f_pointX, f_pointY, nI l, 0, -1, nI U, f_used, a_draftKind, a_draftValue, a_streamOf, a_sizes, a_before, a_newest, a_opCount, a_ops, a_opAt, a_numbers, a_running, a_next, a_floor, a_mix, a_matrix, a_colour, a_width, a_clip, a_x1, a_y1, a_x2, a_y2, a_extra, a_winding, a_crossings, a_pixels, a_painter) (nI R, nI K, nI s, nI l, nI D, g_parts, g_edges, nI 0, nI (199 - U), 0, -1, g_partEdges, b_stream, b_length, b_kind, b_num, b_matrix, a_colour, a_width, b_clip, a_pixels, a_painter, b_running, b_at, b_saves, b_below, b_mixture, b_beginX, b_beginY, b_endX, b_endY, b_fromX, b_fromY, b_toX, b_toY, b_operand) := by
  obtain ⟨hKR, hD, hS, hG, hP, hpx, hpt, _⟩ := h
  have hs : s ≤ 6 := hS.2.1
  have hnu := hu_n hU
  have hu1 := hu_1 hU
  obtain ⟨d, rfl⟩ := fl_D hf hS.1
  obtain ⟨σ, φ, ς, μ, k1, k2, k3, k4, k5, k6, k7, k8, k9, _⟩ := hS.2.2.2 d (by omega)
  rw [if_pos rfl] at k9
  have hd : d < 7 := by have := hS.1; omega
  have hi7 : vp_in (nI d) 7 := vp_in_nI hd (by omega)
  have hi8 : vp_in (nI d) 8 := vp_in_nI (by omega) (by omega)
  have Y0 : ∀ Q : SY → Prop, wpY_restore (fun u => match u with | (g_revisions, g_shown, g_level, g_layer, g_depth, g_parts, g_edges, g_operands, g_units, g_fault, g_where, g_partEdges, b_stream, b_length, b_kind, b_num, b_matrix, b_colour, b_width, b_clip, b_paint, b_painter, b_running, b_at, b_saves, b_below, b_mixture, b_beginX, b_beginY, b_endX, b_endY, b_fromX, b_fromY, b_toX, b_toY, b_operand) => wY_operator_266 Q (nI 11) g_revisions g_shown g_level g_layer g_depth g_parts g_edges g_operands g_units g_fault g_where g_partEdges b_stream b_length b_kind b_num b_matrix b_colour b_width b_clip b_paint b_painter b_running b_at b_saves b_below b_mixture b_beginX b_beginY b_endX b_endY b_fromX b_fromY b_toX b_toY b_operand) (nI R, nI K, nI s, nI l, nI (d + 1), g_parts, g_edges, 0, nI (200 - U), 0, -1, g_partEdges, b_stream, b_length, b_kind, b_num, b_matrix, a_colour, a_width, b_clip, a_pixels, a_painter, b_running, b_at, b_saves, b_below, b_mixture, b_beginX, b_beginY, b_endX, b_endY, b_fromX, b_fromY, b_toX, b_toY, b_operand) → wpY_operator Q (nI R, nI K, nI s, nI l, nI (d + 1), g_parts, g_edges, nI 0, nI (199 - U), 0, -1, g_partEdges, b_stream, b_length, b_kind, b_num, b_matrix, a_colour, a_width, b_clip, a_pixels, a_painter, b_running, b_at, b_saves, b_below, b_mixture, b_beginX, b_beginY, b_endX, b_endY, b_fromX, b_fromY, b_toX, b_toY, b_operand) (nI 11) (nI pl) := by
    intro Q H
    unfold wpY_operator wpY_wanted
    exact (br_f (by decide) (br_f (by decide) (br_f (by decide) (br_f (by decide) (br_f (by decide) (br_f (by decide) (br_f (by decide) (br_f (by decide) (br_t rfl (br_f hnu (nm_r hu1 (nm_r rfl (nm_r rfl (br_f (by decide) (br_f (by decide) (br_f (by decide) (br_f (by decide) (br_f (by decide) (br_f (by decide) (br_f (by decide) (br_f (by decide) (br_f (by decide) (br_f (by decide) (br_t rfl (H)))))))))))))))))))))))))
  by_cases c : ς = 0
  · subst c
    refine ⟨(nI R, nI K, nI s, nI l, nI (d + 1), g_parts, g_edges, 0, nI (200 - U), 6, -1, g_partEdges, b_stream, b_length, b_kind, b_num, b_matrix, a_colour, a_width, b_clip, a_pixels, a_painter, b_running, b_at, b_saves, b_below, b_mixture, b_beginX, b_beginY, b_endX, b_endY, b_fromX, b_fromY, b_toX, b_toY, b_operand), fun Q hq => Y0 Q ?_, fun P hp => ?_⟩
    · unfold wpY_restore
      dsimp only
      rw [nI_pred, nI_clamp (by omega), k6]
      exact ⟨hi8, br_t rfl (y266 (by omega) (by omega) (by omega) hq)⟩
    · unfold wpX_perform
      refine (br_f (by decide) (br_f (by decide) (br_f (by decide) (br_f (by decide) (br_f (by decide) (br_f (by decide) (br_f (by decide) (br_f (by decide) (br_f (by decide) (br_f (by decide) (br_f (by decide) (br_f (by decide) (br_t rfl (?_))))))))))))))
      rw [nI_pred, nI_clamp (by omega), k4]
      refine ⟨hi7, br_t (by rw [← k9]; rfl) (xx_fail hf (hp _ (Or.inr (efr_mk (by decide) (by omega) hD hG.2.2.1 hG.2.2.2.1 hpx hpt))))⟩
  · have hS' := sk_set (s' := s - 1) (ς' := ς - 1) hS k4 k8 (by omega) (by omega)
    have hG' := gs_dn (s' := s - 1) hG (by omega)
    refine ⟨(nI R, nI K, nI (s - 1), nI l, nI (d + 1), g_parts, g_edges, 0, nI (200 - U), 0, -1, g_partEdges, b_stream, b_length, b_kind, b_num, b_matrix, a_colour, a_width, b_clip, a_pixels, a_painter, b_running, b_at, upd b_saves d (nI (ς - 1)), b_below, b_mixture, b_beginX, b_beginY, b_endX, b_endY, b_fromX, b_fromY, b_toX, b_toY, b_operand), fun Q hq => Y0 Q ?_, fun P hp => ?_⟩
    · unfold wpY_restore
      dsimp only
      rw [nI_pred, nI_clamp (by omega), k6]
      refine ⟨hi8, br_f (nI_ne0 (by omega) (by omega)) ⟨hi8, hi8, nm_e (nm_r (nj_s (c := 1) s 1 (by omega)) ?_)⟩⟩
      rw [nj_s (c := 1) ς 1 (by omega)]
      exact y266 (by omega) (by omega) (by omega) hq
    · unfold wpX_perform
      refine (br_f (by decide) (br_f (by decide) (br_f (by decide) (br_f (by decide) (br_f (by decide) (br_f (by decide) (br_f (by decide) (br_f (by decide) (br_f (by decide) (br_f (by decide) (br_f (by decide) (br_f (by decide) (br_t rfl (?_))))))))))))))
      rw [nI_pred, nI_clamp (by omega), k4]
      refine ⟨hi7, br_f ?_ (nm_r (nj_s (c := 1) s 1 (by omega)) (hp _ (Or.inl (exr_mk (by omega) ⟨hKR, hD, hS', hG', hP, hpx, hpt, by omega⟩))))⟩
      rw [nI_eq (by omega) (by omega)]; omega
theorem op_12 (h : (ec R K D s l U f_drafted f_edges f_counted f_begun f_startX f_startY f_nowX f_nowY a_draftKind a_draftValue a_streamOf a_sizes a_before a_newest a_opCount a_ops a_opAt a_numbers a_running a_next a_floor a_mix a_matrix a_colour a_width a_clip a_x1 a_y1 a_x2 a_y2 a_extra a_pixels a_painter g_parts g_edges g_partEdges b_stream b_length b_kind b_num b_matrix b_clip b_running b_at b_saves b_below b_mixture b_beginX b_beginY b_endX b_endY b_fromX b_fromY b_toX b_toY)) (hf : fl (nI D) a_running a_next a_streamOf a_opAt pl) (hU : U ≤ 199) (ha : a + 6 ≤ 320) (o : ∀ i, i < 6 → ∃ z : Int, (-1000 ≤ z ∧ z ≤ 1000) ∧ a_numbers (a + i) = iZ z ∧ b_operand i = iZ z) :
    OPR R K (2 * U + D + 2) pl 12 a (f_drafted, nI R, nI D, nI K, nI s, f_edges, f_counted, f_begun, f_startX, f_startY, f_nowX, f_nowY, f_low, f_high, f_pointX, f_pointY, nI l, 0, -1, nI U, f_used, a_draftKind, a_draftValue, a_streamOf, a_sizes, a_before, a_newest, a_opCount, a_ops, a_opAt, a_numbers, a_running, a_next, a_floor, a_mix, a_matrix, a_colour, a_width, a_clip, a_x1, a_y1, a_x2, a_y2, a_extra, a_winding, a_crossings, a_pixels, a_painter) (nI R, nI K, nI s, nI l, nI D, g_parts, g_edges, nI 6, nI (199 - U), 0, -1, g_partEdges, b_stream, b_length, b_kind, b_num, b_matrix, a_colour, a_width, b_clip, a_pixels, a_painter, b_running, b_at, b_saves, b_below, b_mixture, b_beginX, b_beginY, b_endX, b_endY, b_fromX, b_fromY, b_toX, b_toY, b_operand) := by
  obtain ⟨hKR, hD, hS, hG, hP, hpx, hpt, _⟩ := h
  obtain ⟨z0, b0, e0, f0⟩ := o 0 (by decide)
  obtain ⟨z1, b1, e1, f1⟩ := o 1 (by decide)
  obtain ⟨z2, b2, e2, f2⟩ := o 2 (by decide)
  obtain ⟨z3, b3, e3, f3⟩ := o 3 (by decide)
  obtain ⟨z4, b4, e4, f4⟩ := o 4 (by decide)
  obtain ⟨z5, b5, e5, f5⟩ := o 5 (by decide)
  have hs : s < 7 := by have := hS.2.1; omega
  have hnu := hu_n hU
  have hu1 := hu_1 hU
  have hE := hG.2.1
  have hM2 := mxr_c hE hG.1
  have q0 := hE (6 * s) (by omega)
  have q1 := hE (6 * s + 1) (by omega)
  have q2 := hE (6 * s + 2) (by omega)
  have q3 := hE (6 * s + 3) (by omega)
  have q4 := hE (6 * s + 4) (by omega)
  have q5 := hE (6 * s + 5) (by omega)
  have X0 : ∀ P : SX → Prop, wpX_concatenate (fun u => match u with | (f_drafted, f_revisions, f_depth, f_known, f_saved, f_edges, f_counted, f_begun, f_startX, f_startY, f_nowX, f_nowY, f_low, f_high, f_pointX, f_pointY, f_layer, f_fault, f_faultAt, f_units, f_used, a_draftKind, a_draftValue, a_streamOf, a_sizes, a_before, a_newest, a_opCount, a_ops, a_opAt, a_numbers, a_running, a_next, a_floor, a_mix, a_matrix, a_colour, a_width, a_clip, a_x1, a_y1, a_x2, a_y2, a_extra, a_winding, a_crossings, a_pixels, a_painter) => P (f_drafted, f_revisions, f_depth, f_known, f_saved, f_edges, f_counted, f_begun, f_startX, f_startY, f_nowX, f_nowY, f_low, f_high, f_pointX, f_pointY, f_layer, f_fault, f_faultAt, f_units, f_used, a_draftKind, a_draftValue, a_streamOf, a_sizes, a_before, a_newest, a_opCount, a_ops, a_opAt, a_numbers, a_running, a_next, a_floor, a_mix, a_matrix, a_colour, a_width, a_clip, a_x1, a_y1, a_x2, a_y2, a_extra, a_winding, a_crossings, a_pixels, a_painter)) (f_drafted, nI R, nI D, nI K, nI s, f_edges, f_counted, f_begun, f_startX, f_startY, f_nowX, f_nowY, f_low, f_high, f_pointX, f_pointY, nI l, 0, -1, nI U, f_used, a_draftKind, a_draftValue, a_streamOf, a_sizes, a_before, a_newest, a_opCount, a_ops, a_opAt, a_numbers, a_running, a_next, a_floor, a_mix, a_matrix, a_colour, a_width, a_clip, a_x1, a_y1, a_x2, a_y2, a_extra, a_winding, a_crossings, a_pixels, a_painter) (nI a) → wpX_perform P (f_drafted, nI R, nI D, nI K, nI s, f_edges, f_counted, f_begun, f_startX, f_startY, f_nowX, f_nowY, f_low, f_high, f_pointX, f_pointY, nI l, 0, -1, nI U, f_used, a_draftKind, a_draftValue, a_streamOf, a_sizes, a_before, a_newest, a_opCount, a_ops, a_opAt, a_numbers, a_running, a_next, a_floor, a_mix, a_matrix, a_colour, a_width, a_clip, a_x1, a_y1, a_x2, a_y2, a_extra, a_winding, a_crossings, a_pixels, a_painter) (nI 12) (nI a) := by
    intro P H
    unfold wpX_perform
    exact (br_f (by decide) (br_f (by decide) (br_f (by decide) (br_f (by decide) (br_f (by decide) (br_f (by decide) (br_f (by decide) (br_f (by decide) (br_f (by decide) (br_f (by decide) (br_f (by decide) (br_f (by decide) (br_f (by decide) (br_t rfl (H)))))))))))))))
  have Y0 : ∀ Q : SY → Prop, wpY_transform (fun u => match u with | (g_revisions, g_shown, g_level, g_layer, g_depth, g_parts, g_edges, g_operands, g_units, g_fault, g_where, g_partEdges, b_stream, b_length, b_kind, b_num, b_matrix, b_colour, b_width, b_clip, b_paint, b_painter, b_running, b_at, b_saves, b_below, b_mixture, b_beginX, b_beginY, b_endX, b_endY, b_fromX, b_fromY, b_toX, b_toY, b_operand) => wY_operator_266 Q (nI 12) g_revisions g_shown g_level g_layer g_depth g_parts g_edges g_operands g_units g_fault g_where g_partEdges b_stream b_length b_kind b_num b_matrix b_colour b_width b_clip b_paint b_painter b_running b_at b_saves b_below b_mixture b_beginX b_beginY b_endX b_endY b_fromX b_fromY b_toX b_toY b_operand) (nI R, nI K, nI s, nI l, nI D, g_parts, g_edges, 0, nI (200 - U), 0, -1, g_partEdges, b_stream, b_length, b_kind, b_num, b_matrix, a_colour, a_width, b_clip, a_pixels, a_painter, b_running, b_at, b_saves, b_below, b_mixture, b_beginX, b_beginY, b_endX, b_endY, b_fromX, b_fromY, b_toX, b_toY, b_operand) → wpY_operator Q (nI R, nI K, nI s, nI l, nI D, g_parts, g_edges, nI 6, nI (199 - U), 0, -1, g_partEdges, b_stream, b_length, b_kind, b_num, b_matrix, a_colour, a_width, b_clip, a_pixels, a_painter, b_running, b_at, b_saves, b_below, b_mixture, b_beginX, b_beginY, b_endX, b_endY, b_fromX, b_fromY, b_toX, b_toY, b_operand) (nI 12) (nI pl) := by
    intro Q H
    unfold wpY_operator wpY_wanted
    exact (br_f (by decide) (br_f (by decide) (br_f (by decide) (br_f (by decide) (br_t rfl (br_t rfl (br_f hnu (nm_r hu1 (nm_r rfl (nm_r rfl (br_f (by decide) (br_f (by decide) (br_f (by decide) (br_f (by decide) (br_f (by decide) (br_f (by decide) (br_f (by decide) (br_f (by decide) (br_f (by decide) (br_f (by decide) (br_f (by decide) (br_t rfl (H)))))))))))))))))))))))
  generalize d0 : z0 * (a_matrix (6 * s)).toInt + z1 * (a_matrix (6 * s + 2)).toInt = v0
  generalize d1 : z0 * (a_matrix (6 * s + 1)).toInt + z1 * (a_matrix (6 * s + 3)).toInt = v1
  generalize d2 : z2 * (a_matrix (6 * s)).toInt + z3 * (a_matrix (6 * s + 2)).toInt = v2
  generalize d3 : z2 * (a_matrix (6 * s + 1)).toInt + z3 * (a_matrix (6 * s + 3)).toInt = v3
  generalize d4 : z4 * (a_matrix (6 * s)).toInt + z5 * (a_matrix (6 * s + 2)).toInt + (a_matrix (6 * s + 4)).toInt = v4
  generalize d5 : z4 * (a_matrix (6 * s + 1)).toInt + z5 * (a_matrix (6 * s + 3)).toInt + (a_matrix (6 * s + 5)).toInt = v5
  have D0 : v0 = z0 * (b_matrix (6 * s)).toInt + z1 * (b_matrix (6 * s + 2)).toInt := by rw [q0, q2, d0]
  have D1 : v1 = z0 * (b_matrix (6 * s + 1)).toInt + z1 * (b_matrix (6 * s + 3)).toInt := by rw [q1, q3, d1]
  have D2 : v2 = z2 * (b_matrix (6 * s)).toInt + z3 * (b_matrix (6 * s + 2)).toInt := by rw [q0, q2, d2]
  have D3 : v3 = z2 * (b_matrix (6 * s + 1)).toInt + z3 * (b_matrix (6 * s + 3)).toInt := by rw [q1, q3, d3]
  have D4 : v4 = z4 * (b_matrix (6 * s)).toInt + z5 * (b_matrix (6 * s + 2)).toInt + (b_matrix (6 * s + 4)).toInt := by rw [q0, q2, q4, d4]
  have D5 : v5 = z4 * (b_matrix (6 * s + 1)).toInt + z5 * (b_matrix (6 * s + 3)).toInt + (b_matrix (6 * s + 5)).toInt := by rw [q1, q3, q5, d5]
  by_cases ok : ((-50 ≤ v0 ∧ v0 ≤ 50) ∧ (-50 ≤ v1 ∧ v1 ≤ 50)) ∧ ((-50 ≤ v2 ∧ v2 ≤ 50) ∧ (-50 ≤ v3 ∧ v3 ≤ 50)) ∧ ((-4000 ≤ v4 ∧ v4 ≤ 4000) ∧ (-4000 ≤ v5 ∧ v5 ≤ 4000))
  · have hG' := gs_m6 hG ok.1 ok.2.1 ok.2.2
    exact ⟨(nI R, nI K, nI s, nI l, nI D, g_parts, g_edges, 0, nI (200 - U), 0, -1, g_partEdges, b_stream, b_length, b_kind, b_num, m6 b_matrix (6 * s) (iZ v0) (iZ v1) (iZ v2) (iZ v3) (iZ v4) (iZ v5), a_colour, a_width, b_clip, a_pixels, a_painter, b_running, b_at, b_saves, b_below, b_mixture, b_beginX, b_beginY, b_endX, b_endY, b_fromX, b_fromY, b_toX, b_toY, b_operand), fun Q hq => Y0 Q (yy_transform hs hM2 f0 f1 f2 f3 f4 f5 b0 b1 b2 b3 b4 b5 D0 D1 D2 D3 D4 D5 (fun _ _ _ => y266 (by omega) (by omega) (by omega) hq) (fun z => absurd ok z)),
      fun P hp => X0 P (xx_concat hs ha hG.1 e0 e1 e2 e3 e4 e5 b0 b1 b2 b3 b4 b5 hf d0.symm d1.symm d2.symm d3.symm d4.symm d5.symm (fun _ _ _ => hp _ (Or.inl (exr_mk (by omega) ⟨hKR, hD, hS, hG', hP, hpx, hpt, by omega⟩))) (fun z => absurd ok z))⟩
  · exact ⟨(nI R, nI K, nI s, nI l, nI D, g_parts, g_edges, 0, nI (200 - U), 3, -1, g_partEdges, b_stream, b_length, b_kind, b_num, b_matrix, a_colour, a_width, b_clip, a_pixels, a_painter, b_running, b_at, b_saves, b_below, b_mixture, b_beginX, b_beginY, b_endX, b_endY, b_fromX, b_fromY, b_toX, b_toY, b_operand), fun Q hq => Y0 Q (yy_transform hs hM2 f0 f1 f2 f3 f4 f5 b0 b1 b2 b3 b4 b5 D0 D1 D2 D3 D4 D5 (fun z1 z2 z3 => absurd ⟨z1, z2, z3⟩ ok) (fun _ => y266 (by omega) (by omega) (by omega) hq)),
      fun P hp => X0 P (xx_concat hs ha hG.1 e0 e1 e2 e3 e4 e5 b0 b1 b2 b3 b4 b5 hf d0.symm d1.symm d2.symm d3.symm d4.symm d5.symm (fun z1 z2 z3 => absurd ⟨z1, z2, z3⟩ ok) (fun _ M => hp _ (Or.inr (efr_mk (by decide) (by omega) hD hG.2.2.1 hG.2.2.2.1 hpx hpt))))⟩
theorem gs_col {c : Int32} (h : (gs s a_matrix a_colour a_width a_clip b_matrix b_clip)) (hc : 0 ≤ c.toInt ∧ c.toInt ≤ 255) : (gs s a_matrix (upd a_colour s c) a_width a_clip b_matrix b_clip) := by
  obtain ⟨h1, h2, h3, h4, h5⟩ := h
  refine ⟨h1, h2, fun i => ?_, h4, h5⟩
  by_cases e : i = s
  · subst e; rw [pk_us]; exact hc
  · rw [pk_un e]; exact h3 i
theorem gs_wid {c : Int32} (h : (gs s a_matrix a_colour a_width a_clip b_matrix b_clip)) (hc : 0 ≤ c.toInt ∧ c.toInt ≤ 60) : (gs s a_matrix a_colour (upd a_width s c) a_clip b_matrix b_clip) := by
  obtain ⟨h1, h2, h3, h4, h5⟩ := h
  refine ⟨h1, h2, h3, fun i => ?_, h5⟩
  by_cases e : i = s
  · subst e; rw [pk_us]; exact hc
  · rw [pk_un e]; exact h4 i
theorem op_13 (h : (ec R K D s l U f_drafted f_edges f_counted f_begun f_startX f_startY f_nowX f_nowY a_draftKind a_draftValue a_streamOf a_sizes a_before a_newest a_opCount a_ops a_opAt a_numbers a_running a_next a_floor a_mix a_matrix a_colour a_width a_clip a_x1 a_y1 a_x2 a_y2 a_extra a_pixels a_painter g_parts g_edges g_partEdges b_stream b_length b_kind b_num b_matrix b_clip b_running b_at b_saves b_below b_mixture b_beginX b_beginY b_endX b_endY b_fromX b_fromY b_toX b_toY)) (hf : fl (nI D) a_running a_next a_streamOf a_opAt pl) (hU : U ≤ 199) (ha : a + 1 ≤ 320) (o : ∀ i, i < 1 → ∃ z : Int, (-1000 ≤ z ∧ z ≤ 1000) ∧ a_numbers (a + i) = iZ z ∧ b_operand i = iZ z) :
    OPR R K (2 * U + D + 2) pl 13 a (f_drafted, nI R, nI D, nI K, nI s, f_edges, f_counted, f_begun, f_startX, f_startY, f_nowX, f_nowY, f_low, f_high, f_pointX, f_pointY, nI l, 0, -1, nI U, f_used, a_draftKind, a_draftValue, a_streamOf, a_sizes, a_before, a_newest, a_opCount, a_ops, a_opAt, a_numbers, a_running, a_next, a_floor, a_mix, a_matrix, a_colour, a_width, a_clip, a_x1, a_y1, a_x2, a_y2, a_extra, a_winding, a_crossings, a_pixels, a_painter) (nI R, nI K, nI s, nI l, nI D, g_parts, g_edges, nI 1, nI (199 - U), 0, -1, g_partEdges, b_stream, b_length, b_kind, b_num, b_matrix, a_colour, a_width, b_clip, a_pixels, a_painter, b_running, b_at, b_saves, b_below, b_mixture, b_beginX, b_beginY, b_endX, b_endY, b_fromX, b_fromY, b_toX, b_toY, b_operand) := by
  obtain ⟨hKR, hD, hS, hG, hP, hpx, hpt, _⟩ := h
  obtain ⟨z0, b0, e0, f0⟩ := o 0 (by decide)
  have e0 : a_numbers a = iZ z0 := e0
  have hs : s < 7 := by have := hS.2.1; omega
  have hnu := hu_n hU
  have hu1 := hu_1 hU
  have hi : vp_in (nI a) 320 := vp_in_nI (by omega) (by omega)
  have his : vp_in (nI s) 7 := vp_in_nI hs (by omega)
  have Y0 : ∀ Q : SY → Prop, wpY_set (fun u => match u with | (g_revisions, g_shown, g_level, g_layer, g_depth, g_parts, g_edges, g_operands, g_units, g_fault, g_where, g_partEdges, b_stream, b_length, b_kind, b_num, b_matrix, b_colour, b_width, b_clip, b_paint, b_painter, b_running, b_at, b_saves, b_below, b_mixture, b_beginX, b_beginY, b_endX, b_endY, b_fromX, b_fromY, b_toX, b_toY, b_operand) => wY_operator_266 Q (nI 13) g_revisions g_shown g_level g_layer g_depth g_parts g_edges g_operands g_units g_fault g_where g_partEdges b_stream b_length b_kind b_num b_matrix b_colour b_width b_clip b_paint b_painter b_running b_at b_saves b_below b_mixture b_beginX b_beginY b_endX b_endY b_fromX b_fromY b_toX b_toY b_operand) (nI R, nI K, nI s, nI l, nI D, g_parts, g_edges, 0, nI (200 - U), 0, -1, g_partEdges, b_stream, b_length, b_kind, b_num, b_matrix, a_colour, a_width, b_clip, a_pixels, a_painter, b_running, b_at, b_saves, b_below, b_mixture, b_beginX, b_beginY, b_endX, b_endY, b_fromX, b_fromY, b_toX, b_toY, b_operand) (nI 13) (iZ z0) → wpY_operator Q (nI R, nI K, nI s, nI l, nI D, g_parts, g_edges, nI 1, nI (199 - U), 0, -1, g_partEdges, b_stream, b_length, b_kind, b_num, b_matrix, a_colour, a_width, b_clip, a_pixels, a_painter, b_running, b_at, b_saves, b_below, b_mixture, b_beginX, b_beginY, b_endX, b_endY, b_fromX, b_fromY, b_toX, b_toY, b_operand) (nI 13) (nI pl) := by
    intro Q H
    unfold wpY_operator wpY_wanted
    exact (br_f (by decide) (br_f (by decide) (br_f (by decide) (br_f (by decide) (br_f (by decide) (br_t rfl (br_t rfl (br_f hnu (nm_r hu1 (nm_r f0 (nm_r rfl (br_f (by decide) (br_f (by decide) (br_f (by decide) (br_f (by decide) (br_f (by decide) (br_f (by decide) (br_f (by decide) (br_f (by decide) (br_f (by decide) (br_f (by decide) (br_f (by decide) (br_f (by decide) (br_t rfl (H)))))))))))))))))))))))))
  by_cases c : 0 ≤ z0 ∧ z0 ≤ 255
  · have hG' := gs_col (c := iZ z0) hG (by rw [iz_T (by omega)]; exact c)
    refine ⟨(nI R, nI K, nI s, nI l, nI D, g_parts, g_edges, 0, nI (200 - U), 0, -1, g_partEdges, b_stream, b_length, b_kind, b_num, b_matrix, upd a_colour s (iZ z0), a_width, b_clip, a_pixels, a_painter, b_running, b_at, b_saves, b_below, b_mixture, b_beginX, b_beginY, b_endX, b_endY, b_fromX, b_fromY, b_toX, b_toY, b_operand), fun Q hq => Y0 Q ?_, fun P hp => ?_⟩
    · unfold wpY_set wY_set_19
      refine zk_lt z0 0 (fun z => by omega) (fun _ => br_t rfl (zk_le z0 255 (fun _ => br_t rfl ⟨his, ?_⟩) (fun z => by omega) rfl (by decide))) rfl li_0
      rw [nI_clamp (by omega)]
      exact nm_e (y266 (k := 13) (by omega) (by omega) (by omega) hq)
    · unfold wpX_perform
      refine (br_f (by decide) (br_f (by decide) (br_f (by decide) (br_f (by decide) (br_f (by decide) (br_f (by decide) (br_f (by decide) (br_f (by decide) (br_f (by decide) (br_f (by decide) (br_f (by decide) (br_f (by decide) (br_f (by decide) (br_f (by decide) (br_t rfl (?_))))))))))))))))
      rw [nI_clamp (n := a) (by omega), nI_clamp (n := s) (by omega), e0, vz_s (by omega)]
      exact ⟨hi, zk_lt z0 0 (fun z => by omega) (fun _ => ⟨hi, zk_le z0 255 (fun _ => ⟨hi, his, nm_e (hp _ (Or.inl (exr_mk (by omega) ⟨hKR, hD, hS, hG', hP, hpx, hpt, by omega⟩)))⟩) (fun z => by omega) rfl (by decide)⟩) rfl li_0⟩
  · refine ⟨(nI R, nI K, nI s, nI l, nI D, g_parts, g_edges, 0, nI (200 - U), 3, -1, g_partEdges, b_stream, b_length, b_kind, b_num, b_matrix, a_colour, a_width, b_clip, a_pixels, a_painter, b_running, b_at, b_saves, b_below, b_mixture, b_beginX, b_beginY, b_endX, b_endY, b_fromX, b_fromY, b_toX, b_toY, b_operand), fun Q hq => Y0 Q ?_, fun P hp => ?_⟩
    · have bad : wY_operator_266 Q (nI 13) (nI R) (nI K) (nI s) (nI l) (nI D) g_parts g_edges 0 (nI (200 - U)) 3 (-1) g_partEdges b_stream b_length b_kind b_num b_matrix a_colour a_width b_clip a_pixels a_painter b_running b_at b_saves b_below b_mixture b_beginX b_beginY b_endX b_endY b_fromX b_fromY b_toX b_toY b_operand := y266 (by omega) (by omega) (by omega) hq
      unfold wpY_set wY_set_19
      exact zk_lt z0 0 (fun _ => bad) (fun z => br_t rfl (zk_le z0 255 (fun z2 => by omega) (fun _ => bad) rfl (by decide))) rfl li_0
    · have bad : wX_perform_276 P f_drafted (nI R) (nI D) (nI K) (nI s) f_edges f_counted f_begun f_startX f_startY f_nowX f_nowY f_low f_high f_pointX f_pointY (nI l) 0 (-1) (nI U) f_used a_draftKind a_draftValue a_streamOf a_sizes a_before a_newest a_opCount a_ops a_opAt a_numbers a_running a_next a_floor a_mix a_matrix a_colour a_width a_clip a_x1 a_y1 a_x2 a_y2 a_extra a_winding a_crossings a_pixels a_painter := by
        unfold wX_perform_276
        exact xx_fail hf (hp _ (Or.inr (efr_mk (by decide) (by omega) hD hG.2.2.1 hG.2.2.2.1 hpx hpt)))
      unfold wpX_perform
      refine (br_f (by decide) (br_f (by decide) (br_f (by decide) (br_f (by decide) (br_f (by decide) (br_f (by decide) (br_f (by decide) (br_f (by decide) (br_f (by decide) (br_f (by decide) (br_f (by decide) (br_f (by decide) (br_f (by decide) (br_f (by decide) (br_t rfl (?_))))))))))))))))
      rw [nI_clamp (n := a) (by omega), nI_clamp (n := s) (by omega), e0]
      exact ⟨hi, zk_lt z0 0 (fun _ => bad) (fun z => ⟨hi, zk_le z0 255 (fun z2 => by omega) (fun _ => bad) rfl (by decide)⟩) rfl li_0⟩
theorem op_16 (h : (ec R K D s l U f_drafted f_edges f_counted f_begun f_startX f_startY f_nowX f_nowY a_draftKind a_draftValue a_streamOf a_sizes a_before a_newest a_opCount a_ops a_opAt a_numbers a_running a_next a_floor a_mix a_matrix a_colour a_width a_clip a_x1 a_y1 a_x2 a_y2 a_extra a_pixels a_painter g_parts g_edges g_partEdges b_stream b_length b_kind b_num b_matrix b_clip b_running b_at b_saves b_below b_mixture b_beginX b_beginY b_endX b_endY b_fromX b_fromY b_toX b_toY)) (hf : fl (nI D) a_running a_next a_streamOf a_opAt pl) (hU : U ≤ 199) (ha : a + 1 ≤ 320) (o : ∀ i, i < 1 → ∃ z : Int, (-1000 ≤ z ∧ z ≤ 1000) ∧ a_numbers (a + i) = iZ z ∧ b_operand i = iZ z) :
    OPR R K (2 * U + D + 2) pl 16 a (f_drafted, nI R, nI D, nI K, nI s, f_edges, f_counted, f_begun, f_startX, f_startY, f_nowX, f_nowY, f_low, f_high, f_pointX, f_pointY, nI l, 0, -1, nI U, f_used, a_draftKind, a_draftValue, a_streamOf, a_sizes, a_before, a_newest, a_opCount, a_ops, a_opAt, a_numbers, a_running, a_next, a_floor, a_mix, a_matrix, a_colour, a_width, a_clip, a_x1, a_y1, a_x2, a_y2, a_extra, a_winding, a_crossings, a_pixels, a_painter) (nI R, nI K, nI s, nI l, nI D, g_parts, g_edges, nI 1, nI (199 - U), 0, -1, g_partEdges, b_stream, b_length, b_kind, b_num, b_matrix, a_colour, a_width, b_clip, a_pixels, a_painter, b_running, b_at, b_saves, b_below, b_mixture, b_beginX, b_beginY, b_endX, b_endY, b_fromX, b_fromY, b_toX, b_toY, b_operand) := by
  obtain ⟨hKR, hD, hS, hG, hP, hpx, hpt, _⟩ := h
  obtain ⟨z0, b0, e0, f0⟩ := o 0 (by decide)
  have e0 : a_numbers a = iZ z0 := e0
  have hs : s < 7 := by have := hS.2.1; omega
  have hnu := hu_n hU
  have hu1 := hu_1 hU
  have hi : vp_in (nI a) 320 := vp_in_nI (by omega) (by omega)
  have his : vp_in (nI s) 7 := vp_in_nI hs (by omega)
  have Y0 : ∀ Q : SY → Prop, wpY_set (fun u => match u with | (g_revisions, g_shown, g_level, g_layer, g_depth, g_parts, g_edges, g_operands, g_units, g_fault, g_where, g_partEdges, b_stream, b_length, b_kind, b_num, b_matrix, b_colour, b_width, b_clip, b_paint, b_painter, b_running, b_at, b_saves, b_below, b_mixture, b_beginX, b_beginY, b_endX, b_endY, b_fromX, b_fromY, b_toX, b_toY, b_operand) => wY_operator_266 Q (nI 16) g_revisions g_shown g_level g_layer g_depth g_parts g_edges g_operands g_units g_fault g_where g_partEdges b_stream b_length b_kind b_num b_matrix b_colour b_width b_clip b_paint b_painter b_running b_at b_saves b_below b_mixture b_beginX b_beginY b_endX b_endY b_fromX b_fromY b_toX b_toY b_operand) (nI R, nI K, nI s, nI l, nI D, g_parts, g_edges, 0, nI (200 - U), 0, -1, g_partEdges, b_stream, b_length, b_kind, b_num, b_matrix, a_colour, a_width, b_clip, a_pixels, a_painter, b_running, b_at, b_saves, b_below, b_mixture, b_beginX, b_beginY, b_endX, b_endY, b_fromX, b_fromY, b_toX, b_toY, b_operand) (nI 16) (iZ z0) → wpY_operator Q (nI R, nI K, nI s, nI l, nI D, g_parts, g_edges, nI 1, nI (199 - U), 0, -1, g_partEdges, b_stream, b_length, b_kind, b_num, b_matrix, a_colour, a_width, b_clip, a_pixels, a_painter, b_running, b_at, b_saves, b_below, b_mixture, b_beginX, b_beginY, b_endX, b_endY, b_fromX, b_fromY, b_toX, b_toY, b_operand) (nI 16) (nI pl) := by
    intro Q H
    unfold wpY_operator wpY_wanted
    exact (br_f (by decide) (br_f (by decide) (br_f (by decide) (br_f (by decide) (br_f (by decide) (br_f (by decide) (br_f (by decide) (br_t rfl (br_t rfl (br_f hnu (nm_r hu1 (nm_r f0 (nm_r rfl (br_f (by decide) (br_f (by decide) (br_f (by decide) (br_f (by decide) (br_f (by decide) (br_f (by decide) (br_f (by decide) (br_f (by decide) (br_f (by decide) (br_f (by decide) (br_f (by decide) (br_f (by decide) (br_f (by decide) (br_t rfl (H))))))))))))))))))))))))))))
  by_cases c : 0 ≤ z0 ∧ z0 ≤ 60
  · have hG' := gs_wid (c := iZ z0) hG (by rw [iz_T (by omega)]; exact c)
    refine ⟨(nI R, nI K, nI s, nI l, nI D, g_parts, g_edges, 0, nI (200 - U), 0, -1, g_partEdges, b_stream, b_length, b_kind, b_num, b_matrix, a_colour, upd a_width s (iZ z0), b_clip, a_pixels, a_painter, b_running, b_at, b_saves, b_below, b_mixture, b_beginX, b_beginY, b_endX, b_endY, b_fromX, b_fromY, b_toX, b_toY, b_operand), fun Q hq => Y0 Q ?_, fun P hp => ?_⟩
    · unfold wpY_set wY_set_19
      refine zk_lt z0 0 (fun z => by omega) (fun _ => br_f (by decide) (zk_le z0 60 (fun _ => br_f (by decide) ⟨his, ?_⟩) (fun z => by omega) rfl (by decide))) rfl li_0
      rw [nI_clamp (by omega)]
      exact nm_e (y266 (k := 16) (by omega) (by omega) (by omega) hq)
    · unfold wpX_perform
      refine (br_f (by decide) (br_f (by decide) (br_f (by decide) (br_f (by decide) (br_f (by decide) (br_f (by decide) (br_f (by decide) (br_f (by decide) (br_f (by decide) (br_f (by decide) (br_f (by decide) (br_f (by decide) (br_f (by decide) (br_f (by decide) (br_f (by decide) (br_f (by decide) (br_f (by decide) (br_t rfl (?_)))))))))))))))))))
      rw [nI_clamp (n := a) (by omega), nI_clamp (n := s) (by omega), e0, iz_b (by omega), vz_b (by omega)]
      exact ⟨hi, zk_lt z0 0 (fun z => by omega) (fun _ => ⟨hi, zk_le z0 60 (fun _ => ⟨hi, his, nm_e (hp _ (Or.inl (exr_mk (by omega) ⟨hKR, hD, hS, hG', hP, hpx, hpt, by omega⟩)))⟩) (fun z => by omega) rfl (by decide)⟩) rfl li_0⟩
  · refine ⟨(nI R, nI K, nI s, nI l, nI D, g_parts, g_edges, 0, nI (200 - U), 3, -1, g_partEdges, b_stream, b_length, b_kind, b_num, b_matrix, a_colour, a_width, b_clip, a_pixels, a_painter, b_running, b_at, b_saves, b_below, b_mixture, b_beginX, b_beginY, b_endX, b_endY, b_fromX, b_fromY, b_toX, b_toY, b_operand), fun Q hq => Y0 Q ?_, fun P hp => ?_⟩
    · have bad : wY_operator_266 Q (nI 16) (nI R) (nI K) (nI s) (nI l) (nI D) g_parts g_edges 0 (nI (200 - U)) 3 (-1) g_partEdges b_stream b_length b_kind b_num b_matrix a_colour a_width b_clip a_pixels a_painter b_running b_at b_saves b_below b_mixture b_beginX b_beginY b_endX b_endY b_fromX b_fromY b_toX b_toY b_operand := y266 (by omega) (by omega) (by omega) hq
      unfold wpY_set wY_set_19
      exact zk_lt z0 0 (fun _ => bad) (fun z => br_f (by decide) (zk_le z0 60 (fun z2 => by omega) (fun _ => bad) rfl (by decide))) rfl li_0
    · have bad : wX_perform_322 P f_drafted (nI R) (nI D) (nI K) (nI s) f_edges f_counted f_begun f_startX f_startY f_nowX f_nowY f_low f_high f_pointX f_pointY (nI l) 0 (-1) (nI U) f_used a_draftKind a_draftValue a_streamOf a_sizes a_before a_newest a_opCount a_ops a_opAt a_numbers a_running a_next a_floor a_mix a_matrix a_colour a_width a_clip a_x1 a_y1 a_x2 a_y2 a_extra a_winding a_crossings a_pixels a_painter := by
        unfold wX_perform_322
        exact xx_fail hf (hp _ (Or.inr (efr_mk (by decide) (by omega) hD hG.2.2.1 hG.2.2.2.1 hpx hpt)))
      unfold wpX_perform
      refine (br_f (by decide) (br_f (by decide) (br_f (by decide) (br_f (by decide) (br_f (by decide) (br_f (by decide) (br_f (by decide) (br_f (by decide) (br_f (by decide) (br_f (by decide) (br_f (by decide) (br_f (by decide) (br_f (by decide) (br_f (by decide) (br_f (by decide) (br_f (by decide) (br_f (by decide) (br_t rfl (?_)))))))))))))))))))
      rw [nI_clamp (n := a) (by omega), nI_clamp (n := s) (by omega), e0]
      exact ⟨hi, zk_lt z0 0 (fun _ => bad) (fun z => ⟨hi, zk_le z0 60 (fun z2 => by omega) (fun _ => bad) rfl (by decide)⟩) rfl li_0⟩
end
end
section
/-! operators in lockstep: DRAW, GROUP -/
section
variable {f_drafted f_revisions f_depth f_known f_saved f_edges f_counted f_begun f_startX f_startY f_nowX f_nowY f_low f_high f_pointX f_pointY f_layer f_fault f_faultAt f_units f_used : Int32} {a_draftKind a_draftValue a_streamOf a_sizes a_before a_newest a_opCount a_ops a_opAt a_numbers a_running a_next a_floor a_mix a_matrix a_colour a_width a_clip a_x1 a_y1 a_x2 a_y2 a_extra a_winding a_crossings a_pixels a_painter : Nat → Int32}
variable {g_revisions g_shown g_level g_layer g_depth g_parts g_edges g_operands g_units g_fault g_where g_partEdges : Int32} {b_stream b_length b_kind b_num b_matrix b_colour b_width b_clip b_paint b_painter b_running b_at b_saves b_below b_mixture b_beginX b_beginY b_endX b_endY b_fromX b_fromY b_toX b_toY b_operand : Nat → Int32}
variable {R K D s l U pl a : Nat}
theorem etaYY {Q : SY → Prop} (v : SY) : Q v → (match v with | (g_revisions, g_shown, g_level, g_layer, g_depth, g_parts, g_edges, g_operands, g_units, g_fault, g_where, g_partEdges, b_stream, b_length, b_kind, b_num, b_matrix, b_colour, b_width, b_clip, b_paint, b_painter, b_running, b_at, b_saves, b_below, b_mixture, b_beginX, b_beginY, b_endX, b_endY, b_fromX, b_fromY, b_toX, b_toY, b_operand) => Q (g_revisions, g_shown, g_level, g_layer, g_depth, g_parts, g_edges, g_operands, g_units, g_fault, g_where, g_partEdges, b_stream, b_length, b_kind, b_num, b_matrix, b_colour, b_width, b_clip, b_paint, b_painter, b_running, b_at, b_saves, b_below, b_mixture, b_beginX, b_beginY, b_endX, b_endY, b_fromX, b_fromY, b_toX, b_toY, b_operand)) := by
  intro h
  obtain ⟨g_revisions, g_shown, g_level, g_layer, g_depth, g_parts, g_edges, g_operands, g_units, g_fault, g_where, g_partEdges, b_stream, b_length, b_kind, b_num, b_matrix, b_colour, b_width, b_clip, b_paint, b_painter, b_running, b_at, b_saves, b_below, b_mixture, b_beginX, b_beginY, b_endX, b_endY, b_fromX, b_fromY, b_toX, b_toY, b_operand⟩ := v
  exact h
theorem yd_busy {σ : Nat} {x2 : Int32} {post : SY → Prop} (hσ : σ < 6) (hD : D ≤ 7) (busy : s = 6 ∨ ∃ d, d < D ∧ b_running d = nI σ) (h : post (g_revisions, g_shown, nI s, g_layer, nI D, g_parts, g_edges, g_operands, g_units, 6, g_where, g_partEdges, b_stream, b_length, b_kind, b_num, b_matrix, b_colour, b_width, b_clip, b_paint, b_painter, b_running, b_at, b_saves, b_below, b_mixture, b_beginX, b_beginY, b_endX, b_endY, b_fromX, b_fromY, b_toX, b_toY, b_operand)) (hs : s ≤ 6 := by omega) : wpY_draw post (g_revisions, g_shown, nI s, g_layer, nI D, g_parts, g_edges, g_operands, g_units, g_fault, g_where, g_partEdges, b_stream, b_length, b_kind, b_num, b_matrix, b_colour, b_width, b_clip, b_paint, b_painter, b_running, b_at, b_saves, b_below, b_mixture, b_beginX, b_beginY, b_endX, b_endY, b_fromX, b_fromY, b_toX, b_toY, b_operand) (nI σ) x2 := by
  have loop : ∀ d k, k + d = D → ∀ n, d < n → ∀ f : Int32, ((f = 0 ∧ ¬ s = 6 ∧ ∀ e, e < k → b_running e ≠ nI σ) ∨ f = 1) → wY_draw_33 post (nI σ) x2 g_revisions g_shown (nI s) g_layer (nI D) g_parts g_edges g_operands g_units g_fault g_where g_partEdges b_stream b_length b_kind b_num b_matrix b_colour b_width b_clip b_paint b_painter b_running b_at b_saves b_below b_mixture b_beginX b_beginY b_endX b_endY b_fromX b_fromY b_toX b_toY b_operand n f (nI k) := by
    intro d
    induction d with
    | zero =>
      intro k hk n hn f hf
      obtain ⟨n, rfl⟩ : ∃ n', n = n' + 1 := ⟨n - 1, by omega⟩
      have e : k = D := by omega
      subst e
      rw [wY_draw_33]
      refine br_t (nI_le (by omega) (by omega)) ?_
      rcases hf with ⟨rfl, z1, z2⟩ | rfl
      · exfalso
        rcases busy with q | ⟨d, q1, q2⟩
        · exact z1 q
        · exact z2 d q1 q2
      · exact br_f (by decide) h
    | succ d ih =>
      intro k hk n hn f hf
      obtain ⟨n, rfl⟩ : ∃ n', n = n' + 1 := ⟨n - 1, by omega⟩
      have nx := ih (k + 1) (by omega) n (by omega)
      rw [wY_draw_33]
      dsimp only
      rw [nI_clamp (n := k) (by omega)]
      refine br_f (nI_ge (by omega) (by omega)) ⟨vp_in_nI (by omega) (by omega), br_c (fun z => nm_r (nI_1 k) (nx 1 (Or.inr rfl))) (fun z => nm_r (nI_1 k) (nx f ?_))⟩
      rcases hf with ⟨e, z1, z2⟩ | e
      · refine Or.inl ⟨e, z1, fun e he => ?_⟩
        rcases Nat.lt_or_ge e k with t | t
        · exact z2 e t
        · have : e = k := by omega
          subst this; exact z
      · exact Or.inr e
  unfold wpY_draw
  refine br_f (nI_pos (by omega)) (br_t (nI_le (b := 5) (by omega) (by omega)) ?_)
  refine pk_eq s 6 (fun z => ⟨D + 1, loop D 0 (by omega) (D + 1) (by omega) 1 (Or.inr rfl)⟩) (fun z => ⟨D + 1, loop D 0 (by omega) (D + 1) (by omega) 0 (Or.inl ⟨rfl, z, fun e he => absurd he (Nat.not_lt_zero e)⟩)⟩)
theorem xd_busy {σ : Nat} {x2 : Int32} {post : SX → Prop} (hσ : σ < 6) (hD : D ≤ 7) (hs : s ≤ 6)
    (hf : fl (nI D) a_running a_next a_streamOf a_opAt pl) (hM : mxr s a_matrix) (hC : ∀ j, j < 12 → ∃ v, v < 65536 ∧ a_clip (12 * s + j) = nI v) (hc : 0 ≤ (a_colour s).toInt ∧ (a_colour s).toInt ≤ 255) (hw : 0 ≤ (a_width s).toInt ∧ (a_width s).toInt ≤ 60)
    {rs : Nat → Int32} (hr : ∀ d, d < D → ∃ r, r < 8 ∧ a_running d = nI r ∧ a_streamOf r = rs d) (busy : s = 6 ∨ ∃ d, d < D ∧ rs d = nI σ)
    (h6 : post (f_drafted, f_revisions, nI D, f_known, nI s, f_edges, f_counted, f_begun, f_startX, f_startY, f_nowX, f_nowY, f_low, f_high, f_pointX, f_pointY, f_layer, 6, nI pl, f_units, f_used, a_draftKind, a_draftValue, a_streamOf, a_sizes, a_before, a_newest, a_opCount, a_ops, a_opAt, a_numbers, a_running, a_next, a_floor, a_mix, a_matrix, a_colour, a_width, a_clip, a_x1, a_y1, a_x2, a_y2, a_extra, a_winding, a_crossings, a_pixels, a_painter)) : wpX_draw post (f_drafted, f_revisions, nI D, f_known, nI s, f_edges, f_counted, f_begun, f_startX, f_startY, f_nowX, f_nowY, f_low, f_high, f_pointX, f_pointY, f_layer, f_fault, f_faultAt, f_units, f_used, a_draftKind, a_draftValue, a_streamOf, a_sizes, a_before, a_newest, a_opCount, a_ops, a_opAt, a_numbers, a_running, a_next, a_floor, a_mix, a_matrix, a_colour, a_width, a_clip, a_x1, a_y1, a_x2, a_y2, a_extra, a_winding, a_crossings, a_pixels, a_painter) (nI σ) x2 := by
  have loop : ∀ d k, k + d = D → ∀ n, d < n → (∀ e, e < k → rs e ≠ nI σ) → wX_draw_17 post (nI σ) x2 f_drafted f_revisions (nI D) f_known (nI s) f_edges f_counted f_begun f_startX f_startY f_nowX f_nowY f_low f_high f_pointX f_pointY f_layer f_fault f_faultAt f_units f_used a_draftKind a_draftValue a_streamOf a_sizes a_before a_newest a_opCount a_ops a_opAt a_numbers a_running a_next a_floor a_mix a_matrix a_colour a_width a_clip a_x1 a_y1 a_x2 a_y2 a_extra a_winding a_crossings a_pixels a_painter n (nI k) := by
    intro d
    induction d with
    | zero =>
      intro k hk n hn hb2
      obtain ⟨n, rfl⟩ : ∃ n', n = n' + 1 := ⟨n - 1, by omega⟩
      have e : k = D := by omega
      subst e
      have s6 : s = 6 := by
        rcases busy with q | ⟨d, q1, q2⟩
        · exact q
        · exact absurd q2 (hb2 d q1)
      rw [wX_draw_17]
      refine br_t (nI_le (by omega) (by omega)) ?_
      exact xx_save hs hf hM hC hc hw (fun z => br_f (by decide) h6) (fun z => by omega)
    | succ d ih =>
      intro k hk n hn hb2
      obtain ⟨n, rfl⟩ : ∃ n', n = n' + 1 := ⟨n - 1, by omega⟩
      have nx := ih (k + 1) (by omega) n (by omega)
      obtain ⟨r, r1, r2, r3⟩ := hr k (by omega)
      have hi : vp_in (nI k) 7 := vp_in_nI (by omega) (by omega)
      rw [wX_draw_17]
      dsimp only
      rw [nI_clamp (n := k) (by omega), r2, nI_clamp (n := r) (by omega), r3]
      refine br_f (nI_ge (by omega) (by omega)) ⟨hi, br_f (nI_pos (by omega)) ⟨hi, vp_in_nI r1 (by omega), br_c (fun z => xx_fail hf h6) (fun z => nm_r (nI_1 k) (nx fun e he => ?_))⟩⟩
      rcases Nat.lt_or_ge e k with t | t
      · exact hb2 e t
      · have : e = k := by omega
        subst this; exact z
  unfold wpX_draw
  refine br_f (nI_pos (by omega)) (br_t (nI_le (b := 5) (by omega) (by omega)) ⟨D + 1, ?_⟩)
  exact loop D 0 (by omega) (D + 1) (by omega) (fun e he => absurd he (Nat.not_lt_zero e))
/-- what runs on both sides: the revision X runs is one of the stream that Y runs -/
theorem run_rs (h : (ec R K D s l U f_drafted f_edges f_counted f_begun f_startX f_startY f_nowX f_nowY a_draftKind a_draftValue a_streamOf a_sizes a_before a_newest a_opCount a_ops a_opAt a_numbers a_running a_next a_floor a_mix a_matrix a_colour a_width a_clip a_x1 a_y1 a_x2 a_y2 a_extra a_pixels a_painter g_parts g_edges g_partEdges b_stream b_length b_kind b_num b_matrix b_clip b_running b_at b_saves b_below b_mixture b_beginX b_beginY b_endX b_endY b_fromX b_fromY b_toX b_toY)) (hf : fl (nI D) a_running a_next a_streamOf a_opAt pl) : ∀ d, d < D → ∃ r, r < K ∧ a_running d = nI r ∧ a_streamOf r = b_running d := by
  obtain ⟨hKR, hD, hS, hG, hP, hpx, hpt, _⟩ := h
  obtain ⟨d0, e0⟩ := fl_D hf hS.1
  obtain ⟨hR, _, hrv, _, _⟩ := hD
  intro d hd
  obtain ⟨σ, φ, ς, μ, k1, k2, k3, k4, k5, k6, k7, k8, k9, k10, k11, k12, k13, k14, k15⟩ := hS.2.2.2 d hd
  have ne : a_running d ≠ -1 := by
    rcases Nat.lt_or_ge (d + 1) D with t | t
    · exact k14 t
    · obtain ⟨d', r, n, σ', p, e, hd', hr, hr2, _⟩ := hf
      have : d = d' := by
        have := nj_inj e (by omega) (by omega)
        omega
      subst this
      rw [hr, li_m1, iz_n]
      intro z
      rw [iz_eq (by omega) (by omega)] at z
      omega
  rcases k3 with ⟨z, _⟩ | ⟨ρ, q1, q2, q3, q4⟩
  · exact absurd z ne
  · obtain ⟨σ2, L, M, w1, w2, w3, w4, _⟩ := hrv ρ (by omega)
    refine ⟨ρ, q1, q2, ?_⟩
    rw [k2, w3, ← w4, q3]
theorem j_draw {z g : Int} (h : (ec R K D s l U f_drafted f_edges f_counted f_begun f_startX f_startY f_nowX f_nowY a_draftKind a_draftValue a_streamOf a_sizes a_before a_newest a_opCount a_ops a_opAt a_numbers a_running a_next a_floor a_mix a_matrix a_colour a_width a_clip a_x1 a_y1 a_x2 a_y2 a_extra a_pixels a_painter g_parts g_edges g_partEdges b_stream b_length b_kind b_num b_matrix b_clip b_running b_at b_saves b_below b_mixture b_beginX b_beginY b_endX b_endY b_fromX b_fromY b_toX b_toY)) (hf : fl (nI D) a_running a_next a_streamOf a_opAt pl) (hz : -1000 ≤ z ∧ z ≤ 1000) (hg : -1 ≤ g ∧ g ≤ 16) (hU : U ≤ 199) :
    ∃ v' : SY, (∀ Q : SY → Prop, Q v' → wpY_draw Q (nI R, nI K, nI s, nI l, nI D, g_parts, g_edges, 0, nI (200 - U), 0, -1, g_partEdges, b_stream, b_length, b_kind, b_num, b_matrix, a_colour, a_width, b_clip, a_pixels, a_painter, b_running, b_at, b_saves, b_below, b_mixture, b_beginX, b_beginY, b_endX, b_endY, b_fromX, b_fromY, b_toX, b_toY, b_operand) (iZ z) (iZ g)) ∧ (∀ P : SX → Prop, (∀ u', OUT R K (2 * U + D + 2) pl u' v' → P u') → wpX_draw P (f_drafted, nI R, nI D, nI K, nI s, f_edges, f_counted, f_begun, f_startX, f_startY, f_nowX, f_nowY, f_low, f_high, f_pointX, f_pointY, nI l, 0, -1, nI U, f_used, a_draftKind, a_draftValue, a_streamOf, a_sizes, a_before, a_newest, a_opCount, a_ops, a_opAt, a_numbers, a_running, a_next, a_floor, a_mix, a_matrix, a_colour, a_width, a_clip, a_x1, a_y1, a_x2, a_y2, a_extra, a_winding, a_crossings, a_pixels, a_painter) (iZ z) (iZ g)) := by
  have hrs := run_rs h hf
  obtain ⟨hKR, hD, hS, hG, hP, hpx, hpt, _⟩ := h
  by_cases out : z < 0 ∨ 5 < z
  · exact ⟨(nI R, nI K, nI s, nI l, nI D, g_parts, g_edges, 0, nI (200 - U), 3, -1, g_partEdges, b_stream, b_length, b_kind, b_num, b_matrix, a_colour, a_width, b_clip, a_pixels, a_painter, b_running, b_at, b_saves, b_below, b_mixture, b_beginX, b_beginY, b_endX, b_endY, b_fromX, b_fromY, b_toX, b_toY, b_operand), fun Q hq => yy_draw0 hz out hq, fun P hp => xx_draw0 hz out hf (hp _ (Or.inr (efr_mk (by decide) (by omega) hD hG.2.2.1 hG.2.2.2.1 hpx hpt)))⟩
  · obtain ⟨σ, rfl⟩ : ∃ σ : Nat, z = σ := ⟨z.toNat, by omega⟩
    have hσ : σ < 6 := by omega
    rw [← iz_n]
    obtain ⟨d, rfl⟩ := fl_D hf hS.1
    have hs : s ≤ 6 := hS.2.1
    have hDs := sk_D hS
    have hl := sk_l hS
    have hR : R ≤ 8 := hD.1
    have hC : ∀ j, j < 12 → ∃ v, v < 65536 ∧ a_clip (12 * s + j) = nI v := fun j hj => (hG.2.2.2.2 s (Nat.le_refl s) j hj).1
    have hD7 : d + 1 < 7 ∨ s = 6 := by omega
    have hnw := hD.2.2.2.1 σ hσ
    have hbf := hD.2.2.2.2 σ hσ
    have hr8 : ∀ e, e < d + 1 → ∃ r, r < 8 ∧ a_running e = nI r ∧ a_streamOf r = b_running e := by
      intro e he
      obtain ⟨r, r1, r2, r3⟩ := hrs e he
      exact ⟨r, by omega, r2, r3⟩
    by_cases busy : s = 6 ∨ ∃ e, e < d + 1 ∧ b_running e = nI σ
    · refine ⟨(nI R, nI K, nI s, nI l, nI (d + 1), g_parts, g_edges, 0, nI (200 - U), 6, -1, g_partEdges, b_stream, b_length, b_kind, b_num, b_matrix, a_colour, a_width, b_clip, a_pixels, a_painter, b_running, b_at, b_saves, b_below, b_mixture, b_beginX, b_beginY, b_endX, b_endY, b_fromX, b_fromY, b_toX, b_toY, b_operand), fun Q hq => yd_busy hσ hS.1 busy hq, fun P hp => xd_busy hσ hS.1 hs hf hG.1 hC (hG.2.2.1 s) (hG.2.2.2.1 s) hr8 busy (hp _ (Or.inr (efr_mk (by decide) (by omega) hD hG.2.2.1 hG.2.2.2.1 hpx hpt)))⟩
    · have s6 : s < 6 := by
        rcases Nat.lt_or_ge s 6 with t | t
        · exact t
        · exact absurd (Or.inl (by omega)) busy
      have htop : a_running d ≠ -1 := by
        obtain ⟨r, r1, r2, r3⟩ := hrs d (by omega)
        rw [r2, li_m1, iz_n]
        intro q
        rw [iz_eq (by omega) (by omega)] at q
        omega
      have hO : ∀ r, r < K → ∃ M, a_opCount r = nI M ∧ M ≤ 40 := by
        intro r hr
        obtain ⟨σ2, L, M, w1, w2, w3, w4, w5, w6, w7, w8, _⟩ := hD.2.2.1 r (by omega)
        exact ⟨M, w7, by omega⟩
      have hG' := gs_up hG
      by_cases g0 : g < 0
      · refine ⟨(nI R, nI K, nI (s + 1), nI l, nI (d + 1 + 1), 0, 0, 0, nI (200 - U), 0, -1, g_partEdges, b_stream, b_length, b_kind, b_num, cpf 6 s b_matrix 6, upd a_colour (s + 1) (a_colour s), upd a_width (s + 1) (a_width s), cpf 192 s b_clip 192, a_pixels, a_painter, upd b_running (d + 1) (nI σ), upd b_at (d + 1) 0, upd b_saves (d + 1) 0, upd b_below (d + 1) (nI (s + 1)), upd b_mixture (d + 1) (iZ g), b_beginX, b_beginY, b_endX, b_endY, b_fromX, b_fromY, b_toX, b_toY, b_operand),
          fun Q hq => yy_draw hσ (by omega) hs (fun _ => by omega) hg (fun p hp => gs_clip hG hp) (fun q => absurd q busy) (fun _ _ => hq) (fun _ q => by omega),
          fun P hp => xx_draw (st := b_stream) (rs := b_running) hKR hR hσ (by omega) (by omega) hs (fun _ => by omega) hg hnw hbf hf hG.1 hC (hG.2.2.1 s) (hG.2.2.2.1 s) hr8 (fun q => absurd q busy) (fun _ _ x hx => hp _ (Or.inl (exr_mk (by omega) ?_))) (fun _ q => by omega)⟩
        have hS' := sk_push hS s6 hσ hg hx htop (by omega) hO
        rw [if_neg (by omega)] at hS'
        exact ⟨hKR, hD, hS', hG', Or.inl ⟨rfl, rfl, rfl, rfl, rfl⟩, hpx, hpt, by omega⟩
      · refine ⟨(nI R, nI K, nI (s + 1), nI (l + 1), nI (d + 1 + 1), 0, 0, 0, nI (200 - U), 0, -1, g_partEdges, b_stream, b_length, b_kind, b_num, cpf 6 s b_matrix 6, upd a_colour (s + 1) (a_colour s), upd a_width (s + 1) (a_width s), cpf 192 s b_clip 192, pf (fun _ => true) (l + 1) (-1) a_pixels 192, pf (fun _ => true) (l + 1) (-1) a_painter 192, upd b_running (d + 1) (nI σ), upd b_at (d + 1) 0, upd b_saves (d + 1) 0, upd b_below (d + 1) (nI (s + 1)), upd b_mixture (d + 1) (iZ g), b_beginX, b_beginY, b_endX, b_endY, b_fromX, b_fromY, b_toX, b_toY, b_operand),
          fun Q hq => yy_draw hσ (by omega) hs (fun _ => by omega) hg (fun p hp => gs_clip hG hp) (fun q => absurd q busy) (fun _ q => by omega) (fun _ _ => hq),
          fun P hp => xx_draw (st := b_stream) (rs := b_running) hKR hR hσ (by omega) (by omega) hs (fun _ => by omega) hg hnw hbf hf hG.1 hC (hG.2.2.1 s) (hG.2.2.2.1 s) hr8 (fun q => absurd q busy) (fun _ q => by omega) (fun _ _ x hx => hp _ (Or.inl (exr_mk (by omega) ?_)))⟩
        have hS' := sk_push hS s6 hσ hg hx htop (by omega) hO
        rw [if_pos (by omega)] at hS'
        exact ⟨hKR, hD, hS', hG', Or.inl ⟨rfl, rfl, rfl, rfl, rfl⟩, pf_r (by decide) hpx, pf_rt (by decide) hpt, by omega⟩
theorem op_14 (h : (ec R K D s l U f_drafted f_edges f_counted f_begun f_startX f_startY f_nowX f_nowY a_draftKind a_draftValue a_streamOf a_sizes a_before a_newest a_opCount a_ops a_opAt a_numbers a_running a_next a_floor a_mix a_matrix a_colour a_width a_clip a_x1 a_y1 a_x2 a_y2 a_extra a_pixels a_painter g_parts g_edges g_partEdges b_stream b_length b_kind b_num b_matrix b_clip b_running b_at b_saves b_below b_mixture b_beginX b_beginY b_endX b_endY b_fromX b_fromY b_toX b_toY)) (hf : fl (nI D) a_running a_next a_streamOf a_opAt pl) (hU : U ≤ 199) (ha : a + 1 ≤ 320) (o : ∀ i, i < 1 → ∃ z : Int, (-1000 ≤ z ∧ z ≤ 1000) ∧ a_numbers (a + i) = iZ z ∧ b_operand i = iZ z) :
    OPR R K (2 * U + D + 2) pl 14 a (f_drafted, nI R, nI D, nI K, nI s, f_edges, f_counted, f_begun, f_startX, f_startY, f_nowX, f_nowY, f_low, f_high, f_pointX, f_pointY, nI l, 0, -1, nI U, f_used, a_draftKind, a_draftValue, a_streamOf, a_sizes, a_before, a_newest, a_opCount, a_ops, a_opAt, a_numbers, a_running, a_next, a_floor, a_mix, a_matrix, a_colour, a_width, a_clip, a_x1, a_y1, a_x2, a_y2, a_extra, a_winding, a_crossings, a_pixels, a_painter) (nI R, nI K, nI s, nI l, nI D, g_parts, g_edges, nI 1, nI (199 - U), 0, -1, g_partEdges, b_stream, b_length, b_kind, b_num, b_matrix, a_colour, a_width, b_clip, a_pixels, a_painter, b_running, b_at, b_saves, b_below, b_mixture, b_beginX, b_beginY, b_endX, b_endY, b_fromX, b_fromY, b_toX, b_toY, b_operand) := by
  obtain ⟨z0, b0, e0, f0⟩ := o 0 (by decide)
  have e0 : a_numbers a = iZ z0 := e0
  have hnu := hu_n hU
  have hu1 := hu_1 hU
  obtain ⟨v', k1, k2⟩ := j_draw (f_drafted := f_drafted) (f_edges := f_edges) (f_counted := f_counted) (f_begun := f_begun) (f_startX := f_startX) (f_startY := f_startY) (f_nowX := f_nowX) (f_nowY := f_nowY) (f_low := f_low) (f_high := f_high) (f_pointX := f_pointX) (f_pointY := f_pointY) (f_used := f_used) (a_draftKind := a_draftKind) (a_draftValue := a_draftValue) (a_streamOf := a_streamOf) (a_sizes := a_sizes) (a_before := a_before) (a_newest := a_newest) (a_opCount := a_opCount) (a_ops := a_ops) (a_opAt := a_opAt) (a_numbers := a_numbers) (a_running := a_running) (a_next := a_next) (a_floor := a_floor) (a_mix := a_mix) (a_matrix := a_matrix) (a_colour := a_colour) (a_width := a_width) (a_clip := a_clip) (a_x1 := a_x1) (a_y1 := a_y1) (a_x2 := a_x2) (a_y2 := a_y2) (a_extra := a_extra) (a_winding := a_winding) (a_crossings := a_crossings) (a_pixels := a_pixels) (a_painter := a_painter) (g_parts := g_parts) (g_edges := g_edges) (g_partEdges := g_partEdges) (b_stream := b_stream) (b_length := b_length) (b_kind := b_kind) (b_num := b_num) (b_matrix := b_matrix) (b_clip := b_clip) (b_running := b_running) (b_at := b_at) (b_saves := b_saves) (b_below := b_below) (b_mixture := b_mixture) (b_beginX := b_beginX) (b_beginY := b_beginY) (b_endX := b_endX) (b_endY := b_endY) (b_fromX := b_fromX) (b_fromY := b_fromY) (b_toX := b_toX) (b_toY := b_toY) (b_operand := b_operand) (z := z0) (g := -1) h hf b0 (by omega) hU
  refine ⟨v', fun Q hq => ?_, fun P hp => ?_⟩
  · have H := k1 (fun u => match u with | (g_revisions, g_shown, g_level, g_layer, g_depth, g_parts, g_edges, g_operands, g_units, g_fault, g_where, g_partEdges, b_stream, b_length, b_kind, b_num, b_matrix, b_colour, b_width, b_clip, b_paint, b_painter, b_running, b_at, b_saves, b_below, b_mixture, b_beginX, b_beginY, b_endX, b_endY, b_fromX, b_fromY, b_toX, b_toY, b_operand) => wY_operator_266 Q (nI 14) g_revisions g_shown g_level g_layer g_depth g_parts g_edges g_operands g_units g_fault g_where g_partEdges b_stream b_length b_kind b_num b_matrix b_colour b_width b_clip b_paint b_painter b_running b_at b_saves b_below b_mixture b_beginX b_beginY b_endX b_endY b_fromX b_fromY b_toX b_toY b_operand) (etaY (k := 14) (by omega) (by omega) (by omega) v' hq)
    rw [← li_m1] at H
    unfold wpY_operator wpY_wanted
    exact (br_f (by decide) (br_f (by decide) (br_f (by decide) (br_f (by decide) (br_f (by decide) (br_f (by decide) (br_t rfl (br_t rfl (br_f hnu (nm_r hu1 (nm_r f0 (nm_r rfl (br_f (by decide) (br_f (by decide) (br_f (by decide) (br_f (by decide) (br_f (by decide) (br_f (by decide) (br_f (by decide) (br_f (by decide) (br_f (by decide) (br_f (by decide) (br_f (by decide) (br_f (by decide) (br_f (by decide) (br_f (by decide) (br_t rfl (H))))))))))))))))))))))))))))
  · have H := k2 _ (fun u' hu => etaX u' (hp u' hu))
    rw [← li_m1] at H
    unfold wpX_perform
    refine (br_f (by decide) (br_f (by decide) (br_f (by decide) (br_f (by decide) (br_f (by decide) (br_f (by decide) (br_f (by decide) (br_f (by decide) (br_f (by decide) (br_f (by decide) (br_f (by decide) (br_f (by decide) (br_f (by decide) (br_f (by decide) (br_f (by decide) (br_t rfl (?_)))))))))))))))))
    rw [nI_clamp (n := a) (by omega), e0]
    exact ⟨vp_in_nI (by omega) (by omega), H⟩
theorem op_17 (h : (ec R K D s l U f_drafted f_edges f_counted f_begun f_startX f_startY f_nowX f_nowY a_draftKind a_draftValue a_streamOf a_sizes a_before a_newest a_opCount a_ops a_opAt a_numbers a_running a_next a_floor a_mix a_matrix a_colour a_width a_clip a_x1 a_y1 a_x2 a_y2 a_extra a_pixels a_painter g_parts g_edges g_partEdges b_stream b_length b_kind b_num b_matrix b_clip b_running b_at b_saves b_below b_mixture b_beginX b_beginY b_endX b_endY b_fromX b_fromY b_toX b_toY)) (hf : fl (nI D) a_running a_next a_streamOf a_opAt pl) (hU : U ≤ 199) (ha : a + 2 ≤ 320) (o : ∀ i, i < 2 → ∃ z : Int, (-1000 ≤ z ∧ z ≤ 1000) ∧ a_numbers (a + i) = iZ z ∧ b_operand i = iZ z) :
    OPR R K (2 * U + D + 2) pl 17 a (f_drafted, nI R, nI D, nI K, nI s, f_edges, f_counted, f_begun, f_startX, f_startY, f_nowX, f_nowY, f_low, f_high, f_pointX, f_pointY, nI l, 0, -1, nI U, f_used, a_draftKind, a_draftValue, a_streamOf, a_sizes, a_before, a_newest, a_opCount, a_ops, a_opAt, a_numbers, a_running, a_next, a_floor, a_mix, a_matrix, a_colour, a_width, a_clip, a_x1, a_y1, a_x2, a_y2, a_extra, a_winding, a_crossings, a_pixels, a_painter) (nI R, nI K, nI s, nI l, nI D, g_parts, g_edges, nI 2, nI (199 - U), 0, -1, g_partEdges, b_stream, b_length, b_kind, b_num, b_matrix, a_colour, a_width, b_clip, a_pixels, a_painter, b_running, b_at, b_saves, b_below, b_mixture, b_beginX, b_beginY, b_endX, b_endY, b_fromX, b_fromY, b_toX, b_toY, b_operand) := by
  obtain ⟨z0, b0, e0, f0⟩ := o 0 (by decide)
  obtain ⟨z1, b1, e1, f1⟩ := o 1 (by decide)
  have e0 : a_numbers a = iZ z0 := e0
  have hnu := hu_n hU
  have hu1 := hu_1 hU
  have hi : vp_in (nI a) 320 := vp_in_nI (by omega) (by omega)
  have hi1 : vp_in (nI (a + 1)) 320 := vp_in_nI (by omega) (by omega)
  have Y0 : ∀ Q : SY → Prop, wpY_group (fun u => match u with | (g_revisions, g_shown, g_level, g_layer, g_depth, g_parts, g_edges, g_operands, g_units, g_fault, g_where, g_partEdges, b_stream, b_length, b_kind, b_num, b_matrix, b_colour, b_width, b_clip, b_paint, b_painter, b_running, b_at, b_saves, b_below, b_mixture, b_beginX, b_beginY, b_endX, b_endY, b_fromX, b_fromY, b_toX, b_toY, b_operand) => wY_operator_266 Q (nI 17) g_revisions g_shown g_level g_layer g_depth g_parts g_edges g_operands g_units g_fault g_where g_partEdges b_stream b_length b_kind b_num b_matrix b_colour b_width b_clip b_paint b_painter b_running b_at b_saves b_below b_mixture b_beginX b_beginY b_endX b_endY b_fromX b_fromY b_toX b_toY b_operand) (nI R, nI K, nI s, nI l, nI D, g_parts, g_edges, 0, nI (200 - U), 0, -1, g_partEdges, b_stream, b_length, b_kind, b_num, b_matrix, a_colour, a_width, b_clip, a_pixels, a_painter, b_running, b_at, b_saves, b_below, b_mixture, b_beginX, b_beginY, b_endX, b_endY, b_fromX, b_fromY, b_toX, b_toY, b_operand) (iZ z0) (iZ z1) → wpY_operator Q (nI R, nI K, nI s, nI l, nI D, g_parts, g_edges, nI 2, nI (199 - U), 0, -1, g_partEdges, b_stream, b_length, b_kind, b_num, b_matrix, a_colour, a_width, b_clip, a_pixels, a_painter, b_running, b_at, b_saves, b_below, b_mixture, b_beginX, b_beginY, b_endX, b_endY, b_fromX, b_fromY, b_toX, b_toY, b_operand) (nI 17) (nI pl) := by
    intro Q H
    unfold wpY_operator wpY_wanted
    exact (br_f (by decide) (br_f (by decide) (br_t rfl (br_t rfl (br_f hnu (nm_r hu1 (nm_r f0 (nm_r f1 (br_f (by decide) (br_f (by decide) (br_f (by decide) (br_f (by decide) (br_f (by decide) (br_f (by decide) (br_f (by decide) (br_f (by decide) (br_f (by decide) (br_f (by decide) (br_f (by decide) (br_f (by decide) (br_f (by decide) (br_f (by decide) (br_f (by decide) (br_t rfl (H)))))))))))))))))))))))))
  by_cases c : 0 ≤ z1 ∧ z1 ≤ 16
  · obtain ⟨v', k1, k2⟩ := j_draw (f_drafted := f_drafted) (f_edges := f_edges) (f_counted := f_counted) (f_begun := f_begun) (f_startX := f_startX) (f_startY := f_startY) (f_nowX := f_nowX) (f_nowY := f_nowY) (f_low := f_low) (f_high := f_high) (f_pointX := f_pointX) (f_pointY := f_pointY) (f_used := f_used) (a_draftKind := a_draftKind) (a_draftValue := a_draftValue) (a_streamOf := a_streamOf) (a_sizes := a_sizes) (a_before := a_before) (a_newest := a_newest) (a_opCount := a_opCount) (a_ops := a_ops) (a_opAt := a_opAt) (a_numbers := a_numbers) (a_running := a_running) (a_next := a_next) (a_floor := a_floor) (a_mix := a_mix) (a_matrix := a_matrix) (a_colour := a_colour) (a_width := a_width) (a_clip := a_clip) (a_x1 := a_x1) (a_y1 := a_y1) (a_x2 := a_x2) (a_y2 := a_y2) (a_extra := a_extra) (a_winding := a_winding) (a_crossings := a_crossings) (a_pixels := a_pixels) (a_painter := a_painter) (g_parts := g_parts) (g_edges := g_edges) (g_partEdges := g_partEdges) (b_stream := b_stream) (b_length := b_length) (b_kind := b_kind) (b_num := b_num) (b_matrix := b_matrix) (b_clip := b_clip) (b_running := b_running) (b_at := b_at) (b_saves := b_saves) (b_below := b_below) (b_mixture := b_mixture) (b_beginX := b_beginX) (b_beginY := b_beginY) (b_endX := b_endX) (b_endY := b_endY) (b_fromX := b_fromX) (b_fromY := b_fromY) (b_toX := b_toX) (b_toY := b_toY) (b_operand := b_operand) (z := z0) (g := z1) h hf b0 (by omega) hU
    refine ⟨v', fun Q hq => Y0 Q ?_, fun P hp => ?_⟩
    · have H := k1 (fun u => match u with | (g_revisions, g_shown, g_level, g_layer, g_depth, g_parts, g_edges, g_operands, g_units, g_fault, g_where, g_partEdges, b_stream, b_length, b_kind, b_num, b_matrix, b_colour, b_width, b_clip, b_paint, b_painter, b_running, b_at, b_saves, b_below, b_mixture, b_beginX, b_beginY, b_endX, b_endY, b_fromX, b_fromY, b_toX, b_toY, b_operand) => (match (g_revisions, g_shown, g_level, g_layer, g_depth, g_parts, g_edges, g_operands, g_units, g_fault, g_where, g_partEdges, b_stream, b_length, b_kind, b_num, b_matrix, b_colour, b_width, b_clip, b_paint, b_painter, b_running, b_at, b_saves, b_below, b_mixture, b_beginX, b_beginY, b_endX, b_endY, b_fromX, b_fromY, b_toX, b_toY, b_operand) with | (g_revisions, g_shown, g_level, g_layer, g_depth, g_parts, g_edges, g_operands, g_units, g_fault, g_where, g_partEdges, b_stream, b_length, b_kind, b_num, b_matrix, b_colour, b_width, b_clip, b_paint, b_painter, b_running, b_at, b_saves, b_below, b_mixture, b_beginX, b_beginY, b_endX, b_endY, b_fromX, b_fromY, b_toX, b_toY, b_operand) => wY_operator_266 Q (nI 17) g_revisions g_shown g_level g_layer g_depth g_parts g_edges g_operands g_units g_fault g_where g_partEdges b_stream b_length b_kind b_num b_matrix b_colour b_width b_clip b_paint b_painter b_running b_at b_saves b_below b_mixture b_beginX b_beginY b_endX b_endY b_fromX b_fromY b_toX b_toY b_operand)) (etaYY (Q := fun u => match u with | (g_revisions, g_shown, g_level, g_layer, g_depth, g_parts, g_edges, g_operands, g_units, g_fault, g_where, g_partEdges, b_stream, b_length, b_kind, b_num, b_matrix, b_colour, b_width, b_clip, b_paint, b_painter, b_running, b_at, b_saves, b_below, b_mixture, b_beginX, b_beginY, b_endX, b_endY, b_fromX, b_fromY, b_toX, b_toY, b_operand) => wY_operator_266 Q (nI 17) g_revisions g_shown g_level g_layer g_depth g_parts g_edges g_operands g_units g_fault g_where g_partEdges b_stream b_length b_kind b_num b_matrix b_colour b_width b_clip b_paint b_painter b_running b_at b_saves b_below b_mixture b_beginX b_beginY b_endX b_endY b_fromX b_fromY b_toX b_toY b_operand) v' (etaY (k := 17) (by omega) (by omega) (by omega) v' hq))
      unfold wpY_group
      exact zk_lt z1 0 (fun q => by omega) (fun _ => zk_le z1 16 (fun _ => H) (fun q => by omega) rfl (by decide)) rfl li_0
    · have H := k2 _ (fun u' hu => etaX u' (hp u' hu))
      unfold wpX_perform
      refine (br_f (by decide) (br_f (by decide) (br_f (by decide) (br_f (by decide) (br_f (by decide) (br_f (by decide) (br_f (by decide) (br_f (by decide) (br_f (by decide) (br_f (by decide) (br_f (by decide) (br_f (by decide) (br_f (by decide) (br_f (by decide) (br_f (by decide) (br_f (by decide) (br_f (by decide) (br_f (by decide) (br_t rfl (?_))))))))))))))))))))
      rw [nj_a (c := 1) a 1, nI_clamp (n := a) (by omega), nI_clamp (n := a + 1) (by omega), e0, e1]
      exact ⟨hi1, zk_lt z1 0 (fun q => by omega) (fun _ => ⟨hi1, zk_le z1 16 (fun _ => ⟨hi, hi1, H⟩) (fun q => by omega) rfl (by decide)⟩) rfl li_0⟩
  · obtain ⟨hKR, hD, hS, hG, hP, hpx, hpt, _⟩ := h
    refine ⟨(nI R, nI K, nI s, nI l, nI D, g_parts, g_edges, 0, nI (200 - U), 3, -1, g_partEdges, b_stream, b_length, b_kind, b_num, b_matrix, a_colour, a_width, b_clip, a_pixels, a_painter, b_running, b_at, b_saves, b_below, b_mixture, b_beginX, b_beginY, b_endX, b_endY, b_fromX, b_fromY, b_toX, b_toY, b_operand), fun Q hq => Y0 Q ?_, fun P hp => ?_⟩
    · have bad : wY_operator_266 Q (nI 17) (nI R) (nI K) (nI s) (nI l) (nI D) g_parts g_edges 0 (nI (200 - U)) 3 (-1) g_partEdges b_stream b_length b_kind b_num b_matrix a_colour a_width b_clip a_pixels a_painter b_running b_at b_saves b_below b_mixture b_beginX b_beginY b_endX b_endY b_fromX b_fromY b_toX b_toY b_operand := y266 (by omega) (by omega) (by omega) hq
      unfold wpY_group
      exact zk_lt z1 0 (fun _ => bad) (fun _ => zk_le z1 16 (fun q => by omega) (fun _ => bad) rfl (by decide)) rfl li_0
    · have bad : wX_perform_387 P f_drafted (nI R) (nI D) (nI K) (nI s) f_edges f_counted f_begun f_startX f_startY f_nowX f_nowY f_low f_high f_pointX f_pointY (nI l) 0 (-1) (nI U) f_used a_draftKind a_draftValue a_streamOf a_sizes a_before a_newest a_opCount a_ops a_opAt a_numbers a_running a_next a_floor a_mix a_matrix a_colour a_width a_clip a_x1 a_y1 a_x2 a_y2 a_extra a_winding a_crossings a_pixels a_painter := by
        unfold wX_perform_387
        exact xx_fail hf (hp _ (Or.inr (efr_mk (by decide) (by omega) hD hG.2.2.1 hG.2.2.2.1 hpx hpt)))
      unfold wpX_perform
      refine (br_f (by decide) (br_f (by decide) (br_f (by decide) (br_f (by decide) (br_f (by decide) (br_f (by decide) (br_f (by decide) (br_f (by decide) (br_f (by decide) (br_f (by decide) (br_f (by decide) (br_f (by decide) (br_f (by decide) (br_f (by decide) (br_f (by decide) (br_f (by decide) (br_f (by decide) (br_f (by decide) (br_t rfl (?_))))))))))))))))))))
      rw [nj_a (c := 1) a 1, nI_clamp (n := a) (by omega), nI_clamp (n := a + 1) (by omega), e0, e1]
      exact ⟨hi1, zk_lt z1 0 (fun _ => bad) (fun _ => ⟨hi1, zk_le z1 16 (fun q => by omega) (fun _ => bad) rfl (by decide)⟩) rfl li_0⟩
end
end
section
/-! Y: one advance, a run of numbers, the loop's head -/
def YL (post : Int32 → SY → Prop) (N m : Nat) (v : SY) : Prop := match v with | (g_revisions, g_shown, g_level, g_layer, g_depth, g_parts, g_edges, g_operands, g_units, g_fault, g_where, g_partEdges, b_stream, b_length, b_kind, b_num, b_matrix, b_colour, b_width, b_clip, b_paint, b_painter, b_running, b_at, b_saves, b_below, b_mixture, b_beginX, b_beginY, b_endX, b_endY, b_fromX, b_fromY, b_toX, b_toY, b_operand) => wY_renderAt_141 post N (nI m) g_revisions g_shown g_level g_layer g_depth g_parts g_edges g_operands g_units g_fault g_where g_partEdges b_stream b_length b_kind b_num b_matrix b_colour b_width b_clip b_paint b_painter b_running b_at b_saves b_below b_mixture b_beginX b_beginY b_endX b_endY b_fromX b_fromY b_toX b_toY b_operand
def XL (post : Int32 → SX → Prop) (N n : Nat) (u : SX) : Prop := match u with | (f_drafted, f_revisions, f_depth, f_known, f_saved, f_edges, f_counted, f_begun, f_startX, f_startY, f_nowX, f_nowY, f_low, f_high, f_pointX, f_pointY, f_layer, f_fault, f_faultAt, f_units, f_used, a_draftKind, a_draftValue, a_streamOf, a_sizes, a_before, a_newest, a_opCount, a_ops, a_opAt, a_numbers, a_running, a_next, a_floor, a_mix, a_matrix, a_colour, a_width, a_clip, a_x1, a_y1, a_x2, a_y2, a_extra, a_winding, a_crossings, a_pixels, a_painter) => wX_renderAt_139 post N (nI n) f_drafted f_revisions f_depth f_known f_saved f_edges f_counted f_begun f_startX f_startY f_nowX f_nowY f_low f_high f_pointX f_pointY f_layer f_fault f_faultAt f_units f_used a_draftKind a_draftValue a_streamOf a_sizes a_before a_newest a_opCount a_ops a_opAt a_numbers a_running a_next a_floor a_mix a_matrix a_colour a_width a_clip a_x1 a_y1 a_x2 a_y2 a_extra a_winding a_crossings a_pixels a_painter
/-- the place of a fault is noted -/
def aw (pl : Nat) (v : SY) : SY := match v with | (g_revisions, g_shown, g_level, g_layer, g_depth, g_parts, g_edges, g_operands, g_units, g_fault, g_where, g_partEdges, b_stream, b_length, b_kind, b_num, b_matrix, b_colour, b_width, b_clip, b_paint, b_painter, b_running, b_at, b_saves, b_below, b_mixture, b_beginX, b_beginY, b_endX, b_endY, b_fromX, b_fromY, b_toX, b_toY, b_operand) => if g_fault = 0 then (g_revisions, g_shown, g_level, g_layer, g_depth, g_parts, g_edges, g_operands, g_units, g_fault, g_where, g_partEdges, b_stream, b_length, b_kind, b_num, b_matrix, b_colour, b_width, b_clip, b_paint, b_painter, b_running, b_at, b_saves, b_below, b_mixture, b_beginX, b_beginY, b_endX, b_endY, b_fromX, b_fromY, b_toX, b_toY, b_operand) else (g_revisions, g_shown, g_level, g_layer, g_depth, g_parts, g_edges, g_operands, g_units, g_fault, nI pl, g_partEdges, b_stream, b_length, b_kind, b_num, b_matrix, b_colour, b_width, b_clip, b_paint, b_painter, b_running, b_at, b_saves, b_below, b_mixture, b_beginX, b_beginY, b_endX, b_endY, b_fromX, b_fromY, b_toX, b_toY, b_operand)
section
variable {g_revisions g_shown g_level g_layer g_depth g_parts g_edges g_operands g_units g_fault g_where g_partEdges : Int32} {b_stream b_length b_kind b_num b_matrix b_colour b_width b_clip b_paint b_painter b_running b_at b_saves b_below b_mixture b_beginX b_beginY b_endX b_endY b_fromX b_fromY b_toX b_toY b_operand : Nat → Int32}
theorem ya_step {post : Int32 → SY → Prop} {N m d : Nat} (hm : m < 20000) (hd : d < 8) (H : wpY_advance (fun u => match u with | (g_revisions, g_shown, g_level, g_layer, g_depth, g_parts, g_edges, g_operands, g_units, g_fault, g_where, g_partEdges, b_stream, b_length, b_kind, b_num, b_matrix, b_colour, b_width, b_clip, b_paint, b_painter, b_running, b_at, b_saves, b_below, b_mixture, b_beginX, b_beginY, b_endX, b_endY, b_fromX, b_fromY, b_toX, b_toY, b_operand) => ∀ x2 : Int32, x2 = nI m + 1 → wY_renderAt_141 post N x2 g_revisions g_shown g_level g_layer g_depth g_parts g_edges g_operands g_units g_fault g_where g_partEdges b_stream b_length b_kind b_num b_matrix b_colour b_width b_clip b_paint b_painter b_running b_at b_saves b_below b_mixture b_beginX b_beginY b_endX b_endY b_fromX b_fromY b_toX b_toY b_operand) (g_revisions, g_shown, g_level, g_layer, nI (d + 1), g_parts, g_edges, g_operands, g_units, 0, g_where, g_partEdges, b_stream, b_length, b_kind, b_num, b_matrix, b_colour, b_width, b_clip, b_paint, b_painter, b_running, b_at, b_saves, b_below, b_mixture, b_beginX, b_beginY, b_endX, b_endY, b_fromX, b_fromY, b_toX, b_toY, b_operand)) : YL post (N + 1) m (g_revisions, g_shown, g_level, g_layer, nI (d + 1), g_parts, g_edges, g_operands, g_units, 0, g_where, g_partEdges, b_stream, b_length, b_kind, b_num, b_matrix, b_colour, b_width, b_clip, b_paint, b_painter, b_running, b_at, b_saves, b_below, b_mixture, b_beginX, b_beginY, b_endX, b_endY, b_fromX, b_fromY, b_toX, b_toY, b_operand) := by
  show wY_renderAt_141 post (N + 1) (nI m) g_revisions g_shown g_level g_layer (nI (d + 1)) g_parts g_edges g_operands g_units 0 g_where g_partEdges b_stream b_length b_kind b_num b_matrix b_colour b_width b_clip b_paint b_painter b_running b_at b_saves b_below b_mixture b_beginX b_beginY b_endX b_endY b_fromX b_fromY b_toX b_toY b_operand
  rw [wY_renderAt_141]
  refine br_f (nI_ge (b := 20000) hm (by omega)) (br_f (nI_nle (by omega) (by omega)) (br_t rfl H))
theorem aw_ok {post : Int32 → SY → Prop} {N m pl : Nat} (v : SY) : YL post N (m + 1) (aw pl v) → (match v with | (g_revisions, g_shown, g_level, g_layer, g_depth, g_parts, g_edges, g_operands, g_units, g_fault, g_where, g_partEdges, b_stream, b_length, b_kind, b_num, b_matrix, b_colour, b_width, b_clip, b_paint, b_painter, b_running, b_at, b_saves, b_below, b_mixture, b_beginX, b_beginY, b_endX, b_endY, b_fromX, b_fromY, b_toX, b_toY, b_operand) => wY_advance_122 (fun u => match u with | (g_revisions, g_shown, g_level, g_layer, g_depth, g_parts, g_edges, g_operands, g_units, g_fault, g_where, g_partEdges, b_stream, b_length, b_kind, b_num, b_matrix, b_colour, b_width, b_clip, b_paint, b_painter, b_running, b_at, b_saves, b_below, b_mixture, b_beginX, b_beginY, b_endX, b_endY, b_fromX, b_fromY, b_toX, b_toY, b_operand) => ∀ x2 : Int32, x2 = nI m + 1 → wY_renderAt_141 post N x2 g_revisions g_shown g_level g_layer g_depth g_parts g_edges g_operands g_units g_fault g_where g_partEdges b_stream b_length b_kind b_num b_matrix b_colour b_width b_clip b_paint b_painter b_running b_at b_saves b_below b_mixture b_beginX b_beginY b_endX b_endY b_fromX b_fromY b_toX b_toY b_operand) (nI pl) g_revisions g_shown g_level g_layer g_depth g_parts g_edges g_operands g_units g_fault g_where g_partEdges b_stream b_length b_kind b_num b_matrix b_colour b_width b_clip b_paint b_painter b_running b_at b_saves b_below b_mixture b_beginX b_beginY b_endX b_endY b_fromX b_fromY b_toX b_toY b_operand) := by
  obtain ⟨g_revisions, g_shown, g_level, g_layer, g_depth, g_parts, g_edges, g_operands, g_units, g_fault, g_where, g_partEdges, b_stream, b_length, b_kind, b_num, b_matrix, b_colour, b_width, b_clip, b_paint, b_painter, b_running, b_at, b_saves, b_below, b_mixture, b_beginX, b_beginY, b_endX, b_endY, b_fromX, b_fromY, b_toX, b_toY, b_operand⟩ := v
  intro h
  unfold aw at h
  dsimp only at h
  show wY_advance_122 _ (nI pl) g_revisions g_shown g_level g_layer g_depth g_parts g_edges g_operands g_units g_fault g_where g_partEdges b_stream b_length b_kind b_num b_matrix b_colour b_width b_clip b_paint b_painter b_running b_at b_saves b_below b_mixture b_beginX b_beginY b_endX b_endY b_fromX b_fromY b_toX b_toY b_operand
  unfold wY_advance_122
  by_cases c : g_fault = 0
  · rw [if_pos c] at h
    exact br_t c (nm_r (nI_1 m) h)
  · rw [if_neg c] at h
    exact br_f c (nm_r (nI_1 m) h)
theorem ya_op {post : SY → Prop} {K d r t L σ κ : Nat} (hK : K ≤ 8) (hd : d < 7) (hr : r < K) (hσ : σ < 6) (hL : L ≤ 40) (ht : t < L) (k1 : b_running d = nI σ) (k2 : NW b_stream σ K (nI r)) (k3 : b_length r = nI L) (k4 : b_at d = nI t) (k5 : b_kind (40 * r + t) = nI κ) (hκ : κ ≠ 0) (hκ2 : κ ≤ 17)
    (H : wpY_operator (fun u => match u with | (g_revisions, g_shown, g_level, g_layer, g_depth, g_parts, g_edges, g_operands, g_units, g_fault, g_where, g_partEdges, b_stream, b_length, b_kind, b_num, b_matrix, b_colour, b_width, b_clip, b_paint, b_painter, b_running, b_at, b_saves, b_below, b_mixture, b_beginX, b_beginY, b_endX, b_endY, b_fromX, b_fromY, b_toX, b_toY, b_operand) => wY_advance_122 post (nI (64 * σ + t)) g_revisions g_shown g_level g_layer g_depth g_parts g_edges g_operands g_units g_fault g_where g_partEdges b_stream b_length b_kind b_num b_matrix b_colour b_width b_clip b_paint b_painter b_running b_at b_saves b_below b_mixture b_beginX b_beginY b_endX b_endY b_fromX b_fromY b_toX b_toY b_operand) (g_revisions, nI K, g_level, g_layer, nI (d + 1), g_parts, g_edges, g_operands, g_units, g_fault, g_where, g_partEdges, b_stream, b_length, b_kind, b_num, b_matrix, b_colour, b_width, b_clip, b_paint, b_painter, b_running, upd b_at d (nI (t + 1)), b_saves, b_below, b_mixture, b_beginX, b_beginY, b_endX, b_endY, b_fromX, b_fromY, b_toX, b_toY, b_operand) (nI κ) (nI (64 * σ + t))) : wpY_advance post (g_revisions, nI K, g_level, g_layer, nI (d + 1), g_parts, g_edges, g_operands, g_units, g_fault, g_where, g_partEdges, b_stream, b_length, b_kind, b_num, b_matrix, b_colour, b_width, b_clip, b_paint, b_painter, b_running, b_at, b_saves, b_below, b_mixture, b_beginX, b_beginY, b_endX, b_endY, b_fromX, b_fromY, b_toX, b_toY, b_operand) := by
  have i8 : vp_in (nI d) 8 := vp_in_nI (by omega) (by omega)
  have i9 : vp_in (nI r) 9 := vp_in_nI (by omega) (by omega)
  have i4 : vp_in (nI (40 * r + t)) 360 := vp_in_nI (by omega) (by omega)
  unfold wpY_advance
  refine nm_r (nI_pred d) ?_
  rw [nI_clamp (n := d) (by omega), k1]
  refine ⟨i8, nm_e (yy_newest hK k2 (br_f (nI_pos (by omega)) ⟨i8, i9, br_f ?_ ⟨i8, ?_⟩⟩))⟩
  · rw [nI_clamp (by omega), k3, k4, nI_eq (by omega) (by omega)]; omega
  · rw [k4]
    refine nm_r (nj_ma 40 r t) ⟨i8, nm_r (nj_ma 64 σ t) ⟨i8, i8, nm_r (e' := upd b_at d (nI (t + 1))) (by rw [nI_1]) ⟨i4, ?_⟩⟩⟩
    rw [nI_clamp (by omega), k5]
    exact br_f (nI_ne0 (by omega) (by omega)) ⟨i4, H⟩
theorem ya_num {post : SY → Prop} {K d r t L σ : Nat} (hK : K ≤ 8) (hd : d < 7) (hr : r < K) (hσ : σ < 6) (hL : L ≤ 40) (ht : t < L) (k1 : b_running d = nI σ) (k2 : NW b_stream σ K (nI r)) (k3 : b_length r = nI L) (k4 : b_at d = nI t) (k5 : b_kind (40 * r + t) = 0)
    (H : wpY_number (fun u => match u with | (g_revisions, g_shown, g_level, g_layer, g_depth, g_parts, g_edges, g_operands, g_units, g_fault, g_where, g_partEdges, b_stream, b_length, b_kind, b_num, b_matrix, b_colour, b_width, b_clip, b_paint, b_painter, b_running, b_at, b_saves, b_below, b_mixture, b_beginX, b_beginY, b_endX, b_endY, b_fromX, b_fromY, b_toX, b_toY, b_operand) => wY_advance_122 post (nI (64 * σ + t)) g_revisions g_shown g_level g_layer g_depth g_parts g_edges g_operands g_units g_fault g_where g_partEdges b_stream b_length b_kind b_num b_matrix b_colour b_width b_clip b_paint b_painter b_running b_at b_saves b_below b_mixture b_beginX b_beginY b_endX b_endY b_fromX b_fromY b_toX b_toY b_operand) (g_revisions, nI K, g_level, g_layer, nI (d + 1), g_parts, g_edges, g_operands, g_units, g_fault, g_where, g_partEdges, b_stream, b_length, b_kind, b_num, b_matrix, b_colour, b_width, b_clip, b_paint, b_painter, b_running, upd b_at d (nI (t + 1)), b_saves, b_below, b_mixture, b_beginX, b_beginY, b_endX, b_endY, b_fromX, b_fromY, b_toX, b_toY, b_operand) (b_num (40 * r + t))) : wpY_advance post (g_revisions, nI K, g_level, g_layer, nI (d + 1), g_parts, g_edges, g_operands, g_units, g_fault, g_where, g_partEdges, b_stream, b_length, b_kind, b_num, b_matrix, b_colour, b_width, b_clip, b_paint, b_painter, b_running, b_at, b_saves, b_below, b_mixture, b_beginX, b_beginY, b_endX, b_endY, b_fromX, b_fromY, b_toX, b_toY, b_operand) := by
  have i8 : vp_in (nI d) 8 := vp_in_nI (by omega) (by omega)
  have i9 : vp_in (nI r) 9 := vp_in_nI (by omega) (by omega)
  have i4 : vp_in (nI (40 * r + t)) 360 := vp_in_nI (by omega) (by omega)
  unfold wpY_advance
  refine nm_r (nI_pred d) ?_
  rw [nI_clamp (n := d) (by omega), k1]
  refine ⟨i8, nm_e (yy_newest hK k2 (br_f (nI_pos (by omega)) ⟨i8, i9, br_f ?_ ⟨i8, ?_⟩⟩))⟩
  · rw [nI_clamp (by omega), k3, k4, nI_eq (by omega) (by omega)]; omega
  · rw [k4]
    refine nm_r (nj_ma 40 r t) ⟨i8, nm_r (nj_ma 64 σ t) ⟨i8, i8, nm_r (e' := upd b_at d (nI (t + 1))) (by rw [nI_1]) ⟨i4, ?_⟩⟩⟩
    rw [nI_clamp (by omega)]
    exact br_t k5 ⟨i4, H⟩
theorem ya_end {post : SY → Prop} {K d r L σ : Nat} (hK : K ≤ 8) (hd : d < 7) (hr : r < K) (hσ : σ < 6) (hL : L ≤ 40) (k1 : b_running d = nI σ) (k2 : NW b_stream σ K (nI r)) (k3 : b_length r = nI L) (k4 : b_at d = nI L)
    (H : wpY_close (fun u => match u with | (g_revisions, g_shown, g_level, g_layer, g_depth, g_parts, g_edges, g_operands, g_units, g_fault, g_where, g_partEdges, b_stream, b_length, b_kind, b_num, b_matrix, b_colour, b_width, b_clip, b_paint, b_painter, b_running, b_at, b_saves, b_below, b_mixture, b_beginX, b_beginY, b_endX, b_endY, b_fromX, b_fromY, b_toX, b_toY, b_operand) => post (g_revisions, g_shown, g_level, g_layer, g_depth, g_parts, g_edges, g_operands, g_units, g_fault, g_where, g_partEdges, b_stream, b_length, b_kind, b_num, b_matrix, b_colour, b_width, b_clip, b_paint, b_painter, b_running, b_at, b_saves, b_below, b_mixture, b_beginX, b_beginY, b_endX, b_endY, b_fromX, b_fromY, b_toX, b_toY, b_operand)) (g_revisions, nI K, g_level, g_layer, nI (d + 1), g_parts, g_edges, g_operands, g_units, g_fault, g_where, g_partEdges, b_stream, b_length, b_kind, b_num, b_matrix, b_colour, b_width, b_clip, b_paint, b_painter, b_running, b_at, b_saves, b_below, b_mixture, b_beginX, b_beginY, b_endX, b_endY, b_fromX, b_fromY, b_toX, b_toY, b_operand) (nI d)) : wpY_advance post (g_revisions, nI K, g_level, g_layer, nI (d + 1), g_parts, g_edges, g_operands, g_units, g_fault, g_where, g_partEdges, b_stream, b_length, b_kind, b_num, b_matrix, b_colour, b_width, b_clip, b_paint, b_painter, b_running, b_at, b_saves, b_below, b_mixture, b_beginX, b_beginY, b_endX, b_endY, b_fromX, b_fromY, b_toX, b_toY, b_operand) := by
  have i8 : vp_in (nI d) 8 := vp_in_nI (by omega) (by omega)
  have i9 : vp_in (nI r) 9 := vp_in_nI (by omega) (by omega)
  unfold wpY_advance
  refine nm_r (nI_pred d) ?_
  rw [nI_clamp (n := d) (by omega), k1]
  refine ⟨i8, nm_e (yy_newest hK k2 (br_f (nI_pos (by omega)) ⟨i8, i9, br_t ?_ ?_⟩))⟩
  · rw [nI_clamp (by omega), k3, k4]
  · unfold wY_advance_43
    exact H
theorem ya_none {post : SY → Prop} {K d σ : Nat} (hK : K ≤ 8) (hd : d < 7) (hσ : σ < 6) (k1 : b_running d = nI σ) (k2 : NW b_stream σ K (-1))
    (H : wpY_close (fun u => match u with | (g_revisions, g_shown, g_level, g_layer, g_depth, g_parts, g_edges, g_operands, g_units, g_fault, g_where, g_partEdges, b_stream, b_length, b_kind, b_num, b_matrix, b_colour, b_width, b_clip, b_paint, b_painter, b_running, b_at, b_saves, b_below, b_mixture, b_beginX, b_beginY, b_endX, b_endY, b_fromX, b_fromY, b_toX, b_toY, b_operand) => post (g_revisions, g_shown, g_level, g_layer, g_depth, g_parts, g_edges, g_operands, g_units, g_fault, g_where, g_partEdges, b_stream, b_length, b_kind, b_num, b_matrix, b_colour, b_width, b_clip, b_paint, b_painter, b_running, b_at, b_saves, b_below, b_mixture, b_beginX, b_beginY, b_endX, b_endY, b_fromX, b_fromY, b_toX, b_toY, b_operand)) (g_revisions, nI K, g_level, g_layer, nI (d + 1), g_parts, g_edges, g_operands, g_units, g_fault, g_where, g_partEdges, b_stream, b_length, b_kind, b_num, b_matrix, b_colour, b_width, b_clip, b_paint, b_painter, b_running, b_at, b_saves, b_below, b_mixture, b_beginX, b_beginY, b_endX, b_endY, b_fromX, b_fromY, b_toX, b_toY, b_operand) (nI d)) : wpY_advance post (g_revisions, nI K, g_level, g_layer, nI (d + 1), g_parts, g_edges, g_operands, g_units, g_fault, g_where, g_partEdges, b_stream, b_length, b_kind, b_num, b_matrix, b_colour, b_width, b_clip, b_paint, b_painter, b_running, b_at, b_saves, b_below, b_mixture, b_beginX, b_beginY, b_endX, b_endY, b_fromX, b_fromY, b_toX, b_toY, b_operand) := by
  have i8 : vp_in (nI d) 8 := vp_in_nI (by omega) (by omega)
  unfold wpY_advance
  refine nm_r (nI_pred d) ?_
  rw [nI_clamp (n := d) (by omega), k1]
  refine ⟨i8, nm_e (yy_newest hK k2 (br_t (by decide) ?_))⟩
  unfold wY_advance_43
  exact H
/-- a run of w numbers -/
theorem y_nums {K d r L σ : Nat} (hK : K ≤ 8) (hd : d < 7) (hr : r < K) (hσ : σ < 6) (hL : L ≤ 40) (k1 : b_running d = nI σ) (k2 : NW b_stream σ K (nI r)) (k3 : b_length r = nI L) :
    ∀ (w i t : Nat) (at' op' : Nat → Int32), i + w ≤ 6 → t + w ≤ L → at' d = nI t → (∀ j, t ≤ j → j < t + w → b_kind (40 * r + j) = 0) →
      ∃ at'' op'' : Nat → Int32, at'' d = nI (t + w) ∧ (∀ e, e ≠ d → at'' e = at' e) ∧ (∀ j, j < w → op'' (i + j) = b_num (40 * r + (t + j))) ∧ (∀ j, j < i → op'' j = op' j) ∧
        ∀ (post : Int32 → SY → Prop) (N m : Nat), m + w ≤ 20000 → YL post N (m + w) (g_revisions, nI K, g_level, g_layer, nI (d + 1), g_parts, g_edges, nI (i + w), g_units, 0, g_where, g_partEdges, b_stream, b_length, b_kind, b_num, b_matrix, b_colour, b_width, b_clip, b_paint, b_painter, b_running, at'', b_saves, b_below, b_mixture, b_beginX, b_beginY, b_endX, b_endY, b_fromX, b_fromY, b_toX, b_toY, op'') → YL post (N + w) m (g_revisions, nI K, g_level, g_layer, nI (d + 1), g_parts, g_edges, nI i, g_units, 0, g_where, g_partEdges, b_stream, b_length, b_kind, b_num, b_matrix, b_colour, b_width, b_clip, b_paint, b_painter, b_running, at', b_saves, b_below, b_mixture, b_beginX, b_beginY, b_endX, b_endY, b_fromX, b_fromY, b_toX, b_toY, op') := by
  intro w
  induction w with
  | zero =>
    intro i t at' op' _ _ h3 _
    exact ⟨at', op', h3, fun _ _ => rfl, fun j hj => absurd hj (Nat.not_lt_zero j), fun _ _ => rfl, fun post N m _ h => h⟩
  | succ w ih =>
    intro i t at' op' h1 h2 h3 h4
    obtain ⟨a2, o2, c1, c2, c3, c4, c5⟩ := ih (i + 1) (t + 1) (upd at' d (nI (t + 1))) (upd op' i (b_num (40 * r + t))) (by omega) (by omega) pk_us (fun j q1 q2 => h4 j (by omega) (by omega))
    refine ⟨a2, o2, ?_, ?_, ?_, ?_, ?_⟩
    · rw [c1]; congr 1; omega
    · intro e he
      rw [c2 e he, pk_un he]
    · intro j hj
      rcases Nat.eq_zero_or_pos j with z | z
      · subst z
        rw [show i + 0 = i from rfl, c4 i (by omega), pk_us]; rfl
      · have := c3 (j - 1) (by omega)
        rw [show i + 1 + (j - 1) = i + j by omega, show t + 1 + (j - 1) = t + j by omega] at this
        exact this
    · intro j hj
      rw [c4 j (by omega), pk_un (by omega)]
    · intro post N m hm h
      rw [show m + (w + 1) = m + 1 + w by omega, show i + (w + 1) = i + 1 + w by omega] at h
      have nx := c5 post N (m + 1) (by omega) h
      show YL post (N + w + 1) m _
      refine ya_step (by omega) (by omega) (ya_num (t := t) hK hd hr hσ hL (by omega) k1 k2 k3 h3 (h4 t (by omega) (by omega)) ?_)
      unfold wpY_number
      refine pk_eq i 6 (fun z => by omega) (fun z => ⟨vp_in_nI (by omega) (by omega), ?_⟩)
      rw [nI_clamp (by omega)]
      refine nm_e (nm_r (nI_1 i) ?_)
      show wY_advance_122 _ _ g_revisions (nI K) g_level g_layer (nI (d + 1)) g_parts g_edges (nI (i + 1)) g_units 0 g_where g_partEdges b_stream b_length b_kind b_num b_matrix b_colour b_width b_clip b_paint b_painter b_running (upd at' d (nI (t + 1))) b_saves b_below b_mixture b_beginX b_beginY b_endX b_endY b_fromX b_fromY b_toX b_toY (upd op' i (b_num (40 * r + t)))
      unfold wY_advance_122
      exact br_t rfl (nm_r (nI_1 m) nx)
/-- Y's close of an outer frame -/
theorem yy_close0 {post : SY → Prop} (h : post (g_revisions, g_shown, g_level, g_layer, 0, g_parts, g_edges, 0, g_units, g_fault, g_where, g_partEdges, b_stream, b_length, b_kind, b_num, b_matrix, b_colour, b_width, b_clip, b_paint, b_painter, b_running, b_at, b_saves, b_below, b_mixture, b_beginX, b_beginY, b_endX, b_endY, b_fromX, b_fromY, b_toX, b_toY, b_operand)) : wpY_close post (g_revisions, g_shown, g_level, g_layer, g_depth, g_parts, g_edges, g_operands, g_units, g_fault, g_where, g_partEdges, b_stream, b_length, b_kind, b_num, b_matrix, b_colour, b_width, b_clip, b_paint, b_painter, b_running, b_at, b_saves, b_below, b_mixture, b_beginX, b_beginY, b_endX, b_endY, b_fromX, b_fromY, b_toX, b_toY, b_operand) (nI 0) := by
  unfold wpY_close
  exact br_t rfl h
theorem yy_close {d φ l' : Nat} {μ : Int} {post : SY → Prop} (hd : 0 < d) (hd7 : d < 7) (hφ : 0 < φ) (hφ6 : φ ≤ 6) (hμ : -1 ≤ μ ∧ μ ≤ 16) (e1 : b_below d = nI φ) (e2 : b_mixture d = iZ μ) (hl : l' < 6) (hp : pxr b_paint)
    (h1 : μ < 0 → post (g_revisions, g_shown, nI (φ - 1), nI l', nI d, 0, 0, 0, g_units, g_fault, g_where, g_partEdges, b_stream, b_length, b_kind, b_num, b_matrix, b_colour, b_width, b_clip, b_paint, b_painter, b_running, b_at, b_saves, b_below, b_mixture, b_beginX, b_beginY, b_endX, b_endY, b_fromX, b_fromY, b_toX, b_toY, b_operand)) (h2 : 0 ≤ μ → post (g_revisions, g_shown, nI (φ - 1), nI l', nI d, 0, 0, 0, g_units, g_fault, g_where, g_partEdges, b_stream, b_length, b_kind, b_num, b_matrix, b_colour, b_width, b_clip, mp μ l' b_paint 192, mt l' b_paint b_painter 192, b_running, b_at, b_saves, b_below, b_mixture, b_beginX, b_beginY, b_endX, b_endY, b_fromX, b_fromY, b_toX, b_toY, b_operand)) : wpY_close post (g_revisions, g_shown, g_level, nI (l' + if 0 ≤ μ then 1 else 0), g_depth, g_parts, g_edges, g_operands, g_units, g_fault, g_where, g_partEdges, b_stream, b_length, b_kind, b_num, b_matrix, b_colour, b_width, b_clip, b_paint, b_painter, b_running, b_at, b_saves, b_below, b_mixture, b_beginX, b_beginY, b_endX, b_endY, b_fromX, b_fromY, b_toX, b_toY, b_operand) (nI d) := by
  have i8 : vp_in (nI d) 8 := vp_in_nI (by omega) (by omega)
  unfold wpY_close
  refine br_f (nI_ne0 hd (by omega)) ⟨i8, ?_⟩
  rw [nI_clamp (by omega), e2]
  refine zk_lt μ 0 (fun z => ?_) (fun z => ⟨i8, nm_e ?_⟩) rfl li_0
  · rw [if_neg (by omega)]
    unfold wY_close_83
    rw [nI_clamp (by omega), e1]
    exact ⟨i8, nm_r (nj_s (c := 1) φ 1 hφ) (h1 z)⟩
  · rw [if_pos z]
    refine yy_mixl (t := 0) hl (by omega) hp ?_
    unfold wY_close_83
    rw [nI_clamp (by omega), e1]
    exact ⟨i8, nm_r (nj_s (c := 1) φ 1 hφ) (h2 z)⟩
end
section
variable {f_drafted f_revisions f_depth f_known f_saved f_edges f_counted f_begun f_startX f_startY f_nowX f_nowY f_low f_high f_pointX f_pointY f_layer f_fault f_faultAt f_units f_used : Int32} {a_draftKind a_draftValue a_streamOf a_sizes a_before a_newest a_opCount a_ops a_opAt a_numbers a_running a_next a_floor a_mix a_matrix a_colour a_width a_clip a_x1 a_y1 a_x2 a_y2 a_extra a_winding a_crossings a_pixels a_painter : Nat → Int32}
theorem xx_close0 {μ : Int} {post : SX → Prop} (hμ : μ = -1) (e2 : a_mix 0 = iZ μ) (h : post (f_drafted, f_revisions, 0, f_known, f_saved, 0, 0, 0, f_startX, f_startY, f_nowX, f_nowY, f_low, f_high, f_pointX, f_pointY, f_layer, f_fault, f_faultAt, f_units, f_used, a_draftKind, a_draftValue, a_streamOf, a_sizes, a_before, a_newest, a_opCount, a_ops, a_opAt, a_numbers, a_running, a_next, a_floor, a_mix, a_matrix, a_colour, a_width, a_clip, a_x1, a_y1, a_x2, a_y2, a_extra, a_winding, a_crossings, a_pixels, a_painter)) : wX_step_33 post (nI 0) f_drafted f_revisions (nI (0 + 1)) f_known f_saved f_edges f_counted f_begun f_startX f_startY f_nowX f_nowY f_low f_high f_pointX f_pointY f_layer f_fault f_faultAt f_units f_used a_draftKind a_draftValue a_streamOf a_sizes a_before a_newest a_opCount a_ops a_opAt a_numbers a_running a_next a_floor a_mix a_matrix a_colour a_width a_clip a_x1 a_y1 a_x2 a_y2 a_extra a_winding a_crossings a_pixels a_painter := by
  unfold wX_step_33
  refine nm_r (nI_pred 0) ⟨vp_in_nI (by omega) (by omega), ?_⟩
  rw [nI_clamp (by omega), e2, hμ]
  refine br_t (by decide) ?_
  unfold wX_step_62
  refine br_t (by decide) ?_
  unfold wX_step_81 wpX_forget
  exact h
theorem xx_close {d φ l' : Nat} {μ : Int} {post : SX → Prop} (hd : 0 < d) (hd7 : d < 7) (hφ : 0 < φ) (hφ6 : φ ≤ 6) (hμ : -1 ≤ μ ∧ μ ≤ 16) (e1 : a_floor d = nI φ) (e2 : a_mix d = iZ μ) (hl : l' < 6) (hp : pxr a_pixels) (ht : ptr a_painter)
    (h1 : μ < 0 → post (f_drafted, f_revisions, nI d, f_known, nI (φ - 1), 0, 0, 0, f_startX, f_startY, f_nowX, f_nowY, f_low, f_high, f_pointX, f_pointY, nI l', f_fault, f_faultAt, f_units, f_used, a_draftKind, a_draftValue, a_streamOf, a_sizes, a_before, a_newest, a_opCount, a_ops, a_opAt, a_numbers, a_running, a_next, a_floor, a_mix, a_matrix, a_colour, a_width, a_clip, a_x1, a_y1, a_x2, a_y2, a_extra, a_winding, a_crossings, a_pixels, a_painter)) (h2 : 0 ≤ μ → post (f_drafted, f_revisions, nI d, f_known, nI (φ - 1), 0, 0, 0, f_startX, f_startY, f_nowX, f_nowY, f_low, f_high, f_pointX, f_pointY, nI l', f_fault, f_faultAt, f_units, f_used, a_draftKind, a_draftValue, a_streamOf, a_sizes, a_before, a_newest, a_opCount, a_ops, a_opAt, a_numbers, a_running, a_next, a_floor, a_mix, a_matrix, a_colour, a_width, a_clip, a_x1, a_y1, a_x2, a_y2, a_extra, a_winding, a_crossings, mp μ l' a_pixels 192, mt l' a_pixels a_painter 192)) : wX_step_33 post (nI d) f_drafted f_revisions (nI (d + 1)) f_known f_saved f_edges f_counted f_begun f_startX f_startY f_nowX f_nowY f_low f_high f_pointX f_pointY (nI (l' + if 0 ≤ μ then 1 else 0)) f_fault f_faultAt f_units f_used a_draftKind a_draftValue a_streamOf a_sizes a_before a_newest a_opCount a_ops a_opAt a_numbers a_running a_next a_floor a_mix a_matrix a_colour a_width a_clip a_x1 a_y1 a_x2 a_y2 a_extra a_winding a_crossings a_pixels a_painter := by
  have i7 : vp_in (nI d) 7 := vp_in_nI (by omega) (by omega)
  unfold wX_step_33
  refine nm_r (nI_pred d) ⟨i7, ?_⟩
  rw [nI_clamp (by omega), e2]
  refine zk_lt μ 0 (fun z => ?_) (fun z => ⟨i7, ?_⟩) rfl li_0
  · rw [if_neg (by omega)]
    unfold wX_step_62
    rw [nI_clamp (by omega), e1]
    refine br_f (nI_nle hd (by omega)) ⟨i7, nm_r (nj_s (c := 1) φ 1 hφ) ?_⟩
    unfold wX_step_81 wpX_forget
    exact h1 z
  · rw [if_pos z]
    refine xx_merge hl (by omega) hp ht ?_
    show wX_step_62 post (nI d) f_drafted f_revisions (nI d) f_known f_saved f_edges f_counted f_begun f_startX f_startY f_nowX f_nowY f_low f_high f_pointX f_pointY (nI l') f_fault f_faultAt f_units f_used a_draftKind a_draftValue a_streamOf a_sizes a_before a_newest a_opCount a_ops a_opAt a_numbers a_running a_next a_floor a_mix a_matrix a_colour a_width a_clip a_x1 a_y1 a_x2 a_y2 a_extra a_winding a_crossings (mp μ l' a_pixels 192) (mt l' a_pixels a_painter 192)
    unfold wX_step_62
    rw [nI_clamp (by omega), e1]
    refine br_f (nI_nle hd (by omega)) ⟨i7, nm_r (nj_s (c := 1) φ 1 hφ) ?_⟩
    unfold wX_step_81 wpX_forget
    exact h2 z
end
end
section
/-! one step of X against a few advances of Y -/
theorem yy_wanted {κ : Nat} {post : Int32 → Prop} (hκ : κ ≤ 17) (h : post (nI (wnt κ))) : wpY_wanted post (nI κ) := by
  unfold wpY_wanted
  refine pk_eq κ 1 (fun z => by subst z; exact h) (fun z1 => ?_)
  refine pk_eq κ 2 (fun z => by subst z; exact h) (fun z2 => ?_)
  refine pk_eq κ 17 (fun z => by subst z; exact h) (fun z3 => ?_)
  refine pk_eq κ 4 (fun z => by subst z; exact h) (fun z4 => ?_)
  refine pk_eq κ 12 (fun z => by subst z; exact h) (fun z5 => ?_)
  refine pk_eq κ 13 (fun z => by subst z; exact h) (fun z6 => ?_)
  refine pk_eq κ 14 (fun z => by subst z; exact h) (fun z7 => ?_)
  refine pk_eq κ 16 (fun z => by subst z; exact h) (fun z8 => ?_)
  have e : wnt κ = 0 := by
    unfold wnt
    rw [if_neg (by omega), if_neg (by omega), if_neg (by omega), if_neg (by omega)]
  rw [e] at h
  exact h
theorem xx_operands {κ : Nat} {post : Int32 → Prop} (h1 : 1 ≤ κ) (hκ : κ ≤ 17) (h : post (nI (wnt κ))) : wpX_operands post (nI κ) := by
  unfold wpX_operands
  refine pk_lt κ 1 (fun z => by omega) (fun _ => pk_lt 17 κ (fun z => by omega) (fun _ => ?_))
  refine pk_eq κ 1 (fun z => by subst z; exact h) (fun _ => ?_)
  refine pk_eq κ 2 (fun z => by subst z; exact h) (fun _ => ?_)
  refine pk_eq κ 3 (fun z => by subst z; exact h) (fun _ => ?_)
  refine pk_eq κ 4 (fun z => by subst z; exact h) (fun _ => ?_)
  refine pk_eq κ 5 (fun z => by subst z; exact h) (fun _ => ?_)
  refine pk_eq κ 6 (fun z => by subst z; exact h) (fun _ => ?_)
  refine pk_eq κ 7 (fun z => by subst z; exact h) (fun _ => ?_)
  refine pk_eq κ 8 (fun z => by subst z; exact h) (fun _ => ?_)
  refine pk_eq κ 9 (fun z => by subst z; exact h) (fun _ => ?_)
  refine pk_eq κ 10 (fun z => by subst z; exact h) (fun _ => ?_)
  refine pk_eq κ 11 (fun z => by subst z; exact h) (fun _ => ?_)
  refine pk_eq κ 12 (fun z => by subst z; exact h) (fun _ => ?_)
  refine pk_eq κ 13 (fun z => by subst z; exact h) (fun _ => ?_)
  refine pk_eq κ 14 (fun z => by subst z; exact h) (fun _ => ?_)
  refine pk_eq κ 15 (fun z => by subst z; exact h) (fun _ => ?_)
  refine pk_eq κ 16 (fun z => by subst z; exact h) (fun _ => ?_)
  exact pk_eq κ 17 (fun z => by subst z; exact h) (fun _ => trivial)
section
variable {f_drafted f_revisions f_depth f_known f_saved f_edges f_counted f_begun f_startX f_startY f_nowX f_nowY f_low f_high f_pointX f_pointY f_layer f_fault f_faultAt f_units f_used : Int32} {a_draftKind a_draftValue a_streamOf a_sizes a_before a_newest a_opCount a_ops a_opAt a_numbers a_running a_next a_floor a_mix a_matrix a_colour a_width a_clip a_x1 a_y1 a_x2 a_y2 a_extra a_winding a_crossings a_pixels a_painter : Nat → Int32}
variable {g_revisions g_shown g_level g_layer g_depth g_parts g_edges g_operands g_units g_fault g_where g_partEdges : Int32} {b_stream b_length b_kind b_num b_matrix b_colour b_width b_clip b_paint b_painter b_running b_at b_saves b_below b_mixture b_beginX b_beginY b_endX b_endY b_fromX b_fromY b_toX b_toY b_operand : Nat → Int32}
variable {R K D s l U pl a : Nat}
/-- both sides have stopped: a fault, or nothing more to run -/
def ST (R : Nat) (u : SX) (v : SY) : Prop :=
  ∃ U : Nat, match u, v with
  | (f_drafted, f_revisions, f_depth, f_known, f_saved, f_edges, f_counted, f_begun, f_startX, f_startY, f_nowX, f_nowY, f_low, f_high, f_pointX, f_pointY, f_layer, f_fault, f_faultAt, f_units, f_used, a_draftKind, a_draftValue, a_streamOf, a_sizes, a_before, a_newest, a_opCount, a_ops, a_opAt, a_numbers, a_running, a_next, a_floor, a_mix, a_matrix, a_colour, a_width, a_clip, a_x1, a_y1, a_x2, a_y2, a_extra, a_winding, a_crossings, a_pixels, a_painter), (g_revisions, g_shown, g_level, g_layer, g_depth, g_parts, g_edges, g_operands, g_units, g_fault, g_where, g_partEdges, b_stream, b_length, b_kind, b_num, b_matrix, b_colour, b_width, b_clip, b_paint, b_painter, b_running, b_at, b_saves, b_below, b_mixture, b_beginX, b_beginY, b_endX, b_endY, b_fromX, b_fromY, b_toX, b_toY, b_operand) => f_revisions = nI R ∧ g_revisions = nI R ∧ f_units = nI U ∧ g_units = nI (200 - U) ∧ U ≤ 200 ∧ (f_fault ≠ 0 ∨ (f_depth = 0 ∧ g_depth = 0)) ∧ g_fault = f_fault ∧ g_where = f_faultAt ∧
      b_colour = a_colour ∧ b_width = a_width ∧ b_paint = a_pixels ∧ b_painter = a_painter ∧ (dc R f_drafted a_draftKind a_draftValue a_streamOf a_sizes a_before a_newest a_opCount a_ops a_opAt a_numbers b_stream b_length b_kind b_num) ∧ (∀ i, 0 ≤ (a_colour i).toInt ∧ (a_colour i).toInt ≤ 255) ∧ (∀ i, 0 ≤ (a_width i).toInt ∧ (a_width i).toInt ≤ 60) ∧ pxr a_pixels ∧ ptr a_painter
theorem st_mk {w fa : Int32} (hw : w ≠ 0 ∨ (f_depth = 0 ∧ g_depth = 0)) (hU : U ≤ 200) (hd : (dc R f_drafted a_draftKind a_draftValue a_streamOf a_sizes a_before a_newest a_opCount a_ops a_opAt a_numbers b_stream b_length b_kind b_num)) (hc : ∀ i, 0 ≤ (a_colour i).toInt ∧ (a_colour i).toInt ≤ 255) (hi : ∀ i, 0 ≤ (a_width i).toInt ∧ (a_width i).toInt ≤ 60) (hp : pxr a_pixels) (ht : ptr a_painter) :
    ST R (f_drafted, nI R, f_depth, f_known, f_saved, f_edges, f_counted, f_begun, f_startX, f_startY, f_nowX, f_nowY, f_low, f_high, f_pointX, f_pointY, f_layer, w, fa, nI U, f_used, a_draftKind, a_draftValue, a_streamOf, a_sizes, a_before, a_newest, a_opCount, a_ops, a_opAt, a_numbers, a_running, a_next, a_floor, a_mix, a_matrix, a_colour, a_width, a_clip, a_x1, a_y1, a_x2, a_y2, a_extra, a_winding, a_crossings, a_pixels, a_painter) (nI R, g_shown, g_level, g_layer, g_depth, g_parts, g_edges, g_operands, nI (200 - U), w, fa, g_partEdges, b_stream, b_length, b_kind, b_num, b_matrix, a_colour, a_width, b_clip, a_pixels, a_painter, b_running, b_at, b_saves, b_below, b_mixture, b_beginX, b_beginY, b_endX, b_endY, b_fromX, b_fromY, b_toX, b_toY, b_operand) :=
  ⟨U, rfl, rfl, rfl, rfl, hU, hw, rfl, rfl, rfl, rfl, rfl, rfl, hd, hc, hi, hp, ht⟩
theorem st_aw (u : SX) (v : SY) : EFR R pl u v → ST R u (aw pl v) := by
  obtain ⟨f_drafted, f_revisions, f_depth, f_known, f_saved, f_edges, f_counted, f_begun, f_startX, f_startY, f_nowX, f_nowY, f_low, f_high, f_pointX, f_pointY, f_layer, f_fault, f_faultAt, f_units, f_used, a_draftKind, a_draftValue, a_streamOf, a_sizes, a_before, a_newest, a_opCount, a_ops, a_opAt, a_numbers, a_running, a_next, a_floor, a_mix, a_matrix, a_colour, a_width, a_clip, a_x1, a_y1, a_x2, a_y2, a_extra, a_winding, a_crossings, a_pixels, a_painter⟩ := u
  obtain ⟨g_revisions, g_shown, g_level, g_layer, g_depth, g_parts, g_edges, g_operands, g_units, g_fault, g_where, g_partEdges, b_stream, b_length, b_kind, b_num, b_matrix, b_colour, b_width, b_clip, b_paint, b_painter, b_running, b_at, b_saves, b_below, b_mixture, b_beginX, b_beginY, b_endX, b_endY, b_fromX, b_fromY, b_toX, b_toY, b_operand⟩ := v
  rintro ⟨U, e1, e2, e3, e4, e5, e6, e7, e8, e9, e10, e11, e12, e13, e14, e15, e16, e17⟩
  unfold aw
  dsimp only
  rw [if_neg (by rw [e5]; exact e4)]
  exact ⟨U, e1, e6, e2, e7, e8, Or.inl e4, e5, e3.symm, e9, e10, e11, e12, e13, e14, e15, e16, e17⟩
theorem ex_aw {M : Nat} (u : SX) (v : SY) : EXR R K M u v → EXR R K M u (aw pl v) := by
  obtain ⟨f_drafted, f_revisions, f_depth, f_known, f_saved, f_edges, f_counted, f_begun, f_startX, f_startY, f_nowX, f_nowY, f_low, f_high, f_pointX, f_pointY, f_layer, f_fault, f_faultAt, f_units, f_used, a_draftKind, a_draftValue, a_streamOf, a_sizes, a_before, a_newest, a_opCount, a_ops, a_opAt, a_numbers, a_running, a_next, a_floor, a_mix, a_matrix, a_colour, a_width, a_clip, a_x1, a_y1, a_x2, a_y2, a_extra, a_winding, a_crossings, a_pixels, a_painter⟩ := u
  obtain ⟨g_revisions, g_shown, g_level, g_layer, g_depth, g_parts, g_edges, g_operands, g_units, g_fault, g_where, g_partEdges, b_stream, b_length, b_kind, b_num, b_matrix, b_colour, b_width, b_clip, b_paint, b_painter, b_running, b_at, b_saves, b_below, b_mixture, b_beginX, b_beginY, b_endX, b_endY, b_fromX, b_fromY, b_toX, b_toY, b_operand⟩ := v
  intro h
  have hh := h
  obtain ⟨D, s, l, U, hM, e1, e2, e3, e4, e5, e6, e7, e8, e9, e10, e11, e12, e13, e14, e15, e16, _⟩ := hh
  unfold aw
  dsimp only
  rw [if_pos e16]
  exact h
theorem sk_at {at' : Nat → Int32} (h : (sk K D s l a_opCount a_opAt a_running a_next a_floor a_mix b_stream b_running b_at b_saves b_below b_mixture)) (e : ∀ d, d < D → at' d = b_at d) : (sk K D s l a_opCount a_opAt a_running a_next a_floor a_mix b_stream b_running at' b_saves b_below b_mixture) := by
  obtain ⟨h1, h2, h3, h4⟩ := h
  refine ⟨h1, h2, h3, fun d hd => ?_⟩
  obtain ⟨σ, φ, ς, μ, k1, k2, k3, k4, k5, k6, k7, k8, k9, k10, k11, k12, k13, k14, k15⟩ := h4 d hd
  refine ⟨σ, φ, ς, μ, k1, k2, k3, k4, k5, k6, k7, k8, k9, k10, k11, k12, k13, k14, ?_⟩
  rw [e d hd]
  exact k15
theorem opr_all {κ : Nat} (h1 : 1 ≤ κ) (h17 : κ ≤ 17) (h : (ec R K D s l U f_drafted f_edges f_counted f_begun f_startX f_startY f_nowX f_nowY a_draftKind a_draftValue a_streamOf a_sizes a_before a_newest a_opCount a_ops a_opAt a_numbers a_running a_next a_floor a_mix a_matrix a_colour a_width a_clip a_x1 a_y1 a_x2 a_y2 a_extra a_pixels a_painter g_parts g_edges g_partEdges b_stream b_length b_kind b_num b_matrix b_clip b_running b_at b_saves b_below b_mixture b_beginX b_beginY b_endX b_endY b_fromX b_fromY b_toX b_toY)) (hf : fl (nI D) a_running a_next a_streamOf a_opAt pl) (hl : l < 7) (hpl : pl < 400) (hU : U ≤ 199) (ha : a + wnt κ ≤ 320) (o : ∀ i, i < wnt κ → ∃ z : Int, (-1000 ≤ z ∧ z ≤ 1000) ∧ a_numbers (a + i) = iZ z ∧ b_operand i = iZ z) :
    OPR R K (2 * U + D + 2) pl κ a (f_drafted, nI R, nI D, nI K, nI s, f_edges, f_counted, f_begun, f_startX, f_startY, f_nowX, f_nowY, f_low, f_high, f_pointX, f_pointY, nI l, 0, -1, nI U, f_used, a_draftKind, a_draftValue, a_streamOf, a_sizes, a_before, a_newest, a_opCount, a_ops, a_opAt, a_numbers, a_running, a_next, a_floor, a_mix, a_matrix, a_colour, a_width, a_clip, a_x1, a_y1, a_x2, a_y2, a_extra, a_winding, a_crossings, a_pixels, a_painter) (nI R, nI K, nI s, nI l, nI D, g_parts, g_edges, nI (wnt κ), nI (199 - U), 0, -1, g_partEdges, b_stream, b_length, b_kind, b_num, b_matrix, a_colour, a_width, b_clip, a_pixels, a_painter, b_running, b_at, b_saves, b_below, b_mixture, b_beginX, b_beginY, b_endX, b_endY, b_fromX, b_fromY, b_toX, b_toY, b_operand) := by
  have : κ = 1 ∨ κ = 2 ∨ κ = 3 ∨ κ = 4 ∨ κ = 5 ∨ κ = 6 ∨ κ = 7 ∨ κ = 8 ∨ κ = 9 ∨ κ = 10 ∨ κ = 11 ∨ κ = 12 ∨ κ = 13 ∨ κ = 14 ∨ κ = 15 ∨ κ = 16 ∨ κ = 17 := by omega
  rcases this with rfl | rfl | rfl | rfl | rfl | rfl | rfl | rfl | rfl | rfl | rfl | rfl | rfl | rfl | rfl | rfl | rfl
  · exact op_1 h hf hU ha o
  · exact op_2 h hf hU ha o
  · exact op_3 h hf hU
  · exact op_4 h hf hU ha o
  · exact op_56 (Or.inl rfl) h hf hl hpl hU
  · exact op_56 (Or.inr rfl) h hf hl hpl hU
  · exact op_78 (Or.inl rfl) h hU
  · exact op_78 (Or.inr rfl) h hU
  · exact op_9 h hU
  · exact op_10 h hf hU
  · exact op_11 h hf hU
  · exact op_12 h hf hU ha o
  · exact op_13 h hf hU ha o
  · exact op_14 h hf hU ha o
  · exact op_15 h hf hl hpl hU
  · exact op_16 h hf hU ha o
  · exact op_17 h hf hU ha o
/-- the innermost stream ends -/
theorem j_end {d w : Nat} {at' op' : Nat → Int32} (h : (ec R K (d + 1) s l U f_drafted f_edges f_counted f_begun f_startX f_startY f_nowX f_nowY a_draftKind a_draftValue a_streamOf a_sizes a_before a_newest a_opCount a_ops a_opAt a_numbers a_running a_next a_floor a_mix a_matrix a_colour a_width a_clip a_x1 a_y1 a_x2 a_y2 a_extra a_pixels a_painter g_parts g_edges g_partEdges b_stream b_length b_kind b_num b_matrix b_clip b_running b_at b_saves b_below b_mixture b_beginX b_beginY b_endX b_endY b_fromX b_fromY b_toX b_toY)) (hat : ∀ e, e ≠ d → at' e = b_at e) :
    ∃ v' : SY, (∀ Q : SY → Prop, Q v' → wpY_close Q (nI R, nI K, nI s, nI l, nI (d + 1), g_parts, g_edges, nI w, nI (200 - U), 0, -1, g_partEdges, b_stream, b_length, b_kind, b_num, b_matrix, a_colour, a_width, b_clip, a_pixels, a_painter, b_running, at', b_saves, b_below, b_mixture, b_beginX, b_beginY, b_endX, b_endY, b_fromX, b_fromY, b_toX, b_toY, op') (nI d)) ∧ (∀ P : SX → Prop, (∀ u', (EXR R K (2 * U + (d + 1)) u' v' ∨ ST R u' v') → P u') → wX_step_33 P (nI d) f_drafted (nI R) (nI (d + 1)) (nI K) (nI s) f_edges f_counted f_begun f_startX f_startY f_nowX f_nowY f_low f_high f_pointX f_pointY (nI l) 0 (-1) (nI U) f_used a_draftKind a_draftValue a_streamOf a_sizes a_before a_newest a_opCount a_ops a_opAt a_numbers a_running a_next a_floor a_mix a_matrix a_colour a_width a_clip a_x1 a_y1 a_x2 a_y2 a_extra a_winding a_crossings a_pixels a_painter) := by
  obtain ⟨hKR, hD, hS, hG, hP, hpx, hpt, hU⟩ := h
  have hDs := sk_D hS
  have hS2 := hS
  obtain ⟨h1, h2, h3, h4⟩ := hS2
  obtain ⟨σ, φ, ς, μ, k1, k2, k3, k4, k5, k6, k7, k8, k9, k10, k11, k12, k13, k14, k15⟩ := h4 d (by omega)
  rw [if_pos rfl] at k9
  rcases Nat.eq_zero_or_pos d with z | z
  · subst z
    refine ⟨(nI R, nI K, nI s, nI l, 0, g_parts, g_edges, 0, nI (200 - U), 0, -1, g_partEdges, b_stream, b_length, b_kind, b_num, b_matrix, a_colour, a_width, b_clip, a_pixels, a_painter, b_running, at', b_saves, b_below, b_mixture, b_beginX, b_beginY, b_endX, b_endY, b_fromX, b_fromY, b_toX, b_toY, op'), fun Q hq => yy_close0 hq, fun P hp => xx_close0 (k13 rfl) k10 (hp _ (Or.inr ?_))⟩
    exact st_mk (Or.inr ⟨rfl, rfl⟩) hU hD hG.2.2.1 hG.2.2.2.1 hpx hpt
  · have hl2 : l = lyc b_mixture d + if 0 ≤ μ then 1 else 0 := by
      rw [h3]
      show lyc b_mixture d + (if 0 ≤ (b_mixture d).toInt then 1 else 0) = _
      rw [k11, iz_T (by omega)]
    have hpop := sk_pop hS k4 k8
    rw [if_neg (by omega)] at hpop
    have hl3 : lyc b_mixture d < 6 := by
      obtain ⟨e, rfl⟩ : ∃ e, d = e + 1 := ⟨d - 1, by omega⟩
      have := sk_l hpop
      omega
    have hpop' := sk_at (at' := at') hpop (fun e he => hat e (by omega))
    have hG' := gs_dn (s' := φ - 1) hG (by omega)
    subst hl2
    by_cases m0 : μ < 0
    · refine ⟨(nI R, nI K, nI (φ - 1), nI (lyc b_mixture d), nI d, 0, 0, 0, nI (200 - U), 0, -1, g_partEdges, b_stream, b_length, b_kind, b_num, b_matrix, a_colour, a_width, b_clip, a_pixels, a_painter, b_running, at', b_saves, b_below, b_mixture, b_beginX, b_beginY, b_endX, b_endY, b_fromX, b_fromY, b_toX, b_toY, op'), fun Q hq => yy_close z (by omega) (by omega) k8 k12 k5 k11 hl3 hpx (fun _ => hq) (fun q => by omega), fun P hp => xx_close z (by omega) (by omega) k8 k12 k4 k10 hl3 hpx hpt (fun _ => hp _ (Or.inl (exr_mk (by omega) ⟨hKR, hD, hpop', hG', Or.inl ⟨rfl, rfl, rfl, rfl, rfl⟩, hpx, hpt, hU⟩))) (fun q => by omega)⟩
    · refine ⟨(nI R, nI K, nI (φ - 1), nI (lyc b_mixture d), nI d, 0, 0, 0, nI (200 - U), 0, -1, g_partEdges, b_stream, b_length, b_kind, b_num, b_matrix, a_colour, a_width, b_clip, mp μ (lyc b_mixture d) a_pixels 192, mt (lyc b_mixture d) a_pixels a_painter 192, b_running, at', b_saves, b_below, b_mixture, b_beginX, b_beginY, b_endX, b_endY, b_fromX, b_fromY, b_toX, b_toY, op'), fun Q hq => yy_close z (by omega) (by omega) k8 k12 k5 k11 hl3 hpx (fun q => absurd q m0) (fun _ => hq), fun P hp => xx_close z (by omega) (by omega) k8 k12 k4 k10 hl3 hpx hpt (fun q => absurd q m0) (fun _ => hp _ (Or.inl (exr_mk (by omega) ⟨hKR, hD, hpop', hG', Or.inl ⟨rfl, rfl, rfl, rfl, rfl⟩, mp_r (by omega) hpx, mt_r hpt, hU⟩)))⟩
end
end
section
/-! one step of X against a few advances of Y: the whole -/
section
variable {f_drafted f_revisions f_depth f_known f_saved f_edges f_counted f_begun f_startX f_startY f_nowX f_nowY f_low f_high f_pointX f_pointY f_layer f_fault f_faultAt f_units f_used : Int32} {a_draftKind a_draftValue a_streamOf a_sizes a_before a_newest a_opCount a_ops a_opAt a_numbers a_running a_next a_floor a_mix a_matrix a_colour a_width a_clip a_x1 a_y1 a_x2 a_y2 a_extra a_winding a_crossings a_pixels a_painter : Nat → Int32}
theorem xs_none {d : Nat} {post : SX → Prop} (hd : d < 7) (h1 : a_running d = -1) (H : wX_step_33 post (nI d) f_drafted f_revisions (nI (d + 1)) f_known f_saved f_edges f_counted f_begun f_startX f_startY f_nowX f_nowY f_low f_high f_pointX f_pointY f_layer f_fault f_faultAt f_units f_used a_draftKind a_draftValue a_streamOf a_sizes a_before a_newest a_opCount a_ops a_opAt a_numbers a_running a_next a_floor a_mix a_matrix a_colour a_width a_clip a_x1 a_y1 a_x2 a_y2 a_extra a_winding a_crossings a_pixels a_painter) : wpX_step post (f_drafted, f_revisions, nI (d + 1), f_known, f_saved, f_edges, f_counted, f_begun, f_startX, f_startY, f_nowX, f_nowY, f_low, f_high, f_pointX, f_pointY, f_layer, f_fault, f_faultAt, f_units, f_used, a_draftKind, a_draftValue, a_streamOf, a_sizes, a_before, a_newest, a_opCount, a_ops, a_opAt, a_numbers, a_running, a_next, a_floor, a_mix, a_matrix, a_colour, a_width, a_clip, a_x1, a_y1, a_x2, a_y2, a_extra, a_winding, a_crossings, a_pixels, a_painter) := by
  unfold wpX_step
  refine nm_r (nI_pred d) ⟨vp_in_nI hd (by omega), ?_⟩
  rw [nI_clamp (n := d) (by omega), h1]
  exact nm_e (br_t (by decide) H)
theorem xs_end {d r n : Nat} {post : SX → Prop} (hd : d < 7) (hr : r < 8) (h1 : a_running d = nI r) (h2 : a_next d = nI n) (h3 : a_opCount r = nI n) (H : wX_step_33 post (nI d) f_drafted f_revisions (nI (d + 1)) f_known f_saved f_edges f_counted f_begun f_startX f_startY f_nowX f_nowY f_low f_high f_pointX f_pointY f_layer f_fault f_faultAt f_units f_used a_draftKind a_draftValue a_streamOf a_sizes a_before a_newest a_opCount a_ops a_opAt a_numbers a_running a_next a_floor a_mix a_matrix a_colour a_width a_clip a_x1 a_y1 a_x2 a_y2 a_extra a_winding a_crossings a_pixels a_painter) : wpX_step post (f_drafted, f_revisions, nI (d + 1), f_known, f_saved, f_edges, f_counted, f_begun, f_startX, f_startY, f_nowX, f_nowY, f_low, f_high, f_pointX, f_pointY, f_layer, f_fault, f_faultAt, f_units, f_used, a_draftKind, a_draftValue, a_streamOf, a_sizes, a_before, a_newest, a_opCount, a_ops, a_opAt, a_numbers, a_running, a_next, a_floor, a_mix, a_matrix, a_colour, a_width, a_clip, a_x1, a_y1, a_x2, a_y2, a_extra, a_winding, a_crossings, a_pixels, a_painter) := by
  unfold wpX_step
  refine nm_r (nI_pred d) ⟨vp_in_nI hd (by omega), ?_⟩
  rw [nI_clamp (n := d) (by omega), h1, h2]
  refine nm_e (br_f (nI_pos (by omega)) ⟨vp_in_nI hd (by omega), vp_in_nI hr (by omega), ?_⟩)
  rw [nI_clamp (n := r) (by omega), h3]
  exact br_t rfl H
theorem xs_bad {d r n M pl : Nat} {post : SX → Prop} (hd : d < 7) (hr : r < 8) (hn : n < M) (hM : M ≤ 40) (h1 : a_running d = nI r) (h2 : a_next d = nI n) (h3 : a_opCount r = nI M) (h4 : a_ops (40 * r + n) = 18) (hf : fl (nI (d + 1)) a_running (upd a_next d (nI (n + 1))) a_streamOf a_opAt pl)
    (H : post (f_drafted, f_revisions, nI (d + 1), f_known, f_saved, f_edges, f_counted, f_begun, f_startX, f_startY, f_nowX, f_nowY, f_low, f_high, f_pointX, f_pointY, f_layer, 1, nI pl, f_units, f_used, a_draftKind, a_draftValue, a_streamOf, a_sizes, a_before, a_newest, a_opCount, a_ops, a_opAt, a_numbers, a_running, upd a_next d (nI (n + 1)), a_floor, a_mix, a_matrix, a_colour, a_width, a_clip, a_x1, a_y1, a_x2, a_y2, a_extra, a_winding, a_crossings, a_pixels, a_painter)) : wpX_step post (f_drafted, f_revisions, nI (d + 1), f_known, f_saved, f_edges, f_counted, f_begun, f_startX, f_startY, f_nowX, f_nowY, f_low, f_high, f_pointX, f_pointY, f_layer, f_fault, f_faultAt, f_units, f_used, a_draftKind, a_draftValue, a_streamOf, a_sizes, a_before, a_newest, a_opCount, a_ops, a_opAt, a_numbers, a_running, a_next, a_floor, a_mix, a_matrix, a_colour, a_width, a_clip, a_x1, a_y1, a_x2, a_y2, a_extra, a_winding, a_crossings, a_pixels, a_painter) := by
  have i7 : vp_in (nI d) 7 := vp_in_nI hd (by omega)
  unfold wpX_step
  refine nm_r (nI_pred d) ⟨i7, ?_⟩
  rw [nI_clamp (n := d) (by omega), h1, h2]
  refine nm_e (br_f (nI_pos (by omega)) ⟨i7, vp_in_nI hr (by omega), ?_⟩)
  rw [nI_clamp (n := r) (by omega), h3, nI_1, in_b (by omega), vn_b (by omega)]
  refine br_f (by rw [nI_eq (by omega) (by omega)]; omega) ⟨i7, i7, nm_e (nm_r (nj_ma 40 r n) ⟨vp_in_nI (by omega) (by omega), ?_⟩)⟩
  rw [nI_clamp (n := 40 * r + n) (by omega), h4]
  exact nm_e (br_t rfl (xx_fail hf H))
theorem xs_time {d r n M pl κ : Nat} {post : SX → Prop} (hd : d < 7) (hr : r < 8) (hn : n < M) (hM : M ≤ 40) (h1 : a_running d = nI r) (h2 : a_next d = nI n) (h3 : a_opCount r = nI M) (h4 : a_ops (40 * r + n) = nI κ) (hκ : κ ≤ 17) (hf : fl (nI (d + 1)) a_running (upd a_next d (nI (n + 1))) a_streamOf a_opAt pl)
    (H : post (f_drafted, f_revisions, nI (d + 1), f_known, f_saved, f_edges, f_counted, f_begun, f_startX, f_startY, f_nowX, f_nowY, f_low, f_high, f_pointX, f_pointY, f_layer, 2, nI pl, nI 0, f_used, a_draftKind, a_draftValue, a_streamOf, a_sizes, a_before, a_newest, a_opCount, a_ops, a_opAt, a_numbers, a_running, upd a_next d (nI (n + 1)), a_floor, a_mix, a_matrix, a_colour, a_width, a_clip, a_x1, a_y1, a_x2, a_y2, a_extra, a_winding, a_crossings, a_pixels, a_painter)) : wpX_step post (f_drafted, f_revisions, nI (d + 1), f_known, f_saved, f_edges, f_counted, f_begun, f_startX, f_startY, f_nowX, f_nowY, f_low, f_high, f_pointX, f_pointY, f_layer, f_fault, f_faultAt, nI 0, f_used, a_draftKind, a_draftValue, a_streamOf, a_sizes, a_before, a_newest, a_opCount, a_ops, a_opAt, a_numbers, a_running, a_next, a_floor, a_mix, a_matrix, a_colour, a_width, a_clip, a_x1, a_y1, a_x2, a_y2, a_extra, a_winding, a_crossings, a_pixels, a_painter) := by
  have i7 : vp_in (nI d) 7 := vp_in_nI hd (by omega)
  unfold wpX_step
  refine nm_r (nI_pred d) ⟨i7, ?_⟩
  rw [nI_clamp (n := d) (by omega), h1, h2]
  refine nm_e (br_f (nI_pos (by omega)) ⟨i7, vp_in_nI hr (by omega), ?_⟩)
  rw [nI_clamp (n := r) (by omega), h3, nI_1, in_b (by omega), vn_b (by omega)]
  refine br_f (by rw [nI_eq (by omega) (by omega)]; omega) ⟨i7, i7, nm_e (nm_r (nj_ma 40 r n) ⟨vp_in_nI (by omega) (by omega), ?_⟩)⟩
  rw [nI_clamp (n := 40 * r + n) (by omega), h4]
  exact nm_e (pk_eq κ 18 (fun z => by omega) (fun _ => br_t rfl (xx_fail hf H)))
theorem xs_op {d r n M κ q U : Nat} {post : SX → Prop} (hd : d < 7) (hr : r < 8) (hn : n < M) (hM : M ≤ 40) (h1 : a_running d = nI r) (h2 : a_next d = nI n) (h3 : a_opCount r = nI M) (h4 : a_ops (40 * r + n) = nI κ) (h5 : a_opAt (40 * r + n) = nI q) (hκ1 : 1 ≤ κ) (hκ : κ ≤ 17) (hq : wnt κ ≤ q) (hq2 : q < 40) (hU : U < 200)
    (H : wpX_perform (fun u => match u with | (f_drafted, f_revisions, f_depth, f_known, f_saved, f_edges, f_counted, f_begun, f_startX, f_startY, f_nowX, f_nowY, f_low, f_high, f_pointX, f_pointY, f_layer, f_fault, f_faultAt, f_units, f_used, a_draftKind, a_draftValue, a_streamOf, a_sizes, a_before, a_newest, a_opCount, a_ops, a_opAt, a_numbers, a_running, a_next, a_floor, a_mix, a_matrix, a_colour, a_width, a_clip, a_x1, a_y1, a_x2, a_y2, a_extra, a_winding, a_crossings, a_pixels, a_painter) => post (f_drafted, f_revisions, f_depth, f_known, f_saved, f_edges, f_counted, f_begun, f_startX, f_startY, f_nowX, f_nowY, f_low, f_high, f_pointX, f_pointY, f_layer, f_fault, f_faultAt, f_units, f_used, a_draftKind, a_draftValue, a_streamOf, a_sizes, a_before, a_newest, a_opCount, a_ops, a_opAt, a_numbers, a_running, a_next, a_floor, a_mix, a_matrix, a_colour, a_width, a_clip, a_x1, a_y1, a_x2, a_y2, a_extra, a_winding, a_crossings, a_pixels, a_painter)) (f_drafted, f_revisions, nI (d + 1), f_known, f_saved, f_edges, f_counted, f_begun, f_startX, f_startY, f_nowX, f_nowY, f_low, f_high, f_pointX, f_pointY, f_layer, f_fault, f_faultAt, nI U, f_used, a_draftKind, a_draftValue, a_streamOf, a_sizes, a_before, a_newest, a_opCount, a_ops, a_opAt, a_numbers, a_running, upd a_next d (nI (n + 1)), a_floor, a_mix, a_matrix, a_colour, a_width, a_clip, a_x1, a_y1, a_x2, a_y2, a_extra, a_winding, a_crossings, a_pixels, a_painter) (nI κ) (nI (40 * r + q - wnt κ))) : wpX_step post (f_drafted, f_revisions, nI (d + 1), f_known, f_saved, f_edges, f_counted, f_begun, f_startX, f_startY, f_nowX, f_nowY, f_low, f_high, f_pointX, f_pointY, f_layer, f_fault, f_faultAt, nI (U + 1), f_used, a_draftKind, a_draftValue, a_streamOf, a_sizes, a_before, a_newest, a_opCount, a_ops, a_opAt, a_numbers, a_running, a_next, a_floor, a_mix, a_matrix, a_colour, a_width, a_clip, a_x1, a_y1, a_x2, a_y2, a_extra, a_winding, a_crossings, a_pixels, a_painter) := by
  have i7 : vp_in (nI d) 7 := vp_in_nI hd (by omega)
  have i3 : vp_in (nI (40 * r + n)) 320 := vp_in_nI (by omega) (by omega)
  unfold wpX_step
  refine nm_r (nI_pred d) ⟨i7, ?_⟩
  rw [nI_clamp (n := d) (by omega), h1, h2]
  refine nm_e (br_f (nI_pos (by omega)) ⟨i7, vp_in_nI hr (by omega), ?_⟩)
  rw [nI_clamp (n := r) (by omega), h3, nI_1, in_b (by omega), vn_b (by omega)]
  refine br_f (by rw [nI_eq (by omega) (by omega)]; omega) ⟨i7, i7, nm_e (nm_r (nj_ma 40 r n) ⟨i3, ?_⟩)⟩
  rw [nI_clamp (n := 40 * r + n) (by omega), h4, h5]
  refine nm_e (pk_eq κ 18 (fun z => by omega) (fun _ => br_f (nI_ne0 (by omega) (by omega)) (nm_r (nI_pred U) ⟨i3, xx_operands hκ1 hκ (nm_r (e' := nI (40 * r + q - wnt κ)) ?_ H)⟩)))
  rw [nj_ma 40 r q, pk_sub (by omega)]
end
theorem wnt_6 (κ : Nat) : wnt κ ≤ 6 := by
  unfold wnt
  split
  · omega
  · split
    · omega
    · split
      · omega
      · split <;> omega
section
variable {f_drafted f_revisions f_depth f_known f_saved f_edges f_counted f_begun f_startX f_startY f_nowX f_nowY f_low f_high f_pointX f_pointY f_layer f_fault f_faultAt f_units f_used : Int32} {a_draftKind a_draftValue a_streamOf a_sizes a_before a_newest a_opCount a_ops a_opAt a_numbers a_running a_next a_floor a_mix a_matrix a_colour a_width a_clip a_x1 a_y1 a_x2 a_y2 a_extra a_winding a_crossings a_pixels a_painter : Nat → Int32}
variable {g_revisions g_shown g_level g_layer g_depth g_parts g_edges g_operands g_units g_fault g_where g_partEdges : Int32} {b_stream b_length b_kind b_num b_matrix b_colour b_width b_clip b_paint b_painter b_running b_at b_saves b_below b_mixture b_beginX b_beginY b_endX b_endY b_fromX b_fromY b_toX b_toY b_operand : Nat → Int32}
variable {R K s l U : Nat}
theorem etaYN {post : Int32 → SY → Prop} {N m : Nat} (v : SY) : YL post N (m + 1) v → (match v with | (g_revisions, g_shown, g_level, g_layer, g_depth, g_parts, g_edges, g_operands, g_units, g_fault, g_where, g_partEdges, b_stream, b_length, b_kind, b_num, b_matrix, b_colour, b_width, b_clip, b_paint, b_painter, b_running, b_at, b_saves, b_below, b_mixture, b_beginX, b_beginY, b_endX, b_endY, b_fromX, b_fromY, b_toX, b_toY, b_operand) => (match (g_revisions, g_shown, g_level, g_layer, g_depth, g_parts, g_edges, g_operands, g_units, g_fault, g_where, g_partEdges, b_stream, b_length, b_kind, b_num, b_matrix, b_colour, b_width, b_clip, b_paint, b_painter, b_running, b_at, b_saves, b_below, b_mixture, b_beginX, b_beginY, b_endX, b_endY, b_fromX, b_fromY, b_toX, b_toY, b_operand) with | (g_revisions, g_shown, g_level, g_layer, g_depth, g_parts, g_edges, g_operands, g_units, g_fault, g_where, g_partEdges, b_stream, b_length, b_kind, b_num, b_matrix, b_colour, b_width, b_clip, b_paint, b_painter, b_running, b_at, b_saves, b_below, b_mixture, b_beginX, b_beginY, b_endX, b_endY, b_fromX, b_fromY, b_toX, b_toY, b_operand) => ∀ x2 : Int32, x2 = nI m + 1 → wY_renderAt_141 post N x2 g_revisions g_shown g_level g_layer g_depth g_parts g_edges g_operands g_units g_fault g_where g_partEdges b_stream b_length b_kind b_num b_matrix b_colour b_width b_clip b_paint b_painter b_running b_at b_saves b_below b_mixture b_beginX b_beginY b_endX b_endY b_fromX b_fromY b_toX b_toY b_operand)) := by
  obtain ⟨g_revisions, g_shown, g_level, g_layer, g_depth, g_parts, g_edges, g_operands, g_units, g_fault, g_where, g_partEdges, b_stream, b_length, b_kind, b_num, b_matrix, b_colour, b_width, b_clip, b_paint, b_painter, b_running, b_at, b_saves, b_below, b_mixture, b_beginX, b_beginY, b_endX, b_endY, b_fromX, b_fromY, b_toX, b_toY, b_operand⟩ := v
  intro h
  exact nm_r (nI_1 m) h
theorem y122 {post : Int32 → SY → Prop} {N m pl : Nat} {w : Int32} (hw : w ≠ 0) (h : YL post N (m + 1) (g_revisions, g_shown, g_level, g_layer, g_depth, g_parts, g_edges, g_operands, g_units, w, nI pl, g_partEdges, b_stream, b_length, b_kind, b_num, b_matrix, b_colour, b_width, b_clip, b_paint, b_painter, b_running, b_at, b_saves, b_below, b_mixture, b_beginX, b_beginY, b_endX, b_endY, b_fromX, b_fromY, b_toX, b_toY, b_operand)) : wY_advance_122 (fun u => match u with | (g_revisions, g_shown, g_level, g_layer, g_depth, g_parts, g_edges, g_operands, g_units, g_fault, g_where, g_partEdges, b_stream, b_length, b_kind, b_num, b_matrix, b_colour, b_width, b_clip, b_paint, b_painter, b_running, b_at, b_saves, b_below, b_mixture, b_beginX, b_beginY, b_endX, b_endY, b_fromX, b_fromY, b_toX, b_toY, b_operand) => ∀ x2 : Int32, x2 = nI m + 1 → wY_renderAt_141 post N x2 g_revisions g_shown g_level g_layer g_depth g_parts g_edges g_operands g_units g_fault g_where g_partEdges b_stream b_length b_kind b_num b_matrix b_colour b_width b_clip b_paint b_painter b_running b_at b_saves b_below b_mixture b_beginX b_beginY b_endX b_endY b_fromX b_fromY b_toX b_toY b_operand) (nI pl) g_revisions g_shown g_level g_layer g_depth g_parts g_edges g_operands g_units w g_where g_partEdges b_stream b_length b_kind b_num b_matrix b_colour b_width b_clip b_paint b_painter b_running b_at b_saves b_below b_mixture b_beginX b_beginY b_endX b_endY b_fromX b_fromY b_toX b_toY b_operand := by
  unfold wY_advance_122
  exact br_f hw (nm_r (nI_1 m) h)
theorem j_step {d : Nat} (h : (ec R K (d + 1) s l U f_drafted f_edges f_counted f_begun f_startX f_startY f_nowX f_nowY a_draftKind a_draftValue a_streamOf a_sizes a_before a_newest a_opCount a_ops a_opAt a_numbers a_running a_next a_floor a_mix a_matrix a_colour a_width a_clip a_x1 a_y1 a_x2 a_y2 a_extra a_pixels a_painter g_parts g_edges g_partEdges b_stream b_length b_kind b_num b_matrix b_clip b_running b_at b_saves b_below b_mixture b_beginX b_beginY b_endX b_endY b_fromX b_fromY b_toX b_toY)) :
    ∃ (v' : SY) (k : Nat), 1 ≤ k ∧ k ≤ 7 ∧ (∀ (post : Int32 → SY → Prop) (N m : Nat), m + k ≤ 20000 → YL post N (m + k) v' → YL post (N + k) m (nI R, nI K, nI s, nI l, nI (d + 1), g_parts, g_edges, 0, nI (200 - U), 0, -1, g_partEdges, b_stream, b_length, b_kind, b_num, b_matrix, a_colour, a_width, b_clip, a_pixels, a_painter, b_running, b_at, b_saves, b_below, b_mixture, b_beginX, b_beginY, b_endX, b_endY, b_fromX, b_fromY, b_toX, b_toY, b_operand)) ∧
      (∀ P : SX → Prop, (∀ u', (EXR R K (2 * U + (d + 1)) u' v' ∨ ST R u' v') → P u') → wpX_step P (f_drafted, nI R, nI (d + 1), nI K, nI s, f_edges, f_counted, f_begun, f_startX, f_startY, f_nowX, f_nowY, f_low, f_high, f_pointX, f_pointY, nI l, 0, -1, nI U, f_used, a_draftKind, a_draftValue, a_streamOf, a_sizes, a_before, a_newest, a_opCount, a_ops, a_opAt, a_numbers, a_running, a_next, a_floor, a_mix, a_matrix, a_colour, a_width, a_clip, a_x1, a_y1, a_x2, a_y2, a_extra, a_winding, a_crossings, a_pixels, a_painter)) := by
  have hE := h
  obtain ⟨hKR, hD, hS, hG, hP, hpx, hpt, hU⟩ := h
  have hS2 := hS
  obtain ⟨t1, t2, t3, t4⟩ := hS2
  have hR8 : R ≤ 8 := hD.1
  have hK8 : K ≤ 8 := by omega
  have hd7 : d < 7 := by omega
  have hl7 : l < 7 := by have := sk_l hS; omega
  obtain ⟨σ, φ, ς, μ, k1, k2, k3, k4, k5, k6, k7, k8, k9, k10, k11, k12, k13, k14, k15⟩ := t4 d (by omega)
  have k3' := k3
  rcases k3 with ⟨z, zn⟩ | ⟨r, q1, q2, q3, q4⟩
  · -- no revision
    obtain ⟨v', y1, x1⟩ := j_end (w := 0) (at' := b_at) (op' := b_operand) hE (fun _ _ => rfl)
    refine ⟨v', 1, by omega, by omega, fun post N m hm hy => ?_, fun P hp => xs_none hd7 z (x1 P hp)⟩
    rw [z] at k3'
    exact ya_step (by omega) (by omega) (ya_none hK8 hd7 k1 k2 k3' (y1 (fun u => match u with | (g_revisions, g_shown, g_level, g_layer, g_depth, g_parts, g_edges, g_operands, g_units, g_fault, g_where, g_partEdges, b_stream, b_length, b_kind, b_num, b_matrix, b_colour, b_width, b_clip, b_paint, b_painter, b_running, b_at, b_saves, b_below, b_mixture, b_beginX, b_beginY, b_endX, b_endY, b_fromX, b_fromY, b_toX, b_toY, b_operand) => (match (g_revisions, g_shown, g_level, g_layer, g_depth, g_parts, g_edges, g_operands, g_units, g_fault, g_where, g_partEdges, b_stream, b_length, b_kind, b_num, b_matrix, b_colour, b_width, b_clip, b_paint, b_painter, b_running, b_at, b_saves, b_below, b_mixture, b_beginX, b_beginY, b_endX, b_endY, b_fromX, b_fromY, b_toX, b_toY, b_operand) with | (g_revisions, g_shown, g_level, g_layer, g_depth, g_parts, g_edges, g_operands, g_units, g_fault, g_where, g_partEdges, b_stream, b_length, b_kind, b_num, b_matrix, b_colour, b_width, b_clip, b_paint, b_painter, b_running, b_at, b_saves, b_below, b_mixture, b_beginX, b_beginY, b_endX, b_endY, b_fromX, b_fromY, b_toX, b_toY, b_operand) => ∀ x2 : Int32, x2 = nI m + 1 → wY_renderAt_141 post N x2 g_revisions g_shown g_level g_layer g_depth g_parts g_edges g_operands g_units g_fault g_where g_partEdges b_stream b_length b_kind b_num b_matrix b_colour b_width b_clip b_paint b_painter b_running b_at b_saves b_below b_mixture b_beginX b_beginY b_endX b_endY b_fromX b_fromY b_toX b_toY b_operand)) (etaYN v' hy)))
  · obtain ⟨σ2, L, M, w1, w2, w3, w4, w5, w6, w7, TRr⟩ := hD.2.2.1 r (by omega)
    have eσ : σ2 = σ := nj_inj (w4.symm.trans q3) (by omega) (by omega)
    subst eσ
    obtain ⟨n, M', m1, m40, m2, m3, m4⟩ := k15 r q1 q2
    rw [q2] at k3'
    obtain ⟨g1, g2, g3, g4, g5, g6⟩ := TRr
    have eM : M' = M := nj_inj (m1.symm.trans w7) (by omega) (by omega)
    subst eM
    rcases Nat.lt_or_ge n M' with hn | hn
    · obtain ⟨q, κ, a1, a2, a3, a4, a5, a6, a7, a8⟩ := g2 n hn
      generalize hp : (fun n => a_opAt (40 * r + n)) = pf_ at *
      have a1' : a_opAt (40 * r + n) = nI q := by rw [← hp] at a1; exact a1
      obtain ⟨w, hw⟩ : ∃ w, q = stp pf_ n + w := ⟨q - stp pf_ n, by omega⟩
      obtain ⟨at', op', c1, c2, c3, _, c5⟩ := y_nums (g_revisions := nI R) (g_level := nI s) (g_layer := nI l) (g_parts := g_parts) (g_edges := g_edges) (g_units := nI (200 - U)) (g_where := -1) (g_partEdges := g_partEdges) (b_stream := b_stream) (b_length := b_length) (b_kind := b_kind) (b_num := b_num) (b_matrix := b_matrix) (b_colour := a_colour) (b_width := a_width) (b_clip := b_clip) (b_paint := a_pixels) (b_painter := a_painter) (b_running := b_running) (b_saves := b_saves) (b_below := b_below) (b_mixture := b_mixture) (b_beginX := b_beginX) (b_beginY := b_beginY) (b_endX := b_endX) (b_endY := b_endY) (b_fromX := b_fromX) (b_fromY := b_fromY) (b_toX := b_toX) (b_toY := b_toY) hK8 hd7 q1 w1 w2 k2 k3' w6 w 0 (stp pf_ n) b_at b_operand (by omega) (by omega) m4 (fun j j1 j2 => a5 j j1 (by omega))
      rw [← hw] at c1
      have hf : fl (nI (d + 1)) a_running (upd a_next d (nI (n + 1))) a_streamOf a_opAt (64 * σ2 + q) := ⟨d, r, n, σ2, q, rfl, hd7, q2, by omega, pk_us, by omega, w3, a1', rfl, w1, by omega⟩
      rw [Nat.zero_add] at c5
      -- a fault that is met for certain
      have fault1 : a_ops (40 * r + n) = 18 → (∀ (post : Int32 → SY → Prop) (N m : Nat), m < 20000 → YL post N (m + 1) (nI R, nI K, nI s, nI l, nI (d + 1), g_parts, g_edges, nI w, nI (200 - U), 1, nI (64 * σ2 + q), g_partEdges, b_stream, b_length, b_kind, b_num, b_matrix, a_colour, a_width, b_clip, a_pixels, a_painter, b_running, upd at' d (nI (q + 1)), b_saves, b_below, b_mixture, b_beginX, b_beginY, b_endX, b_endY, b_fromX, b_fromY, b_toX, b_toY, op') → YL post (N + 1) m (nI R, nI K, nI s, nI l, nI (d + 1), g_parts, g_edges, nI w, nI (200 - U), 0, -1, g_partEdges, b_stream, b_length, b_kind, b_num, b_matrix, a_colour, a_width, b_clip, a_pixels, a_painter, b_running, at', b_saves, b_below, b_mixture, b_beginX, b_beginY, b_endX, b_endY, b_fromX, b_fromY, b_toX, b_toY, op')) →
          ∃ (v' : SY) (k : Nat), 1 ≤ k ∧ k ≤ 7 ∧ (∀ (post : Int32 → SY → Prop) (N m : Nat), m + k ≤ 20000 → YL post N (m + k) v' → YL post (N + k) m (nI R, nI K, nI s, nI l, nI (d + 1), g_parts, g_edges, 0, nI (200 - U), 0, -1, g_partEdges, b_stream, b_length, b_kind, b_num, b_matrix, a_colour, a_width, b_clip, a_pixels, a_painter, b_running, b_at, b_saves, b_below, b_mixture, b_beginX, b_beginY, b_endX, b_endY, b_fromX, b_fromY, b_toX, b_toY, b_operand)) ∧
            (∀ P : SX → Prop, (∀ u', (EXR R K (2 * U + (d + 1)) u' v' ∨ ST R u' v') → P u') → wpX_step P (f_drafted, nI R, nI (d + 1), nI K, nI s, f_edges, f_counted, f_begun, f_startX, f_startY, f_nowX, f_nowY, f_low, f_high, f_pointX, f_pointY, nI l, 0, -1, nI U, f_used, a_draftKind, a_draftValue, a_streamOf, a_sizes, a_before, a_newest, a_opCount, a_ops, a_opAt, a_numbers, a_running, a_next, a_floor, a_mix, a_matrix, a_colour, a_width, a_clip, a_x1, a_y1, a_x2, a_y2, a_extra, a_winding, a_crossings, a_pixels, a_painter)) := by
        intro b1 b2
        refine ⟨(nI R, nI K, nI s, nI l, nI (d + 1), g_parts, g_edges, nI w, nI (200 - U), 1, nI (64 * σ2 + q), g_partEdges, b_stream, b_length, b_kind, b_num, b_matrix, a_colour, a_width, b_clip, a_pixels, a_painter, b_running, upd at' d (nI (q + 1)), b_saves, b_below, b_mixture, b_beginX, b_beginY, b_endX, b_endY, b_fromX, b_fromY, b_toX, b_toY, op'), w + 1, by omega, by omega, fun post N m hm hy => ?_, fun P hp => ?_⟩
        · rw [show N + (w + 1) = N + 1 + w by omega]
          exact c5 post (N + 1) m (by omega) (b2 post N (m + w) (by omega) hy)
        · exact xs_bad hd7 (by omega) hn m40 q2 m3 m1 b1 hf (hp _ (Or.inr (st_mk (Or.inl (by decide)) hU hD hG.2.2.1 hG.2.2.2.1 hpx hpt)))
      rcases a8 with ⟨e1, e2, e3⟩ | ⟨e1, e2, e3⟩ | ⟨e1, e2, e3⟩
      · refine fault1 e3 (fun post N m hm hy => ?_)
        have w6' : w = 6 := by omega
        subst w6'
        subst e1
        refine ya_step hm (by omega) (ya_num (t := q) hK8 hd7 q1 w1 w2 a2 k2 k3' w6 c1 a6 ?_)
        unfold wpY_number
        exact br_t rfl (y122 (by decide) hy)
      · have ew : w = wnt κ := by omega
        subst ew
        rcases Nat.eq_zero_or_pos U with u0 | u0
        · subst u0
          refine ⟨(nI R, nI K, nI s, nI l, nI (d + 1), g_parts, g_edges, 0, nI (200 - 0), 2, nI (64 * σ2 + q), g_partEdges, b_stream, b_length, b_kind, b_num, b_matrix, a_colour, a_width, b_clip, a_pixels, a_painter, b_running, upd at' d (nI (q + 1)), b_saves, b_below, b_mixture, b_beginX, b_beginY, b_endX, b_endY, b_fromX, b_fromY, b_toX, b_toY, op'), wnt κ + 1, by omega, by omega, fun post N m hm hy => ?_, fun P hp => ?_⟩
          · rw [show N + (wnt κ + 1) = N + 1 + wnt κ by omega]
            refine c5 post (N + 1) m (by omega) (ya_step (by omega) (by omega) (ya_op (t := q) hK8 hd7 q1 w1 w2 a2 k2 k3' w6 c1 a6 e1 a7 ?_))
            unfold wpY_operator
            exact yy_wanted a7 (br_t rfl (br_t (by decide) (y122 (by decide) hy)))
          · exact xs_time hd7 (by omega) hn m40 q2 m3 m1 e3 a7 hf (hp _ (Or.inr (st_mk (Or.inl (by decide)) hU hD hG.2.2.1 hG.2.2.2.1 hpx hpt)))
        · obtain ⟨U', rfl⟩ : ∃ U', U = U' + 1 := ⟨U - 1, by omega⟩
          have hS' := sk_next (at' := upd at' d (nI (q + 1))) (r := r) (n := n) (M := M') hS q2 hK8 m1 m40 (by omega) (by
            rw [pk_us, hp]
            show _ = nI ((pf_ n).toNatClampNeg + 1)
            rw [a1, nI_clamp (by omega)]) (fun e he => by rw [pk_un he]; exact c2 e he) q1
          have O := opr_all (f_drafted := f_drafted) (f_edges := f_edges) (f_counted := f_counted) (f_begun := f_begun) (f_startX := f_startX) (f_startY := f_startY) (f_nowX := f_nowX) (f_nowY := f_nowY) (f_low := f_low) (f_high := f_high) (f_pointX := f_pointX) (f_pointY := f_pointY) (f_used := f_used) (a_draftKind := a_draftKind) (a_draftValue := a_draftValue) (a_streamOf := a_streamOf) (a_sizes := a_sizes) (a_before := a_before) (a_newest := a_newest) (a_opCount := a_opCount) (a_ops := a_ops) (a_opAt := a_opAt) (a_numbers := a_numbers) (a_running := a_running) (a_next := upd a_next d (nI (n + 1))) (a_floor := a_floor) (a_mix := a_mix) (a_matrix := a_matrix) (a_colour := a_colour) (a_width := a_width) (a_clip := a_clip) (a_x1 := a_x1) (a_y1 := a_y1) (a_x2 := a_x2) (a_y2 := a_y2) (a_extra := a_extra) (a_winding := a_winding) (a_crossings := a_crossings) (a_pixels := a_pixels) (a_painter := a_painter) (g_parts := g_parts) (g_edges := g_edges) (g_partEdges := g_partEdges) (b_stream := b_stream) (b_length := b_length) (b_kind := b_kind) (b_num := b_num) (b_matrix := b_matrix) (b_clip := b_clip) (b_running := b_running) (b_at := upd at' d (nI (q + 1))) (b_saves := b_saves) (b_below := b_below) (b_mixture := b_mixture) (b_beginX := b_beginX) (b_beginY := b_beginY) (b_endX := b_endX) (b_endY := b_endY) (b_fromX := b_fromX) (b_fromY := b_fromY) (b_toX := b_toX) (b_toY := b_toY) (b_operand := op') (R := R) (K := K) (D := d + 1) (s := s) (l := l) (U := U') (pl := 64 * σ2 + q) (a := 40 * r + q - wnt κ) (κ := κ) (by omega) a7 ⟨hKR, hD, hS', hG, hP, hpx, hpt, by omega⟩ hf hl7 (by omega) (by omega) (by omega) ?_
          · obtain ⟨v', y1, x1⟩ := O
            refine ⟨aw (64 * σ2 + q) v', wnt κ + 1, by omega, by have := wnt_6 κ; omega, fun post N m hm hy => ?_, fun P hp => ?_⟩
            · rw [show N + (wnt κ + 1) = N + 1 + wnt κ by omega]
              refine c5 post (N + 1) m (by omega) (ya_step (by omega) (by omega) (ya_op (t := q) hK8 hd7 q1 w1 w2 a2 k2 k3' w6 c1 a6 e1 a7 ?_))
              rw [show 200 - (U' + 1) = 199 - U' by omega]
              exact y1 (fun u => match u with | (g_revisions, g_shown, g_level, g_layer, g_depth, g_parts, g_edges, g_operands, g_units, g_fault, g_where, g_partEdges, b_stream, b_length, b_kind, b_num, b_matrix, b_colour, b_width, b_clip, b_paint, b_painter, b_running, b_at, b_saves, b_below, b_mixture, b_beginX, b_beginY, b_endX, b_endY, b_fromX, b_fromY, b_toX, b_toY, b_operand) => wY_advance_122 (fun u => match u with | (g_revisions, g_shown, g_level, g_layer, g_depth, g_parts, g_edges, g_operands, g_units, g_fault, g_where, g_partEdges, b_stream, b_length, b_kind, b_num, b_matrix, b_colour, b_width, b_clip, b_paint, b_painter, b_running, b_at, b_saves, b_below, b_mixture, b_beginX, b_beginY, b_endX, b_endY, b_fromX, b_fromY, b_toX, b_toY, b_operand) => ∀ x2 : Int32, x2 = nI (m + wnt κ) + 1 → wY_renderAt_141 post N x2 g_revisions g_shown g_level g_layer g_depth g_parts g_edges g_operands g_units g_fault g_where g_partEdges b_stream b_length b_kind b_num b_matrix b_colour b_width b_clip b_paint b_painter b_running b_at b_saves b_below b_mixture b_beginX b_beginY b_endX b_endY b_fromX b_fromY b_toX b_toY b_operand) (nI (64 * σ2 + q)) g_revisions g_shown g_level g_layer g_depth g_parts g_edges g_operands g_units g_fault g_where g_partEdges b_stream b_length b_kind b_num b_matrix b_colour b_width b_clip b_paint b_painter b_running b_at b_saves b_below b_mixture b_beginX b_beginY b_endX b_endY b_fromX b_fromY b_toX b_toY b_operand) (aw_ok v' hy)
            · refine xs_op hd7 (by omega) hn m40 q2 m3 m1 e3 a1' (by omega) a7 (by omega) (by omega) (by omega) (x1 _ (fun u' hu => etaX u' (hp u' ?_)))
              rcases hu with hu | hu
              · rw [show 2 * U' + (d + 1) + 2 = 2 * (U' + 1) + (d + 1) by omega] at hu
                exact Or.inl (ex_aw u' v' hu)
              · exact Or.inr (st_aw u' v' hu)
          · intro i hi
            obtain ⟨z, z1, z2, z3⟩ := (g6 (stp pf_ n + i) (by omega)).2 (a5 _ (by omega) (by omega))
            refine ⟨z, z1, ?_, ?_⟩
            · rw [show 40 * r + q - wnt κ + i = 40 * r + (stp pf_ n + i) by omega]; exact z2
            · have := c3 i hi
              rw [Nat.zero_add] at this
              rw [this]; exact z3
      · refine fault1 e3 (fun post N m hm hy => ?_)
        refine ya_step hm (by omega) (ya_op (t := q) hK8 hd7 q1 w1 w2 a2 k2 k3' w6 c1 a6 e1 a7 ?_)
        unfold wpY_operator
        refine yy_wanted a7 (br_f ?_ (y122 (by decide) hy))
        have := wnt_6 κ
        rw [nI_eq (by omega) (by omega)]; omega
    · have en : n = M' := by omega
      subst en
      generalize hp : (fun n => a_opAt (40 * r + n)) = pf_ at *
      obtain ⟨w, hw⟩ : ∃ w, L = stp pf_ n + w := ⟨L - stp pf_ n, by omega⟩
      obtain ⟨at', op', c1, c2, c3, _, c5⟩ := y_nums (g_revisions := nI R) (g_level := nI s) (g_layer := nI l) (g_parts := g_parts) (g_edges := g_edges) (g_units := nI (200 - U)) (g_where := -1) (g_partEdges := g_partEdges) (b_stream := b_stream) (b_length := b_length) (b_kind := b_kind) (b_num := b_num) (b_matrix := b_matrix) (b_colour := a_colour) (b_width := a_width) (b_clip := b_clip) (b_paint := a_pixels) (b_painter := a_painter) (b_running := b_running) (b_saves := b_saves) (b_below := b_below) (b_mixture := b_mixture) (b_beginX := b_beginX) (b_beginY := b_beginY) (b_endX := b_endX) (b_endY := b_endY) (b_fromX := b_fromX) (b_fromY := b_fromY) (b_toX := b_toX) (b_toY := b_toY) hK8 hd7 q1 w1 w2 k2 k3' w6 w 0 (stp pf_ n) b_at b_operand (by omega) (by omega) m4 (fun j j1 j2 => g5 j j1 (by omega))
      rw [← hw] at c1
      rw [Nat.zero_add] at c5
      obtain ⟨v', y1, x1⟩ := j_end (w := w) (at' := at') (op' := op') hE c2
      refine ⟨v', w + 1, by omega, by omega, fun post N m hm hy => ?_, fun P hp => xs_end hd7 (by omega) q2 m3 m1 (x1 P hp)⟩
      rw [show N + (w + 1) = N + 1 + w by omega]
      refine c5 post (N + 1) m (by omega) (ya_step (by omega) (by omega) (ya_end hK8 hd7 q1 w1 w2 k2 k3' w6 c1 ?_))
      exact y1 (fun u => match u with | (g_revisions, g_shown, g_level, g_layer, g_depth, g_parts, g_edges, g_operands, g_units, g_fault, g_where, g_partEdges, b_stream, b_length, b_kind, b_num, b_matrix, b_colour, b_width, b_clip, b_paint, b_painter, b_running, b_at, b_saves, b_below, b_mixture, b_beginX, b_beginY, b_endX, b_endY, b_fromX, b_fromY, b_toX, b_toY, b_operand) => (match (g_revisions, g_shown, g_level, g_layer, g_depth, g_parts, g_edges, g_operands, g_units, g_fault, g_where, g_partEdges, b_stream, b_length, b_kind, b_num, b_matrix, b_colour, b_width, b_clip, b_paint, b_painter, b_running, b_at, b_saves, b_below, b_mixture, b_beginX, b_beginY, b_endX, b_endY, b_fromX, b_fromY, b_toX, b_toY, b_operand) with | (g_revisions, g_shown, g_level, g_layer, g_depth, g_parts, g_edges, g_operands, g_units, g_fault, g_where, g_partEdges, b_stream, b_length, b_kind, b_num, b_matrix, b_colour, b_width, b_clip, b_paint, b_painter, b_running, b_at, b_saves, b_below, b_mixture, b_beginX, b_beginY, b_endX, b_endY, b_fromX, b_fromY, b_toX, b_toY, b_operand) => ∀ x2 : Int32, x2 = nI (m + w) + 1 → wY_renderAt_141 post N x2 g_revisions g_shown g_level g_layer g_depth g_parts g_edges g_operands g_units g_fault g_where g_partEdges b_stream b_length b_kind b_num b_matrix b_colour b_width b_clip b_paint b_painter b_running b_at b_saves b_below b_mixture b_beginX b_beginY b_endX b_endY b_fromX b_fromY b_toX b_toY b_operand)) (etaYN v' hy)
end
end
section
/-! the loops of renderAt in lockstep -/
section
variable {f_drafted f_revisions f_depth f_known f_saved f_edges f_counted f_begun f_startX f_startY f_nowX f_nowY f_low f_high f_pointX f_pointY f_layer f_fault f_faultAt f_units f_used : Int32} {a_draftKind a_draftValue a_streamOf a_sizes a_before a_newest a_opCount a_ops a_opAt a_numbers a_running a_next a_floor a_mix a_matrix a_colour a_width a_clip a_x1 a_y1 a_x2 a_y2 a_extra a_winding a_crossings a_pixels a_painter : Nat → Int32}
variable {g_revisions g_shown g_level g_layer g_depth g_parts g_edges g_operands g_units g_fault g_where g_partEdges : Int32} {b_stream b_length b_kind b_num b_matrix b_colour b_width b_clip b_paint b_painter b_running b_at b_saves b_below b_mixture b_beginX b_beginY b_endX b_endY b_fromX b_fromY b_toX b_toY b_operand : Nat → Int32}
variable {R K : Nat}
/-- between two calls -/
def IR (R : Nat) (u : SX) (v : SY) : Prop := match u, v with
  | (f_drafted, f_revisions, f_depth, f_known, f_saved, f_edges, f_counted, f_begun, f_startX, f_startY, f_nowX, f_nowY, f_low, f_high, f_pointX, f_pointY, f_layer, f_fault, f_faultAt, f_units, f_used, a_draftKind, a_draftValue, a_streamOf, a_sizes, a_before, a_newest, a_opCount, a_ops, a_opAt, a_numbers, a_running, a_next, a_floor, a_mix, a_matrix, a_colour, a_width, a_clip, a_x1, a_y1, a_x2, a_y2, a_extra, a_winding, a_crossings, a_pixels, a_painter), (g_revisions, g_shown, g_level, g_layer, g_depth, g_parts, g_edges, g_operands, g_units, g_fault, g_where, g_partEdges, b_stream, b_length, b_kind, b_num, b_matrix, b_colour, b_width, b_clip, b_paint, b_painter, b_running, b_at, b_saves, b_below, b_mixture, b_beginX, b_beginY, b_endX, b_endY, b_fromX, b_fromY, b_toX, b_toY, b_operand) => f_revisions = nI R ∧ g_revisions = nI R ∧ g_where = f_faultAt ∧ g_units = f_used ∧ b_colour = a_colour ∧ b_width = a_width ∧ b_paint = a_pixels ∧ b_painter = a_painter ∧ (dc R f_drafted a_draftKind a_draftValue a_streamOf a_sizes a_before a_newest a_opCount a_ops a_opAt a_numbers b_stream b_length b_kind b_num) ∧
      (∀ i, 0 ≤ (a_colour i).toInt ∧ (a_colour i).toInt ≤ 255) ∧ (∀ i, 0 ≤ (a_width i).toInt ∧ (a_width i).toInt ≤ 60) ∧ pxr a_pixels ∧ ptr a_painter
theorem etaXN {post : Int32 → SX → Prop} {N n : Nat} (u : SX) : XL post N (n + 1) u → (match u with | (f_drafted, f_revisions, f_depth, f_known, f_saved, f_edges, f_counted, f_begun, f_startX, f_startY, f_nowX, f_nowY, f_low, f_high, f_pointX, f_pointY, f_layer, f_fault, f_faultAt, f_units, f_used, a_draftKind, a_draftValue, a_streamOf, a_sizes, a_before, a_newest, a_opCount, a_ops, a_opAt, a_numbers, a_running, a_next, a_floor, a_mix, a_matrix, a_colour, a_width, a_clip, a_x1, a_y1, a_x2, a_y2, a_extra, a_winding, a_crossings, a_pixels, a_painter) => ∀ x2 : Int32, x2 = nI n + 1 → wX_renderAt_139 post N x2 f_drafted f_revisions f_depth f_known f_saved f_edges f_counted f_begun f_startX f_startY f_nowX f_nowY f_low f_high f_pointX f_pointY f_layer f_fault f_faultAt f_units f_used a_draftKind a_draftValue a_streamOf a_sizes a_before a_newest a_opCount a_ops a_opAt a_numbers a_running a_next a_floor a_mix a_matrix a_colour a_width a_clip a_x1 a_y1 a_x2 a_y2 a_extra a_winding a_crossings a_pixels a_painter) := by
  obtain ⟨f_drafted, f_revisions, f_depth, f_known, f_saved, f_edges, f_counted, f_begun, f_startX, f_startY, f_nowX, f_nowY, f_low, f_high, f_pointX, f_pointY, f_layer, f_fault, f_faultAt, f_units, f_used, a_draftKind, a_draftValue, a_streamOf, a_sizes, a_before, a_newest, a_opCount, a_ops, a_opAt, a_numbers, a_running, a_next, a_floor, a_mix, a_matrix, a_colour, a_width, a_clip, a_x1, a_y1, a_x2, a_y2, a_extra, a_winding, a_crossings, a_pixels, a_painter⟩ := u
  intro h
  exact nm_r (nI_1 n) h
theorem st_run {post : Int32 → SX → Prop} {N n N' m : Nat} (hn : n < 1000) (hm : m < 20000) (u : SX) (v : SY) : ST R u v → (∀ r u', (∀ Q : Int32 → SY → Prop, (∀ v', IR R u' v' → Q r v') → YL Q (N' + 1) m v) → post r u') → XL post (N + 1) n u := by
  obtain ⟨f_drafted, f_revisions, f_depth, f_known, f_saved, f_edges, f_counted, f_begun, f_startX, f_startY, f_nowX, f_nowY, f_low, f_high, f_pointX, f_pointY, f_layer, f_fault, f_faultAt, f_units, f_used, a_draftKind, a_draftValue, a_streamOf, a_sizes, a_before, a_newest, a_opCount, a_ops, a_opAt, a_numbers, a_running, a_next, a_floor, a_mix, a_matrix, a_colour, a_width, a_clip, a_x1, a_y1, a_x2, a_y2, a_extra, a_winding, a_crossings, a_pixels, a_painter⟩ := u
  obtain ⟨g_revisions, g_shown, g_level, g_layer, g_depth, g_parts, g_edges, g_operands, g_units, g_fault, g_where, g_partEdges, b_stream, b_length, b_kind, b_num, b_matrix, b_colour, b_width, b_clip, b_paint, b_painter, b_running, b_at, b_saves, b_below, b_mixture, b_beginX, b_beginY, b_endX, b_endY, b_fromX, b_fromY, b_toX, b_toY, b_operand⟩ := v
  rintro ⟨U, e1, e2, e3, e4, e5, e6, e7, e8, e9, e10, e11, e12, e13, e14, e15, e16, e17⟩ hpost
  have uu : (200 : Int32) - f_units = g_units := by
    rw [e3, e4, show (200 : Int32) = nI 200 from rfl, pk_sub e5]
  have fin : wX_renderAt_170 post f_drafted f_revisions f_depth f_known f_saved f_edges f_counted f_begun f_startX f_startY f_nowX f_nowY f_low f_high f_pointX f_pointY f_layer f_fault f_faultAt f_units f_used a_draftKind a_draftValue a_streamOf a_sizes a_before a_newest a_opCount a_ops a_opAt a_numbers a_running a_next a_floor a_mix a_matrix a_colour a_width a_clip a_x1 a_y1 a_x2 a_y2 a_extra a_winding a_crossings a_pixels a_painter := by
    unfold wX_renderAt_170
    refine nm_r uu (hpost _ _ (fun Q hQ => ?_))
    show wY_renderAt_141 Q (N' + 1) (nI m) g_revisions g_shown g_level g_layer g_depth g_parts g_edges g_operands g_units g_fault g_where g_partEdges b_stream b_length b_kind b_num b_matrix b_colour b_width b_clip b_paint b_painter b_running b_at b_saves b_below b_mixture b_beginX b_beginY b_endX b_endY b_fromX b_fromY b_toX b_toY b_operand
    rw [wY_renderAt_141]
    have hq : Q g_fault (g_revisions, g_shown, g_level, g_layer, g_depth, g_parts, g_edges, g_operands, g_units, g_fault, g_where, g_partEdges, b_stream, b_length, b_kind, b_num, b_matrix, b_colour, b_width, b_clip, b_paint, b_painter, b_running, b_at, b_saves, b_below, b_mixture, b_beginX, b_beginY, b_endX, b_endY, b_fromX, b_fromY, b_toX, b_toY, b_operand) := by
      rw [e7]
      exact hQ _ ⟨e1, e2, e8, rfl, e9, e10, e11, e12, e13, e14, e15, e16, e17⟩
    refine br_f (nI_ge (b := 20000) hm (by omega)) (br_c (fun _ => hq) (fun z => br_c (fun z2 => ?_) (fun _ => hq)))
    exfalso
    rcases e6 with e6 | ⟨_, e6⟩
    · rw [e7] at z2; exact e6 z2
    · rw [e6] at z; exact z (by decide)
  show wX_renderAt_139 post (N + 1) (nI n) f_drafted f_revisions f_depth f_known f_saved f_edges f_counted f_begun f_startX f_startY f_nowX f_nowY f_low f_high f_pointX f_pointY f_layer f_fault f_faultAt f_units f_used a_draftKind a_draftValue a_streamOf a_sizes a_before a_newest a_opCount a_ops a_opAt a_numbers a_running a_next a_floor a_mix a_matrix a_colour a_width a_clip a_x1 a_y1 a_x2 a_y2 a_extra a_winding a_crossings a_pixels a_painter
  rw [wX_renderAt_139]
  refine br_f (nI_ge (b := 1000) hn (by omega)) (br_c (fun _ => fin) (fun z => br_c (fun z2 => ?_) (fun _ => fin)))
  exfalso
  rcases e6 with e6 | ⟨e6, _⟩
  · exact e6 z2
  · rw [e6] at z; exact z (by decide)
theorem exr_mono {M M' : Nat} (h : M ≤ M') {u : SX} {v : SY} : EXR R K M u v → EXR R K M' u v := by
  rintro ⟨D, s, l, U, h1, h2⟩
  exact ⟨D, s, l, U, by omega, h2⟩
theorem run_all : ∀ (M : Nat) {u : SX} {v : SY}, EXR R K M u v → ∀ (n m N N' : Nat), n + M ≤ 900 → m + 7 * M ≤ 19000 → M < N → 7 * M < N' → ∀ post : Int32 → SX → Prop, (∀ r u', (∀ Q : Int32 → SY → Prop, (∀ v', IR R u' v' → Q r v') → YL Q N' m v) → post r u') → XL post N n u := by
  intro M
  induction M with
  | zero =>
    rintro u v ⟨D, s, l, U, h1, _⟩
    omega
  | succ M ih =>
    intro u v hx
    refine exr_el (P := fun u v => ∀ (n m N N' : Nat), n + (M + 1) ≤ 900 → m + 7 * (M + 1) ≤ 19000 → M + 1 < N → 7 * (M + 1) < N' → ∀ post : Int32 → SX → Prop, (∀ r u', (∀ Q : Int32 → SY → Prop, (∀ v', IR R u' v' → Q r v') → YL Q N' m v) → post r u') → XL post N n u) ?_ hx
    intro D s l U hM f_drafted _ _ _ _ f_edges f_counted f_begun f_startX f_startY f_nowX f_nowY f_low f_high f_pointX f_pointY _ _ _ _ f_used _ _ _ _ _ g_parts g_edges _ _ _ _ g_partEdges a_draftKind a_draftValue a_streamOf a_sizes a_before a_newest a_opCount a_ops a_opAt a_numbers a_running a_next a_floor a_mix a_matrix a_colour a_width a_clip a_x1 a_y1 a_x2 a_y2 a_extra a_winding a_crossings a_pixels a_painter b_stream b_length b_kind b_num b_matrix b_colour b_width b_clip b_paint b_painter b_running b_at b_saves b_below b_mixture b_beginX b_beginY b_endX b_endY b_fromX b_fromY b_toX b_toY b_operand hE n m N N' c1 c2 c3 c4 post hpost
    obtain ⟨N, rfl⟩ : ∃ N0, N = N0 + 1 := ⟨N - 1, by omega⟩
    rcases Nat.eq_zero_or_pos D with d0 | d0
    · subst d0
      obtain ⟨N', rfl⟩ : ∃ N0, N' = N0 + 1 := ⟨N' - 1, by omega⟩
      obtain ⟨hKR, hD, hS, hG, hP, hpx, hpt, hU⟩ := hE
      exact st_run (by omega) (by omega) _ _ (st_mk (Or.inr ⟨rfl, rfl⟩) hU hD hG.2.2.1 hG.2.2.2.1 hpx hpt) hpost
    · obtain ⟨d, rfl⟩ : ∃ d, D = d + 1 := ⟨D - 1, by omega⟩
      obtain ⟨v', k, k1, k7, y1, x1⟩ := j_step (f_drafted := f_drafted) (f_edges := f_edges) (f_counted := f_counted) (f_begun := f_begun) (f_startX := f_startX) (f_startY := f_startY) (f_nowX := f_nowX) (f_nowY := f_nowY) (f_low := f_low) (f_high := f_high) (f_pointX := f_pointX) (f_pointY := f_pointY) (f_used := f_used) (a_draftKind := a_draftKind) (a_draftValue := a_draftValue) (a_streamOf := a_streamOf) (a_sizes := a_sizes) (a_before := a_before) (a_newest := a_newest) (a_opCount := a_opCount) (a_ops := a_ops) (a_opAt := a_opAt) (a_numbers := a_numbers) (a_running := a_running) (a_next := a_next) (a_floor := a_floor) (a_mix := a_mix) (a_matrix := a_matrix) (a_colour := a_colour) (a_width := a_width) (a_clip := a_clip) (a_x1 := a_x1) (a_y1 := a_y1) (a_x2 := a_x2) (a_y2 := a_y2) (a_extra := a_extra) (a_winding := a_winding) (a_crossings := a_crossings) (a_pixels := a_pixels) (a_painter := a_painter) (g_parts := g_parts) (g_edges := g_edges) (g_partEdges := g_partEdges) (b_stream := b_stream) (b_length := b_length) (b_kind := b_kind) (b_num := b_num) (b_matrix := b_matrix) (b_clip := b_clip) (b_running := b_running) (b_at := b_at) (b_saves := b_saves) (b_below := b_below) (b_mixture := b_mixture) (b_beginX := b_beginX) (b_beginY := b_beginY) (b_endX := b_endX) (b_endY := b_endY) (b_fromX := b_fromX) (b_fromY := b_fromY) (b_toX := b_toX) (b_toY := b_toY) (b_operand := b_operand) hE
      show wX_renderAt_139 post (N + 1) (nI n) f_drafted (nI R) (nI (d + 1)) (nI K) (nI s) f_edges f_counted f_begun f_startX f_startY f_nowX f_nowY f_low f_high f_pointX f_pointY (nI l) 0 (-1) (nI U) f_used a_draftKind a_draftValue a_streamOf a_sizes a_before a_newest a_opCount a_ops a_opAt a_numbers a_running a_next a_floor a_mix a_matrix a_colour a_width a_clip a_x1 a_y1 a_x2 a_y2 a_extra a_winding a_crossings a_pixels a_painter
      rw [wX_renderAt_139]
      have hd7 : d < 7 := by
        have := hE.2.2.1.1
        omega
      refine br_f (nI_ge (b := 1000) (by omega) (by omega)) (br_f (nI_nle (by omega) (by omega)) (br_t rfl (x1 _ (fun u' hu => etaXN u' ?_))))
      have hpost' : ∀ r u'', (∀ Q : Int32 → SY → Prop, (∀ v'', IR R u'' v'' → Q r v'') → YL Q (N' - k) (m + k) v') → post r u'' := by
        intro r u'' hq
        refine hpost r u'' (fun Q hQ => ?_)
        have := y1 Q (N' - k) m (by omega) (hq Q hQ)
        rw [show N' - k + k = N' by omega] at this
        exact this
      rcases hu with hu | hu
      · exact ih (exr_mono (by omega) hu) (n + 1) (m + k) N (N' - k) (by omega) (by omega) (by omega) (by omega) post hpost'
      · obtain ⟨N1, e1⟩ : ∃ N1, N = N1 + 1 := ⟨N - 1, by omega⟩
        obtain ⟨N2, e2⟩ : ∃ N2, N' - k = N2 + 1 := ⟨N' - k - 1, by omega⟩
        rw [e2] at hpost'
        rw [e1]
        exact st_run (by omega) (by omega) u' v' hu hpost'
end
end
section
/-! renderAt: what both sides set up, then the loops -/
def im (M : Nat → Int32) (m : Nat) : Nat → Int32 := fun q => if q < m then (if q = 0 ∨ q = 3 then 1 else 0) else M q
def ic (x : Int32) (C : Nat → Int32) (m : Nat) : Nat → Int32 := fun q => if q < m then x else C q
theorem im_0 (M : Nat → Int32) : im M 0 = M := by
  funext q
  exact if_neg (by omega)
theorem ic_0 (x : Int32) (C : Nat → Int32) : ic x C 0 = C := by
  funext q
  exact if_neg (by omega)
theorem im_s {M : Nat → Int32} {m : Nat} {x : Int32} (hx : x = if m = 0 ∨ m = 3 then 1 else 0) : upd (im M m) m x = im M (m + 1) := by
  funext q
  by_cases e : q = m
  · subst e
    rw [pk_us, hx]
    unfold im
    rw [if_pos (c := q < q + 1) (by omega)]
  · rw [pk_un e]
    unfold im
    by_cases c : q < m
    · rw [if_pos c, if_pos (c := q < m + 1) (by omega)]
    · rw [if_neg c, if_neg (c := q < m + 1) (by omega)]
theorem ic_s {x : Int32} {C : Nat → Int32} {m : Nat} : upd (ic x C m) m x = ic x C (m + 1) := by
  funext q
  by_cases e : q = m
  · subst e
    rw [pk_us]
    exact (if_pos (by omega)).symm
  · rw [pk_un e]
    unfold ic
    by_cases c : q < m
    · rw [if_pos c, if_pos (by omega)]
    · rw [if_neg c, if_neg (by omega)]
theorem vs_i1 : vp_nar .short ((1 : Int32).toInt16.toInt32) = 1 := by rw [vp_nar_short]; decide
theorem vs_i0 : vp_nar .short ((0 : Int32).toInt16.toInt32) = 0 := by rw [vp_nar_short]; decide
theorem vs_1 : vp_nar .short 1 = 1 := by rw [vp_nar_short]; decide
theorem vb_4 : vp_nar .byte 4 = 4 := by rw [vp_nar_byte]; decide
theorem vc_f : vp_nar .char 65535 = 65535 := by rw [vp_nar_char]; decide
section
variable {f_drafted f_revisions f_depth f_known f_saved f_edges f_counted f_begun f_startX f_startY f_nowX f_nowY f_low f_high f_pointX f_pointY f_layer f_fault f_faultAt f_units f_used : Int32} {a_draftKind a_draftValue a_streamOf a_sizes a_before a_newest a_opCount a_ops a_opAt a_numbers a_running a_next a_floor a_mix a_matrix a_colour a_width a_clip a_x1 a_y1 a_x2 a_y2 a_extra a_winding a_crossings a_pixels a_painter : Nat → Int32}
theorem xr_107 {R K : Nat} {st : Nat → Int32} {post : Int32 → SX → Prop} (hK : K ≤ R) (hR : R ≤ 8) (hn : NW st 0 R (a_newest 0)) (hb : ∀ r, r < R → st r = nI 0 → NW st 0 r (a_before r))
    (H : ∀ x, NW st 0 K x → ∃ n, wX_renderAt_139 post n 0 f_drafted f_revisions (nI (0 + 1)) (nI K) (nI 0) 0 0 0 f_startX f_startY f_nowX f_nowY f_low f_high f_pointX f_pointY f_layer f_fault f_faultAt f_units f_used a_draftKind a_draftValue a_streamOf a_sizes a_before a_newest a_opCount a_ops a_opAt a_numbers (upd a_running 0 x) (upd a_next 0 0) (upd a_floor 0 (nI 0)) (upd a_mix 0 (iZ (-1))) a_matrix a_colour a_width (ic 65535 a_clip 12) a_x1 a_y1 a_x2 a_y2 a_extra a_winding a_crossings a_pixels a_painter) :
    ∃ n, wX_renderAt_107 post f_drafted f_revisions 0 (nI K) 0 f_edges f_counted f_begun f_startX f_startY f_nowX f_nowY f_low f_high f_pointX f_pointY f_layer f_fault f_faultAt f_units f_used n 0 a_draftKind a_draftValue a_streamOf a_sizes a_before a_newest a_opCount a_ops a_opAt a_numbers a_running a_next a_floor a_mix a_matrix a_colour a_width a_clip a_x1 a_y1 a_x2 a_y2 a_extra a_winding a_crossings a_pixels a_painter := by
  have loop : ∀ d m, m + d = 12 → ∀ n, d < n → wX_renderAt_107 post f_drafted f_revisions 0 (nI K) 0 f_edges f_counted f_begun f_startX f_startY f_nowX f_nowY f_low f_high f_pointX f_pointY f_layer f_fault f_faultAt f_units f_used n (nI m) a_draftKind a_draftValue a_streamOf a_sizes a_before a_newest a_opCount a_ops a_opAt a_numbers a_running a_next a_floor a_mix a_matrix a_colour a_width (ic 65535 a_clip m) a_x1 a_y1 a_x2 a_y2 a_extra a_winding a_crossings a_pixels a_painter := by
    intro d
    induction d with
    | zero =>
      intro m hm n hn2
      obtain ⟨n, rfl⟩ : ∃ n', n = n' + 1 := ⟨n - 1, by omega⟩
      have e : m = 12 := by omega
      subst e
      rw [wX_renderAt_107]
      refine br_t (nI_le (a := 12) (by omega) (by omega)) ?_
      unfold wpX_forget
      have := xx_enter (σ := 0) (K := K) (R := R) (D := 0) (s := 0) (a := -1) (st := st) (f_drafted := f_drafted) (f_revisions := f_revisions) (f_edges := 0) (f_counted := 0) (f_begun := 0) (f_startX := f_startX) (f_startY := f_startY) (f_nowX := f_nowX) (f_nowY := f_nowY) (f_low := f_low) (f_high := f_high) (f_pointX := f_pointX) (f_pointY := f_pointY) (f_layer := f_layer) (f_fault := f_fault) (f_faultAt := f_faultAt) (f_units := f_units) (f_used := f_used) (a_draftKind := a_draftKind) (a_draftValue := a_draftValue) (a_streamOf := a_streamOf) (a_sizes := a_sizes) (a_before := a_before) (a_newest := a_newest) (a_opCount := a_opCount) (a_ops := a_ops) (a_opAt := a_opAt) (a_numbers := a_numbers) (a_running := a_running) (a_next := a_next) (a_floor := a_floor) (a_mix := a_mix) (a_matrix := a_matrix) (a_colour := a_colour) (a_width := a_width) (a_clip := ic 65535 a_clip 12) (a_x1 := a_x1) (a_y1 := a_y1) (a_x2 := a_x2) (a_y2 := a_y2) (a_extra := a_extra) (a_winding := a_winding) (a_crossings := a_crossings) (a_pixels := a_pixels) (a_painter := a_painter) (post := fun u => match u with | (f_drafted, f_revisions, f_depth, f_known, f_saved, f_edges, f_counted, f_begun, f_startX, f_startY, f_nowX, f_nowY, f_low, f_high, f_pointX, f_pointY, f_layer, f_fault, f_faultAt, f_units, f_used, a_draftKind, a_draftValue, a_streamOf, a_sizes, a_before, a_newest, a_opCount, a_ops, a_opAt, a_numbers, a_running, a_next, a_floor, a_mix, a_matrix, a_colour, a_width, a_clip, a_x1, a_y1, a_x2, a_y2, a_extra, a_winding, a_crossings, a_pixels, a_painter) => ∃ n139 : Nat, wX_renderAt_139 post n139 0 f_drafted f_revisions f_depth f_known f_saved f_edges f_counted f_begun f_startX f_startY f_nowX f_nowY f_low f_high f_pointX f_pointY f_layer f_fault f_faultAt f_units f_used a_draftKind a_draftValue a_streamOf a_sizes a_before a_newest a_opCount a_ops a_opAt a_numbers a_running a_next a_floor a_mix a_matrix a_colour a_width a_clip a_x1 a_y1 a_x2 a_y2 a_extra a_winding a_crossings a_pixels a_painter) hK hR (by omega) (by omega) (by omega) (by omega) hn hb H
      rw [← li_m1] at this
      exact this
    | succ d ih =>
      intro m hm n hn2
      obtain ⟨n, rfl⟩ : ∃ n', n = n' + 1 := ⟨n - 1, by omega⟩
      have nx := ih (m + 1) (by omega) n (by omega)
      rw [wX_renderAt_107]
      dsimp only
      rw [vc_f, nI_clamp (by omega)]
      exact br_f (nI_ge (b := 12) (by omega) (by omega)) ⟨vp_in_nI (by omega) (by omega), nm_r ic_s (nm_r (nI_1 m) nx)⟩
  refine ⟨13, ?_⟩
  have := loop 12 0 (by omega) 13 (by omega)
  rw [ic_0] at this
  exact this
theorem xr_58 {post : Int32 → SX → Prop} (H : ∃ n, wX_renderAt_107 post f_drafted f_revisions f_depth f_known f_saved f_edges f_counted f_begun f_startX f_startY f_nowX f_nowY f_low f_high f_pointX f_pointY f_layer f_fault f_faultAt f_units f_used n 0 a_draftKind a_draftValue a_streamOf a_sizes a_before a_newest a_opCount a_ops a_opAt a_numbers a_running a_next a_floor a_mix (im a_matrix 6) (upd a_colour 0 1) (upd a_width 0 4) a_clip a_x1 a_y1 a_x2 a_y2 a_extra a_winding a_crossings a_pixels a_painter) : ∃ n, wX_renderAt_58 post f_drafted f_revisions f_depth f_known f_saved f_edges f_counted f_begun f_startX f_startY f_nowX f_nowY f_low f_high f_pointX f_pointY f_layer f_fault f_faultAt f_units f_used n 0 a_draftKind a_draftValue a_streamOf a_sizes a_before a_newest a_opCount a_ops a_opAt a_numbers a_running a_next a_floor a_mix a_matrix a_colour a_width a_clip a_x1 a_y1 a_x2 a_y2 a_extra a_winding a_crossings a_pixels a_painter := by
  have loop : ∀ d m, m + d = 6 → ∀ n, d < n → wX_renderAt_58 post f_drafted f_revisions f_depth f_known f_saved f_edges f_counted f_begun f_startX f_startY f_nowX f_nowY f_low f_high f_pointX f_pointY f_layer f_fault f_faultAt f_units f_used n (nI m) a_draftKind a_draftValue a_streamOf a_sizes a_before a_newest a_opCount a_ops a_opAt a_numbers a_running a_next a_floor a_mix (im a_matrix m) a_colour a_width a_clip a_x1 a_y1 a_x2 a_y2 a_extra a_winding a_crossings a_pixels a_painter := by
    intro d
    induction d with
    | zero =>
      intro m hm n hn2
      obtain ⟨n, rfl⟩ : ∃ n', n = n' + 1 := ⟨n - 1, by omega⟩
      have e : m = 6 := by omega
      subst e
      rw [wX_renderAt_58]
      dsimp only
      rw [vs_1, vb_4]
      exact br_t (nI_le (a := 6) (by omega) (by omega)) (nm_e (nm_e H))
    | succ d ih =>
      intro m hm n hn2
      obtain ⟨n, rfl⟩ : ∃ n', n = n' + 1 := ⟨n - 1, by omega⟩
      have nx := ih (m + 1) (by omega) n (by omega)
      have hi : vp_in (nI m) 42 := vp_in_nI (by omega) (by omega)
      rw [wX_renderAt_58]
      dsimp only
      rw [vs_i1, vs_i0, nI_clamp (by omega)]
      refine br_f (nI_ge (b := 6) (by omega) (by omega)) ?_
      refine pk_eq m 0 (fun z => ⟨hi, nm_r (im_s (by rw [if_pos (Or.inl z)])) (nm_r (nI_1 m) nx)⟩) (fun z => ?_)
      refine pk_eq m 3 (fun z2 => ⟨hi, nm_r (im_s (by rw [if_pos (Or.inr z2)])) (nm_r (nI_1 m) nx)⟩) (fun z2 => ⟨hi, nm_r (im_s (by rw [if_neg (by omega)])) (nm_r (nI_1 m) nx)⟩)
  refine ⟨7, ?_⟩
  have := loop 6 0 (by omega) 7 (by omega)
  rw [im_0] at this
  exact this
end
section
variable {g_revisions g_shown g_level g_layer g_depth g_parts g_edges g_operands g_units g_fault g_where g_partEdges : Int32} {b_stream b_length b_kind b_num b_matrix b_colour b_width b_clip b_paint b_painter b_running b_at b_saves b_below b_mixture b_beginX b_beginY b_endX b_endY b_fromX b_fromY b_toX b_toY b_operand : Nat → Int32}
theorem yr_113 {post : Int32 → SY → Prop} (H : ∃ n, wY_renderAt_141 post n 0 g_revisions g_shown 0 g_layer (nI (0 + 1)) g_parts g_edges 0 g_units g_fault g_where g_partEdges b_stream b_length b_kind b_num b_matrix b_colour b_width (ic 1 b_clip 192) b_paint b_painter (upd b_running 0 0) (upd b_at 0 0) (upd b_saves 0 0) (upd b_below 0 0) (upd b_mixture 0 (-1)) b_beginX b_beginY b_endX b_endY b_fromX b_fromY b_toX b_toY b_operand) :
    ∃ n, wY_renderAt_113 post g_revisions g_shown 0 g_layer 0 g_parts g_edges g_operands g_units g_fault g_where g_partEdges n 0 b_stream b_length b_kind b_num b_matrix b_colour b_width b_clip b_paint b_painter b_running b_at b_saves b_below b_mixture b_beginX b_beginY b_endX b_endY b_fromX b_fromY b_toX b_toY b_operand := by
  have loop : ∀ d m, m + d = 192 → ∀ n, d < n → wY_renderAt_113 post g_revisions g_shown 0 g_layer 0 g_parts g_edges g_operands g_units g_fault g_where g_partEdges n (nI m) b_stream b_length b_kind b_num b_matrix b_colour b_width (ic 1 b_clip m) b_paint b_painter b_running b_at b_saves b_below b_mixture b_beginX b_beginY b_endX b_endY b_fromX b_fromY b_toX b_toY b_operand := by
    intro d
    induction d with
    | zero =>
      intro m hm n hn2
      obtain ⟨n, rfl⟩ : ∃ n', n = n' + 1 := ⟨n - 1, by omega⟩
      have e : m = 192 := by omega
      subst e
      rw [wY_renderAt_113]
      refine br_t (nI_le (a := 192) (by omega) (by omega)) ?_
      exact yy_open (D := 0) (by omega) H
    | succ d ih =>
      intro m hm n hn2
      obtain ⟨n, rfl⟩ : ∃ n', n = n' + 1 := ⟨n - 1, by omega⟩
      have nx := ih (m + 1) (by omega) n (by omega)
      rw [wY_renderAt_113]
      dsimp only
      rw [vb_1, nI_clamp (by omega)]
      exact br_f (nI_ge (b := 192) (by omega) (by omega)) ⟨vp_in_nI (by omega) (by omega), nm_r ic_s (nm_r (nI_1 m) nx)⟩
  refine ⟨193, ?_⟩
  have := loop 192 0 (by omega) 193 (by omega)
  rw [ic_0] at this
  exact this
theorem yr_79 {post : Int32 → SY → Prop} (H : ∃ n, wY_renderAt_113 post g_revisions g_shown g_level g_layer g_depth g_parts g_edges g_operands g_units g_fault g_where g_partEdges n 0 b_stream b_length b_kind b_num (im b_matrix 6) b_colour b_width b_clip b_paint b_painter b_running b_at b_saves b_below b_mixture b_beginX b_beginY b_endX b_endY b_fromX b_fromY b_toX b_toY b_operand) : ∃ n, wY_renderAt_79 post g_revisions g_shown g_level g_layer g_depth g_parts g_edges g_operands g_units g_fault g_where g_partEdges n 0 b_stream b_length b_kind b_num b_matrix b_colour b_width b_clip b_paint b_painter b_running b_at b_saves b_below b_mixture b_beginX b_beginY b_endX b_endY b_fromX b_fromY b_toX b_toY b_operand := by
  have loop : ∀ d m, m + d = 6 → ∀ n, d < n → wY_renderAt_79 post g_revisions g_shown g_level g_layer g_depth g_parts g_edges g_operands g_units g_fault g_where g_partEdges n (nI m) b_stream b_length b_kind b_num (im b_matrix m) b_colour b_width b_clip b_paint b_painter b_running b_at b_saves b_below b_mixture b_beginX b_beginY b_endX b_endY b_fromX b_fromY b_toX b_toY b_operand := by
    intro d
    induction d with
    | zero =>
      intro m hm n hn2
      obtain ⟨n, rfl⟩ : ∃ n', n = n' + 1 := ⟨n - 1, by omega⟩
      have e : m = 6 := by omega
      subst e
      rw [wY_renderAt_79]
      exact br_t (nI_le (a := 6) (by omega) (by omega)) H
    | succ d ih =>
      intro m hm n hn2
      obtain ⟨n, rfl⟩ : ∃ n', n = n' + 1 := ⟨n - 1, by omega⟩
      have nx := ih (m + 1) (by omega) n (by omega)
      have hi : vp_in (nI m) 42 := vp_in_nI (by omega) (by omega)
      rw [wY_renderAt_79]
      dsimp only
      rw [nI_clamp (by omega)]
      refine br_f (nI_ge (b := 6) (by omega) (by omega)) ?_
      refine pk_eq m 0 (fun z => ⟨hi, nm_r (im_s (by rw [if_pos (Or.inl z)])) (nm_r (nI_1 m) nx)⟩) (fun z => ?_)
      refine pk_eq m 3 (fun z2 => ⟨hi, nm_r (im_s (by rw [if_pos (Or.inr z2)])) (nm_r (nI_1 m) nx)⟩) (fun z2 => ⟨hi, nm_r (im_s (by rw [if_neg (by omega)])) (nm_r (nI_1 m) nx)⟩)
  refine ⟨7, ?_⟩
  have := loop 6 0 (by omega) 7 (by omega)
  rw [im_0] at this
  exact this
end
theorem im_v {M : Nat → Int32} {q : Nat} (h : q < 6) : im M 6 q = if q = 0 ∨ q = 3 then 1 else 0 := if_pos h
section
variable {f_drafted f_revisions f_depth f_known f_saved f_edges f_counted f_begun f_startX f_startY f_nowX f_nowY f_low f_high f_pointX f_pointY f_layer f_fault f_faultAt f_units f_used : Int32} {a_draftKind a_draftValue a_streamOf a_sizes a_before a_newest a_opCount a_ops a_opAt a_numbers a_running a_next a_floor a_mix a_matrix a_colour a_width a_clip a_x1 a_y1 a_x2 a_y2 a_extra a_winding a_crossings a_pixels a_painter : Nat → Int32}
variable {g_revisions g_shown g_level g_layer g_depth g_parts g_edges g_operands g_units g_fault g_where g_partEdges : Int32} {b_stream b_length b_kind b_num b_matrix b_colour b_width b_clip b_paint b_painter b_running b_at b_saves b_below b_mixture b_beginX b_beginY b_endX b_endY b_fromX b_fromY b_toX b_toY b_operand : Nat → Int32}
variable {R K : Nat}
theorem e_start {x : Int32} (hK : K ≤ R) (hd : (dc R f_drafted a_draftKind a_draftValue a_streamOf a_sizes a_before a_newest a_opCount a_ops a_opAt a_numbers b_stream b_length b_kind b_num)) (hc : ∀ i, 0 ≤ (a_colour i).toInt ∧ (a_colour i).toInt ≤ 255) (hi : ∀ i, 0 ≤ (a_width i).toInt ∧ (a_width i).toInt ≤ 60) (hp : pxr a_pixels) (ht : ptr a_painter) (hx : NW b_stream 0 K x) :
    (ec R K (0 + 1) 0 0 200 f_drafted 0 0 0 f_startX f_startY f_nowX f_nowY a_draftKind a_draftValue a_streamOf a_sizes a_before a_newest a_opCount a_ops a_opAt a_numbers (upd a_running 0 x) (upd a_next 0 0) (upd a_floor 0 (nI 0)) (upd a_mix 0 (iZ (-1))) (im a_matrix 6) (upd a_colour 0 1) (upd a_width 0 4) (ic 65535 a_clip 12) a_x1 a_y1 a_x2 a_y2 a_extra (pf (fun _ => true) 0 0 a_pixels 192) (pf (fun _ => true) 0 (-1) a_painter 192) 0 0 g_partEdges b_stream b_length b_kind b_num (im b_matrix 6) (ic 1 b_clip 192) (upd b_running 0 0) (upd b_at 0 0) (upd b_saves 0 0) (upd b_below 0 0) (upd b_mixture 0 (-1)) b_beginX b_beginY b_endX b_endY b_fromX b_fromY b_toX b_toY) := by
  have hmx : ∀ (M : Nat → Int32) q, q < 6 → (im M 6 q).toInt = 0 ∨ (im M 6 q).toInt = 1 := by
    intro M q hq
    rw [im_v hq]
    split
    · right; decide
    · left; decide
  refine ⟨hK, hd, ⟨by omega, by omega, ?_, ?_⟩, ⟨?_, ?_, ?_, ?_, ?_⟩, Or.inl ⟨rfl, rfl, rfl, rfl, rfl⟩, pf_r (by decide) hp, pf_rt (by decide) ht, by omega⟩
  · show 0 = 0 + (if 0 ≤ (upd b_mixture 0 (-1) 0).toInt then 1 else 0)
    rw [pk_us]; decide
  · intro d hd2
    have : d = 0 := by omega
    subst this
    refine ⟨0, 0, 0, -1, by omega, pk_us, by rw [pk_us]; exact hx, pk_us, pk_us, pk_us, by omega, by omega, rfl, pk_us, by rw [pk_us]; exact li_m1, by omega, fun _ => rfl, fun z => by omega, fun r hr _ => ?_⟩
    obtain ⟨σ2, L, M, w1, w2, w3, w4, w5, w6, w7, w8, _⟩ := hd.2.2.1 r (by omega)
    exact ⟨0, M, w7, by omega, by omega, pk_us, pk_us⟩
  · intro k hk
    have := hmx a_matrix k (by omega)
    omega
  · intro k hk
    rw [im_v (by omega), im_v (by omega)]
  · intro i
    by_cases c : i = 0
    · subst c; rw [pk_us]; decide
    · rw [pk_un c]; exact hc i
  · intro i
    by_cases c : i = 0
    · subst c; rw [pk_us]; decide
    · rw [pk_un c]; exact hi i
  · intro l hl j hj
    have : l = 0 := by omega
    subst this
    have e1 : ic 65535 a_clip 12 (12 * 0 + j) = 65535 := if_pos (by omega)
    rw [e1]
    refine ⟨⟨65535, by omega, rfl⟩, fun i hi2 => ?_⟩
    have e2 : ic 1 b_clip 192 (192 * 0 + (16 * j + i)) = 1 := if_pos (by omega)
    rw [e2, b_65535]
    exact ⟨Or.inr rfl, ⟨fun _ => by decide, fun _ => decide_eq_true hi2⟩⟩
/-- the whole of renderAt, between two calls -/
theorem ren {v1 : Int32} (hI : IR R (f_drafted, f_revisions, f_depth, f_known, f_saved, f_edges, f_counted, f_begun, f_startX, f_startY, f_nowX, f_nowY, f_low, f_high, f_pointX, f_pointY, f_layer, f_fault, f_faultAt, f_units, f_used, a_draftKind, a_draftValue, a_streamOf, a_sizes, a_before, a_newest, a_opCount, a_ops, a_opAt, a_numbers, a_running, a_next, a_floor, a_mix, a_matrix, a_colour, a_width, a_clip, a_x1, a_y1, a_x2, a_y2, a_extra, a_winding, a_crossings, a_pixels, a_painter) (g_revisions, g_shown, g_level, g_layer, g_depth, g_parts, g_edges, g_operands, g_units, g_fault, g_where, g_partEdges, b_stream, b_length, b_kind, b_num, b_matrix, b_colour, b_width, b_clip, b_paint, b_painter, b_running, b_at, b_saves, b_below, b_mixture, b_beginX, b_beginY, b_endX, b_endY, b_fromX, b_fromY, b_toX, b_toY, b_operand)) : wpX_renderAt (fun r u' => wpY_renderAt (fun r' v' => r' = r ∧ ∃ R, IR R u' v') (g_revisions, g_shown, g_level, g_layer, g_depth, g_parts, g_edges, g_operands, g_units, g_fault, g_where, g_partEdges, b_stream, b_length, b_kind, b_num, b_matrix, b_colour, b_width, b_clip, b_paint, b_painter, b_running, b_at, b_saves, b_below, b_mixture, b_beginX, b_beginY, b_endX, b_endY, b_fromX, b_fromY, b_toX, b_toY, b_operand) v1) (f_drafted, f_revisions, f_depth, f_known, f_saved, f_edges, f_counted, f_begun, f_startX, f_startY, f_nowX, f_nowY, f_low, f_high, f_pointX, f_pointY, f_layer, f_fault, f_faultAt, f_units, f_used, a_draftKind, a_draftValue, a_streamOf, a_sizes, a_before, a_newest, a_opCount, a_ops, a_opAt, a_numbers, a_running, a_next, a_floor, a_mix, a_matrix, a_colour, a_width, a_clip, a_x1, a_y1, a_x2, a_y2, a_extra, a_winding, a_crossings, a_pixels, a_painter) v1 := by
  have hI2 := hI
  obtain ⟨rfl, rfl, e3, e4, e5, e6, e7, e8, hd, hc, hi, hp, ht⟩ := hI
  replace e3 := e3.symm
  replace e4 := e4.symm
  replace e5 := e5.symm
  replace e6 := e6.symm
  replace e7 := e7.symm
  replace e8 := e8.symm
  subst e3 e4 e5 e6 e7 e8
  have hR8 : R ≤ 8 := hd.1
  have keep : wpY_renderAt (fun r' v' => r' = (-1) ∧ ∃ R', IR R' (f_drafted, nI R, f_depth, f_known, f_saved, f_edges, f_counted, f_begun, f_startX, f_startY, f_nowX, f_nowY, f_low, f_high, f_pointX, f_pointY, f_layer, f_fault, f_faultAt, f_units, f_used, a_draftKind, a_draftValue, a_streamOf, a_sizes, a_before, a_newest, a_opCount, a_ops, a_opAt, a_numbers, a_running, a_next, a_floor, a_mix, a_matrix, a_colour, a_width, a_clip, a_x1, a_y1, a_x2, a_y2, a_extra, a_winding, a_crossings, a_pixels, a_painter) v') (nI R, g_shown, g_level, g_layer, g_depth, g_parts, g_edges, g_operands, f_used, g_fault, f_faultAt, g_partEdges, b_stream, b_length, b_kind, b_num, b_matrix, a_colour, a_width, b_clip, a_pixels, a_painter, b_running, b_at, b_saves, b_below, b_mixture, b_beginX, b_beginY, b_endX, b_endY, b_fromX, b_fromY, b_toX, b_toY, b_operand) v1 ∨ (∃ K, K ≤ R ∧ v1 = nI K) := by
    by_cases c0 : v1 < 0
    · left
      unfold wpY_renderAt
      exact br_t c0 ⟨rfl, R, hI2⟩
    · by_cases c1 : v1 ≤ nI R
      · right
        obtain ⟨K, k1, k2⟩ := nI_of2 (n := R) (nI_toInt (by omega)) c0 c1
        exact ⟨K, k1, k2⟩
      · left
        unfold wpY_renderAt
        exact br_f c0 (br_f c1 ⟨rfl, R, hI2⟩)
  by_cases good : ∃ K, K ≤ R ∧ v1 = nI K
  · obtain ⟨K, hK, rfl⟩ := good
    have hnw := hd.2.2.2.1 0 (by omega)
    have hbf := hd.2.2.2.2 0 (by omega)
    unfold wpX_renderAt
    refine br_f (nI_pos (by omega)) (br_t (nI_le hK (by omega)) ?_)
    refine xx_blank (l := 0) (by omega) ?_
    refine xr_58 (xr_107 hK hR8 hnw hbf ?_)
    intro x hx
    have E0 := e_start (f_drafted := f_drafted) (f_startX := f_startX) (f_startY := f_startY) (f_nowX := f_nowX) (f_nowY := f_nowY) (a_running := a_running) (a_next := a_next) (a_floor := a_floor) (a_mix := a_mix) (a_matrix := a_matrix) (a_clip := a_clip) (a_x1 := a_x1) (a_y1 := a_y1) (a_x2 := a_x2) (a_y2 := a_y2) (a_extra := a_extra) (g_partEdges := g_partEdges) (b_matrix := b_matrix) (b_clip := b_clip) (b_running := b_running) (b_at := b_at) (b_saves := b_saves) (b_below := b_below) (b_mixture := b_mixture) (b_beginX := b_beginX) (b_beginY := b_beginY) (b_endX := b_endX) (b_endY := b_endY) (b_fromX := b_fromX) (b_fromY := b_fromY) (b_toX := b_toX) (b_toY := b_toY) hK hd hc hi hp ht hx
    have X0 := exr_mk (R := R) (K := K) (D := 0 + 1) (s := 0) (l := 0) (U := 200) (M := 402) (f_drafted := f_drafted) (f_edges := 0) (f_counted := 0) (f_begun := 0) (f_startX := f_startX) (f_startY := f_startY) (f_nowX := f_nowX) (f_nowY := f_nowY) (f_low := f_low) (f_high := f_high) (f_pointX := f_pointX) (f_pointY := f_pointY) (f_used := f_used) (a_draftKind := a_draftKind) (a_draftValue := a_draftValue) (a_streamOf := a_streamOf) (a_sizes := a_sizes) (a_before := a_before) (a_newest := a_newest) (a_opCount := a_opCount) (a_ops := a_ops) (a_opAt := a_opAt) (a_numbers := a_numbers) (a_running := upd a_running 0 x) (a_next := upd a_next 0 0) (a_floor := upd a_floor 0 (nI 0)) (a_mix := upd a_mix 0 (iZ (-1))) (a_matrix := im a_matrix 6) (a_colour := upd a_colour 0 1) (a_width := upd a_width 0 4) (a_clip := ic 65535 a_clip 12) (a_x1 := a_x1) (a_y1 := a_y1) (a_x2 := a_x2) (a_y2 := a_y2) (a_extra := a_extra) (a_winding := a_winding) (a_crossings := a_crossings) (a_pixels := pf (fun _ => true) 0 0 a_pixels 192) (a_painter := pf (fun _ => true) 0 (-1) a_painter 192) (g_parts := 0) (g_edges := 0) (g_partEdges := g_partEdges) (b_stream := b_stream) (b_length := b_length) (b_kind := b_kind) (b_num := b_num) (b_matrix := im b_matrix 6) (b_clip := ic 1 b_clip 192) (b_running := upd b_running 0 0) (b_at := upd b_at 0 0) (b_saves := upd b_saves 0 0) (b_below := upd b_below 0 0) (b_mixture := upd b_mixture 0 (-1)) (b_beginX := b_beginX) (b_beginY := b_beginY) (b_endX := b_endX) (b_endY := b_endY) (b_fromX := b_fromX) (b_fromY := b_fromY) (b_toX := b_toX) (b_toY := b_toY) (b_operand := b_operand) (by omega) E0
    refine ⟨500, ?_⟩
    refine run_all 402 X0 0 0 500 3000 (by omega) (by omega) (by omega) (by omega) _ ?_
    intro r u' hq
    show wpY_renderAt (fun r' v' => r' = r ∧ ∃ R, IR R u' v') (nI R, g_shown, g_level, g_layer, g_depth, g_parts, g_edges, g_operands, f_used, g_fault, f_faultAt, g_partEdges, b_stream, b_length, b_kind, b_num, b_matrix, a_colour, a_width, b_clip, a_pixels, a_painter, b_running, b_at, b_saves, b_below, b_mixture, b_beginX, b_beginY, b_endX, b_endY, b_fromX, b_fromY, b_toX, b_toY, b_operand) (nI K)
    unfold wpY_renderAt
    refine br_f (nI_pos (by omega)) (br_t (nI_le hK (by omega)) ?_)
    refine yy_clear ?_
    refine nm_e (nm_e (yr_79 (yr_113 ⟨3000, ?_⟩)))
    exact hq (fun r' v' => r' = r ∧ ∃ R, IR R u' v') (fun v' hv => ⟨rfl, R, hv⟩)
  · have kp : wpY_renderAt (fun r' v' => r' = (-1) ∧ ∃ R', IR R' (f_drafted, nI R, f_depth, f_known, f_saved, f_edges, f_counted, f_begun, f_startX, f_startY, f_nowX, f_nowY, f_low, f_high, f_pointX, f_pointY, f_layer, f_fault, f_faultAt, f_units, f_used, a_draftKind, a_draftValue, a_streamOf, a_sizes, a_before, a_newest, a_opCount, a_ops, a_opAt, a_numbers, a_running, a_next, a_floor, a_mix, a_matrix, a_colour, a_width, a_clip, a_x1, a_y1, a_x2, a_y2, a_extra, a_winding, a_crossings, a_pixels, a_painter) v') (nI R, g_shown, g_level, g_layer, g_depth, g_parts, g_edges, g_operands, f_used, g_fault, f_faultAt, g_partEdges, b_stream, b_length, b_kind, b_num, b_matrix, a_colour, a_width, b_clip, a_pixels, a_painter, b_running, b_at, b_saves, b_below, b_mixture, b_beginX, b_beginY, b_endX, b_endY, b_fromX, b_fromY, b_toX, b_toY, b_operand) v1 := keep.resolve_right good
    unfold wpX_renderAt
    refine br_c (fun _ => kp) (fun c0 => br_c (fun c1 => ?_) (fun _ => kp))
    exfalso
    obtain ⟨K, k1, k2⟩ := nI_of2 (n := R) (nI_toInt (by omega)) c0 c1
    exact good ⟨K, k1, k2⟩
end
end
section
/-! the document: token, wipe, size, revert -/
theorem stp_c {p p' : Nat → Int32} : ∀ {n : Nat}, (∀ i, i < n → p' i = p i) → stp p' n = stp p n := by
  intro n
  cases n with
  | zero => intro _; rfl
  | succ n =>
    intro h
    show (p' n).toNatClampNeg + 1 = (p n).toNatClampNeg + 1
    rw [h n (by omega)]
theorem gr_c {op p ki op' p' ki' : Nat → Int32} {L n : Nat} (h : gr op p ki L n) (h1 : ∀ i, i ≤ n → op' i = op i ∧ p' i = p i) (h2 : ∀ t, t < L → ki' t = ki t) : gr op' p' ki' L n := by
  obtain ⟨q, κ, a1, a2, a3, a4, a5, a6, a7, a8⟩ := h
  have e : stp p' n = stp p n := stp_c (fun i hi => (h1 i (by omega)).2)
  refine ⟨q, κ, by rw [(h1 n (Nat.le_refl n)).2]; exact a1, a2, by rw [e]; exact a3, by rw [e]; exact a4, ?_, by rw [h2 q a2]; exact a6, a7, ?_⟩
  · intro t t1 t2
    rw [e] at t1
    rw [h2 t (by omega)]
    exact a5 t t1 t2
  · rw [e, (h1 n (Nat.le_refl n)).1]
    exact a8
theorem TR_c {L M : Nat} {op p nu ki nm op' p' nu' ki' nm' : Nat → Int32} (h : TR L M op p nu ki nm) (h1 : ∀ i, i < M → op' i = op i ∧ p' i = p i) (h2 : ∀ t, t < L → ki' t = ki t ∧ nu' t = nu t ∧ nm' t = nm t) : TR L M op' p' nu' ki' nm' := by
  obtain ⟨a1, a2, a3, a4, a5, a6⟩ := h
  have e : stp p' M = stp p M := stp_c (fun i hi => (h1 i hi).2)
  refine ⟨a1, fun n hn => gr_c (a2 n hn) (fun i hi => h1 i (by omega)) (fun t ht => (h2 t ht).1), by rw [e]; exact a3, by rw [e]; exact a4, ?_, ?_⟩
  · intro t t1 t2
    rw [e] at t1
    rw [(h2 t t2).1]
    exact a5 t t1 t2
  · intro t ht
    obtain ⟨e1, e2, e3⟩ := h2 t ht
    rw [e1, e2, e3]
    exact a6 t ht
section
variable {f_drafted f_revisions f_depth f_known f_saved f_edges f_counted f_begun f_startX f_startY f_nowX f_nowY f_low f_high f_pointX f_pointY f_layer f_fault f_faultAt f_units f_used : Int32} {a_draftKind a_draftValue a_streamOf a_sizes a_before a_newest a_opCount a_ops a_opAt a_numbers a_running a_next a_floor a_mix a_matrix a_colour a_width a_clip a_x1 a_y1 a_x2 a_y2 a_extra a_winding a_crossings a_pixels a_painter : Nat → Int32}
variable {g_revisions g_shown g_level g_layer g_depth g_parts g_edges g_operands g_units g_fault g_where g_partEdges : Int32} {b_stream b_length b_kind b_num b_matrix b_colour b_width b_clip b_paint b_painter b_running b_at b_saves b_below b_mixture b_beginX b_beginY b_endX b_endY b_fromX b_fromY b_toX b_toY b_operand : Nat → Int32}
variable {R : Nat}
theorem ir_mk (hd : (dc R f_drafted a_draftKind a_draftValue a_streamOf a_sizes a_before a_newest a_opCount a_ops a_opAt a_numbers b_stream b_length b_kind b_num)) (hc : ∀ i, 0 ≤ (a_colour i).toInt ∧ (a_colour i).toInt ≤ 255) (hi : ∀ i, 0 ≤ (a_width i).toInt ∧ (a_width i).toInt ≤ 60) (hp : pxr a_pixels) (ht : ptr a_painter) :
    IR R (f_drafted, nI R, f_depth, f_known, f_saved, f_edges, f_counted, f_begun, f_startX, f_startY, f_nowX, f_nowY, f_low, f_high, f_pointX, f_pointY, f_layer, f_fault, f_faultAt, f_units, f_used, a_draftKind, a_draftValue, a_streamOf, a_sizes, a_before, a_newest, a_opCount, a_ops, a_opAt, a_numbers, a_running, a_next, a_floor, a_mix, a_matrix, a_colour, a_width, a_clip, a_x1, a_y1, a_x2, a_y2, a_extra, a_winding, a_crossings, a_pixels, a_painter) (nI R, g_shown, g_level, g_layer, g_depth, g_parts, g_edges, g_operands, f_used, g_fault, f_faultAt, g_partEdges, b_stream, b_length, b_kind, b_num, b_matrix, a_colour, a_width, b_clip, a_pixels, a_painter, b_running, b_at, b_saves, b_below, b_mixture, b_beginX, b_beginY, b_endX, b_endY, b_fromX, b_fromY, b_toX, b_toY, b_operand) :=
  ⟨rfl, rfl, rfl, rfl, rfl, rfl, rfl, rfl, hd, hc, hi, hp, ht⟩
theorem ir_el {P : SX → SY → Prop} (h : ∀ (f_drafted f_depth f_known f_saved f_edges f_counted f_begun f_startX f_startY f_nowX f_nowY f_low f_high f_pointX f_pointY f_layer f_fault f_faultAt f_units f_used g_shown g_level g_layer g_depth g_parts g_edges g_operands g_fault g_partEdges : Int32) (a_draftKind a_draftValue a_streamOf a_sizes a_before a_newest a_opCount a_ops a_opAt a_numbers a_running a_next a_floor a_mix a_matrix a_colour a_width a_clip a_x1 a_y1 a_x2 a_y2 a_extra a_winding a_crossings a_pixels a_painter b_stream b_length b_kind b_num b_matrix b_clip b_running b_at b_saves b_below b_mixture b_beginX b_beginY b_endX b_endY b_fromX b_fromY b_toX b_toY b_operand : Nat → Int32),
      (dc R f_drafted a_draftKind a_draftValue a_streamOf a_sizes a_before a_newest a_opCount a_ops a_opAt a_numbers b_stream b_length b_kind b_num) → (∀ i, 0 ≤ (a_colour i).toInt ∧ (a_colour i).toInt ≤ 255) → (∀ i, 0 ≤ (a_width i).toInt ∧ (a_width i).toInt ≤ 60) → pxr a_pixels → ptr a_painter → P (f_drafted, nI R, f_depth, f_known, f_saved, f_edges, f_counted, f_begun, f_startX, f_startY, f_nowX, f_nowY, f_low, f_high, f_pointX, f_pointY, f_layer, f_fault, f_faultAt, f_units, f_used, a_draftKind, a_draftValue, a_streamOf, a_sizes, a_before, a_newest, a_opCount, a_ops, a_opAt, a_numbers, a_running, a_next, a_floor, a_mix, a_matrix, a_colour, a_width, a_clip, a_x1, a_y1, a_x2, a_y2, a_extra, a_winding, a_crossings, a_pixels, a_painter) (nI R, g_shown, g_level, g_layer, g_depth, g_parts, g_edges, g_operands, f_used, g_fault, f_faultAt, g_partEdges, b_stream, b_length, b_kind, b_num, b_matrix, a_colour, a_width, b_clip, a_pixels, a_painter, b_running, b_at, b_saves, b_below, b_mixture, b_beginX, b_beginY, b_endX, b_endY, b_fromX, b_fromY, b_toX, b_toY, b_operand)) :
    ∀ {u : SX} {v : SY}, IR R u v → P u v := by
  intro u v hu
  obtain ⟨f_drafted, f_revisions, f_depth, f_known, f_saved, f_edges, f_counted, f_begun, f_startX, f_startY, f_nowX, f_nowY, f_low, f_high, f_pointX, f_pointY, f_layer, f_fault, f_faultAt, f_units, f_used, a_draftKind, a_draftValue, a_streamOf, a_sizes, a_before, a_newest, a_opCount, a_ops, a_opAt, a_numbers, a_running, a_next, a_floor, a_mix, a_matrix, a_colour, a_width, a_clip, a_x1, a_y1, a_x2, a_y2, a_extra, a_winding, a_crossings, a_pixels, a_painter⟩ := u
  obtain ⟨g_revisions, g_shown, g_level, g_layer, g_depth, g_parts, g_edges, g_operands, g_units, g_fault, g_where, g_partEdges, b_stream, b_length, b_kind, b_num, b_matrix, b_colour, b_width, b_clip, b_paint, b_painter, b_running, b_at, b_saves, b_below, b_mixture, b_beginX, b_beginY, b_endX, b_endY, b_fromX, b_fromY, b_toX, b_toY, b_operand⟩ := v
  obtain ⟨rfl, rfl, e3, e4, e5, e6, e7, e8, hd, hc, hi, hp, ht⟩ := hu
  replace e3 := e3.symm
  replace e4 := e4.symm
  replace e5 := e5.symm
  replace e6 := e6.symm
  replace e7 := e7.symm
  replace e8 := e8.symm
  subst e3 e4 e5 e6 e7 e8
  exact h f_drafted f_depth f_known f_saved f_edges f_counted f_begun f_startX f_startY f_nowX f_nowY f_low f_high f_pointX f_pointY f_layer f_fault f_faultAt f_units f_used g_shown g_level g_layer g_depth g_parts g_edges g_operands g_fault g_partEdges a_draftKind a_draftValue a_streamOf a_sizes a_before a_newest a_opCount a_ops a_opAt a_numbers a_running a_next a_floor a_mix a_matrix a_colour a_width a_clip a_x1 a_y1 a_x2 a_y2 a_extra a_winding a_crossings a_pixels a_painter b_stream b_length b_kind b_num b_matrix b_clip b_running b_at b_saves b_below b_mixture b_beginX b_beginY b_endX b_endY b_fromX b_fromY b_toX b_toY b_operand hd hc hi hp ht
theorem dc_tok {κ dr : Nat} {y : Int32} {x : Int32} (h : (dc R (nI dr) a_draftKind a_draftValue a_streamOf a_sizes a_before a_newest a_opCount a_ops a_opAt a_numbers b_stream b_length b_kind b_num)) (e8 : b_length 8 = nI dr) (hdr : dr < 40) (hκ : κ ≤ 17) (hx : κ = 0 → ∃ z : Int, (-1000 ≤ z ∧ z ≤ 1000) ∧ x = iZ z ∧ y = iZ z) :
    (dc R (nI (dr + 1)) (upd a_draftKind dr (nI κ)) (upd a_draftValue dr x) a_streamOf a_sizes a_before a_newest a_opCount a_ops a_opAt a_numbers b_stream (upd b_length 8 (nI (dr + 1))) (upd b_kind (320 + dr) (nI κ)) (upd b_num (320 + dr) y)) := by
  obtain ⟨h1, ⟨dr', d1, d2, d3, d4⟩, h3, h4, h5⟩ := h
  have ed : dr' = dr := nj_inj d2.symm (by omega) (by omega)
  subst ed
  refine ⟨h1, ⟨dr' + 1, by omega, rfl, pk_us, fun t ht => ?_⟩, fun r hr => ?_, h4, h5⟩
  · rcases Nat.lt_or_ge t dr' with c | c
    · rw [pk_un (by omega), pk_un (by omega), pk_un (by omega), pk_un (by omega)]
      exact d4 t c
    · have : t = dr' := by omega
      subst this
      rw [pk_us, pk_us, pk_us, pk_us]
      exact ⟨κ, hκ, rfl, rfl, hx⟩
  · obtain ⟨σ, L, M, w1, w2, w3, w4, w5, w6, w7, w8⟩ := h3 r hr
    refine ⟨σ, L, M, w1, w2, w3, w4, w5, by rw [pk_un (by omega)]; exact w6, w7, TR_c w8 (fun i _ => ⟨rfl, rfl⟩) (fun t ht => ⟨pk_un (by omega), rfl, pk_un (by omega)⟩)⟩
theorem td_token {v1 v2 : Int32} {u : SX} {v : SY} (hI : IR R u v) : wpX_token (fun r u' => wpY_token (fun r' v' => r' = r ∧ ∃ R, IR R u' v') v v1 v2) u v1 v2 := by
  refine ir_el (P := fun u v => wpX_token (fun r u' => wpY_token (fun r' v' => r' = r ∧ ∃ R, IR R u' v') v v1 v2) u v1 v2) ?_ hI
  intro f_drafted f_depth f_known f_saved f_edges f_counted f_begun f_startX f_startY f_nowX f_nowY f_low f_high f_pointX f_pointY f_layer f_fault f_faultAt f_units f_used g_shown g_level g_layer g_depth g_parts g_edges g_operands g_fault g_partEdges a_draftKind a_draftValue a_streamOf a_sizes a_before a_newest a_opCount a_ops a_opAt a_numbers a_running a_next a_floor a_mix a_matrix a_colour a_width a_clip a_x1 a_y1 a_x2 a_y2 a_extra a_winding a_crossings a_pixels a_painter b_stream b_length b_kind b_num b_matrix b_clip b_running b_at b_saves b_below b_mixture b_beginX b_beginY b_endX b_endY b_fromX b_fromY b_toX b_toY b_operand hd hc hi hp ht
  have same := ir_mk (f_drafted := f_drafted) (f_depth := f_depth) (f_known := f_known) (f_saved := f_saved) (f_edges := f_edges) (f_counted := f_counted) (f_begun := f_begun) (f_startX := f_startX) (f_startY := f_startY) (f_nowX := f_nowX) (f_nowY := f_nowY) (f_low := f_low) (f_high := f_high) (f_pointX := f_pointX) (f_pointY := f_pointY) (f_layer := f_layer) (f_fault := f_fault) (f_faultAt := f_faultAt) (f_units := f_units) (f_used := f_used) (a_draftKind := a_draftKind) (a_draftValue := a_draftValue) (a_streamOf := a_streamOf) (a_sizes := a_sizes) (a_before := a_before) (a_newest := a_newest) (a_opCount := a_opCount) (a_ops := a_ops) (a_opAt := a_opAt) (a_numbers := a_numbers) (a_running := a_running) (a_next := a_next) (a_floor := a_floor) (a_mix := a_mix) (a_matrix := a_matrix) (a_colour := a_colour) (a_width := a_width) (a_clip := a_clip) (a_x1 := a_x1) (a_y1 := a_y1) (a_x2 := a_x2) (a_y2 := a_y2) (a_extra := a_extra) (a_winding := a_winding) (a_crossings := a_crossings) (a_pixels := a_pixels) (a_painter := a_painter) (g_shown := g_shown) (g_level := g_level) (g_layer := g_layer) (g_depth := g_depth) (g_parts := g_parts) (g_edges := g_edges) (g_operands := g_operands) (g_fault := g_fault) (g_partEdges := g_partEdges) (b_stream := b_stream) (b_length := b_length) (b_kind := b_kind) (b_num := b_num) (b_matrix := b_matrix) (b_clip := b_clip) (b_running := b_running) (b_at := b_at) (b_saves := b_saves) (b_below := b_below) (b_mixture := b_mixture) (b_beginX := b_beginX) (b_beginY := b_beginY) (b_endX := b_endX) (b_endY := b_endY) (b_fromX := b_fromX) (b_fromY := b_fromY) (b_toX := b_toX) (b_toY := b_toY) (b_operand := b_operand) hd hc hi hp ht
  have hd2 := hd
  obtain ⟨h1, ⟨dr, d1, d2, d3, d4⟩, h3, h4, h5⟩ := hd2
  subst d2
  have go : ∀ κ : Nat, κ ≤ 17 → (κ = 0 → -1000 ≤ v2.toInt ∧ v2.toInt ≤ 1000) → wX_token_28 (fun r u' => wY_token_28 (fun r' v' => r' = r ∧ ∃ R, IR R u' v') (nI κ) v2 (nI R) g_shown g_level g_layer g_depth g_parts g_edges g_operands f_used g_fault f_faultAt g_partEdges b_stream b_length b_kind b_num b_matrix a_colour a_width b_clip a_pixels a_painter b_running b_at b_saves b_below b_mixture b_beginX b_beginY b_endX b_endY b_fromX b_fromY b_toX b_toY b_operand) (nI κ) v2 (nI dr) (nI R) f_depth f_known f_saved f_edges f_counted f_begun f_startX f_startY f_nowX f_nowY f_low f_high f_pointX f_pointY f_layer f_fault f_faultAt f_units f_used a_draftKind a_draftValue a_streamOf a_sizes a_before a_newest a_opCount a_ops a_opAt a_numbers a_running a_next a_floor a_mix a_matrix a_colour a_width a_clip a_x1 a_y1 a_x2 a_y2 a_extra a_winding a_crossings a_pixels a_painter := by
    intro κ hκ hz
    unfold wX_token_28
    refine pk_eq dr 40 (fun z => ?_) (fun z => ?_)
    · unfold wY_token_28
      rw [d3]
      exact pk_eq dr 40 (fun _ => ⟨rfl, R, same⟩) (fun q => absurd z q)
    · have hdr : dr < 40 := by omega
      have i4 : vp_in (nI dr) 40 := vp_in_nI hdr (by omega)
      have i3 : vp_in (nI (320 + dr)) 360 := vp_in_nI (by omega) (by omega)
      rw [in_b (by omega), vn_b (by omega), nI_clamp (n := dr) (by omega)]
      refine ⟨i4, nm_e (nm_r (nI_1 dr) ⟨i4, nm_e ?_⟩)⟩
      unfold wY_token_28
      have e3 : (320 : Int32) + nI dr = nI (320 + dr) := nI_add 320 dr
      rw [d3, e3, nI_clamp (n := 320 + dr) (by omega)]
      refine pk_eq dr 40 (fun q => absurd q z) (fun _ => ⟨i3, nm_e ⟨i3, nm_e (nm_r (e' := upd b_length 8 (nI (dr + 1))) (by rw [nI_1]) ⟨rfl, R, ?_⟩)⟩⟩)
      refine ir_mk (dc_tok hd d3 hdr hκ ?_) hc hi hp ht
      intro k0
      have hz2 := hz k0
      refine ⟨v2.toInt, hz2, ?_, iz_of v2⟩
      rw [ix_s (by omega), vx_s (by omega)]
      exact iz_of v2
  unfold wpX_token wpY_token
  by_cases c0 : v1 < 0
  · exact br_t c0 (br_t c0 ⟨rfl, R, same⟩)
  · by_cases c1 : 17 < v1
    · exact br_f c0 (br_t c1 (br_f c0 (br_t c1 ⟨rfl, R, same⟩)))
    · obtain ⟨κ, hκ, rfl⟩ := nI_of2 (M := 17) (n := 17) (by decide) c0 (Int32.not_lt.mp c1)
      refine br_f c0 (br_f c1 ?_)
      by_cases k0 : κ = 0
      · subst k0
        have e1000 : (-1000 : Int32) = iZ (-1000) := by decide
        have f1000 : (1000 : Int32) = iZ 1000 := by decide
        refine br_t rfl ?_
        by_cases c2 : v2 < (-1000)
        · exact br_t c2 (br_f c0 (br_f c1 (br_t rfl (br_t c2 ⟨rfl, R, same⟩))))
        · by_cases c3 : 1000 < v2
          · exact br_f c2 (br_t c3 (br_f c0 (br_f c1 (br_t rfl (br_f c2 (br_t c3 ⟨rfl, R, same⟩))))))
          · have b2 : -1000 ≤ v2.toInt ∧ v2.toInt ≤ 1000 := by
              rw [e1000, Int32.lt_iff_toInt_lt, iz_T (by omega)] at c2
              rw [f1000, Int32.lt_iff_toInt_lt, iz_T (by omega)] at c3
              omega
            refine br_f c2 (br_f c3 ?_)
            have G := go 0 (by omega) (fun _ => b2)
            have e : (fun (r : Int32) (u' : SX) => wpY_token (fun r' v' => r' = r ∧ ∃ R, IR R u' v') (nI R, g_shown, g_level, g_layer, g_depth, g_parts, g_edges, g_operands, f_used, g_fault, f_faultAt, g_partEdges, b_stream, b_length, b_kind, b_num, b_matrix, a_colour, a_width, b_clip, a_pixels, a_painter, b_running, b_at, b_saves, b_below, b_mixture, b_beginX, b_beginY, b_endX, b_endY, b_fromX, b_fromY, b_toX, b_toY, b_operand) (nI 0) v2) = (fun r u' => wY_token_28 (fun r' v' => r' = r ∧ ∃ R, IR R u' v') (nI 0) v2 (nI R) g_shown g_level g_layer g_depth g_parts g_edges g_operands f_used g_fault f_faultAt g_partEdges b_stream b_length b_kind b_num b_matrix a_colour a_width b_clip a_pixels a_painter b_running b_at b_saves b_below b_mixture b_beginX b_beginY b_endX b_endY b_fromX b_fromY b_toX b_toY b_operand) := by
              funext r u'
              refine propext ⟨fun H => ?_, fun H => ?_⟩
              · exact (((H.2 c0).2 c1).1 rfl).2 c2 |>.2 c3
              · exact br_f c0 (br_f c1 (br_t rfl (br_f c2 (br_f c3 H))))
            have G2 := G
            rw [← e] at G2
            exact G2
      · have n0 : ¬ nI κ = 0 := nI_ne0 (by omega) (by omega)
        refine br_f n0 ?_
        have G := go κ hκ (fun z => absurd z k0)
        have e : (fun (r : Int32) (u' : SX) => wpY_token (fun r' v' => r' = r ∧ ∃ R, IR R u' v') (nI R, g_shown, g_level, g_layer, g_depth, g_parts, g_edges, g_operands, f_used, g_fault, f_faultAt, g_partEdges, b_stream, b_length, b_kind, b_num, b_matrix, a_colour, a_width, b_clip, a_pixels, a_painter, b_running, b_at, b_saves, b_below, b_mixture, b_beginX, b_beginY, b_endX, b_endY, b_fromX, b_fromY, b_toX, b_toY, b_operand) (nI κ) v2) = (fun r u' => wY_token_28 (fun r' v' => r' = r ∧ ∃ R, IR R u' v') (nI κ) v2 (nI R) g_shown g_level g_layer g_depth g_parts g_edges g_operands f_used g_fault f_faultAt g_partEdges b_stream b_length b_kind b_num b_matrix a_colour a_width b_clip a_pixels a_painter b_running b_at b_saves b_below b_mixture b_beginX b_beginY b_endX b_endY b_fromX b_fromY b_toX b_toY b_operand) := by
          funext r u'
          refine propext ⟨fun H => ?_, fun H => ?_⟩
          · exact ((H.2 c0).2 c1).2 n0
          · exact br_f c0 (br_f c1 (br_f n0 H))
        have G2 := G
        rw [← e] at G2
        exact G2
end
end
section
/-! the document: wipe, size, revert -/
section
variable {f_drafted f_revisions f_depth f_known f_saved f_edges f_counted f_begun f_startX f_startY f_nowX f_nowY f_low f_high f_pointX f_pointY f_layer f_fault f_faultAt f_units f_used : Int32} {a_draftKind a_draftValue a_streamOf a_sizes a_before a_newest a_opCount a_ops a_opAt a_numbers a_running a_next a_floor a_mix a_matrix a_colour a_width a_clip a_x1 a_y1 a_x2 a_y2 a_extra a_winding a_crossings a_pixels a_painter : Nat → Int32}
variable {g_revisions g_shown g_level g_layer g_depth g_parts g_edges g_operands g_units g_fault g_where g_partEdges : Int32} {b_stream b_length b_kind b_num b_matrix b_colour b_width b_clip b_paint b_painter b_running b_at b_saves b_below b_mixture b_beginX b_beginY b_endX b_endY b_fromX b_fromY b_toX b_toY b_operand : Nat → Int32}
variable {R : Nat}
theorem td_wipe {u : SX} {v : SY} (hI : IR R u v) : wpX_wipe (fun r u' => wpY_wipe (fun r' v' => r' = r ∧ ∃ R, IR R u' v') v) u := by
  refine ir_el (P := fun u v => wpX_wipe (fun r u' => wpY_wipe (fun r' v' => r' = r ∧ ∃ R, IR R u' v') v) u) ?_ hI
  intro f_drafted f_depth f_known f_saved f_edges f_counted f_begun f_startX f_startY f_nowX f_nowY f_low f_high f_pointX f_pointY f_layer f_fault f_faultAt f_units f_used g_shown g_level g_layer g_depth g_parts g_edges g_operands g_fault g_partEdges a_draftKind a_draftValue a_streamOf a_sizes a_before a_newest a_opCount a_ops a_opAt a_numbers a_running a_next a_floor a_mix a_matrix a_colour a_width a_clip a_x1 a_y1 a_x2 a_y2 a_extra a_winding a_crossings a_pixels a_painter b_stream b_length b_kind b_num b_matrix b_clip b_running b_at b_saves b_below b_mixture b_beginX b_beginY b_endX b_endY b_fromX b_fromY b_toX b_toY b_operand hd hc hi hp ht
  have same := ir_mk (f_drafted := f_drafted) (f_depth := f_depth) (f_known := f_known) (f_saved := f_saved) (f_edges := f_edges) (f_counted := f_counted) (f_begun := f_begun) (f_startX := f_startX) (f_startY := f_startY) (f_nowX := f_nowX) (f_nowY := f_nowY) (f_low := f_low) (f_high := f_high) (f_pointX := f_pointX) (f_pointY := f_pointY) (f_layer := f_layer) (f_fault := f_fault) (f_faultAt := f_faultAt) (f_units := f_units) (f_used := f_used) (a_draftKind := a_draftKind) (a_draftValue := a_draftValue) (a_streamOf := a_streamOf) (a_sizes := a_sizes) (a_before := a_before) (a_newest := a_newest) (a_opCount := a_opCount) (a_ops := a_ops) (a_opAt := a_opAt) (a_numbers := a_numbers) (a_running := a_running) (a_next := a_next) (a_floor := a_floor) (a_mix := a_mix) (a_matrix := a_matrix) (a_colour := a_colour) (a_width := a_width) (a_clip := a_clip) (a_x1 := a_x1) (a_y1 := a_y1) (a_x2 := a_x2) (a_y2 := a_y2) (a_extra := a_extra) (a_winding := a_winding) (a_crossings := a_crossings) (a_pixels := a_pixels) (a_painter := a_painter) (g_shown := g_shown) (g_level := g_level) (g_layer := g_layer) (g_depth := g_depth) (g_parts := g_parts) (g_edges := g_edges) (g_operands := g_operands) (g_fault := g_fault) (g_partEdges := g_partEdges) (b_stream := b_stream) (b_length := b_length) (b_kind := b_kind) (b_num := b_num) (b_matrix := b_matrix) (b_clip := b_clip) (b_running := b_running) (b_at := b_at) (b_saves := b_saves) (b_below := b_below) (b_mixture := b_mixture) (b_beginX := b_beginX) (b_beginY := b_beginY) (b_endX := b_endX) (b_endY := b_endY) (b_fromX := b_fromX) (b_fromY := b_fromY) (b_toX := b_toX) (b_toY := b_toY) (b_operand := b_operand) hd hc hi hp ht
  obtain ⟨h1, ⟨dr, d1, d2, d3, d4⟩, h3, h4, h5⟩ := hd
  subst d2
  unfold wpX_wipe wpY_wipe
  refine nm_e (nm_e ⟨d3, R, ir_mk ⟨h1, ⟨0, by omega, rfl, pk_us, fun t ht => absurd ht (Nat.not_lt_zero t)⟩, fun r hr => ?_, h4, h5⟩ hc hi hp ht⟩)
  obtain ⟨σ, L, M, w1, w2, w3, w4, w5, w6, w7, w8⟩ := h3 r hr
  exact ⟨σ, L, M, w1, w2, w3, w4, w5, by rw [pk_un (by omega)]; exact w6, w7, w8⟩
theorem td_size {v1 : Int32} {u : SX} {v : SY} (hI : IR R u v) : wpX_size (fun r => wpY_size (fun r' => r' = r ∧ ∃ R, IR R u v) v v1) u v1 := by
  refine ir_el (P := fun u v => wpX_size (fun r => wpY_size (fun r' => r' = r ∧ ∃ R, IR R u v) v v1) u v1) ?_ hI
  intro f_drafted f_depth f_known f_saved f_edges f_counted f_begun f_startX f_startY f_nowX f_nowY f_low f_high f_pointX f_pointY f_layer f_fault f_faultAt f_units f_used g_shown g_level g_layer g_depth g_parts g_edges g_operands g_fault g_partEdges a_draftKind a_draftValue a_streamOf a_sizes a_before a_newest a_opCount a_ops a_opAt a_numbers a_running a_next a_floor a_mix a_matrix a_colour a_width a_clip a_x1 a_y1 a_x2 a_y2 a_extra a_winding a_crossings a_pixels a_painter b_stream b_length b_kind b_num b_matrix b_clip b_running b_at b_saves b_below b_mixture b_beginX b_beginY b_endX b_endY b_fromX b_fromY b_toX b_toY b_operand hd hc hi hp ht
  have same := ir_mk (f_drafted := f_drafted) (f_depth := f_depth) (f_known := f_known) (f_saved := f_saved) (f_edges := f_edges) (f_counted := f_counted) (f_begun := f_begun) (f_startX := f_startX) (f_startY := f_startY) (f_nowX := f_nowX) (f_nowY := f_nowY) (f_low := f_low) (f_high := f_high) (f_pointX := f_pointX) (f_pointY := f_pointY) (f_layer := f_layer) (f_fault := f_fault) (f_faultAt := f_faultAt) (f_units := f_units) (f_used := f_used) (a_draftKind := a_draftKind) (a_draftValue := a_draftValue) (a_streamOf := a_streamOf) (a_sizes := a_sizes) (a_before := a_before) (a_newest := a_newest) (a_opCount := a_opCount) (a_ops := a_ops) (a_opAt := a_opAt) (a_numbers := a_numbers) (a_running := a_running) (a_next := a_next) (a_floor := a_floor) (a_mix := a_mix) (a_matrix := a_matrix) (a_colour := a_colour) (a_width := a_width) (a_clip := a_clip) (a_x1 := a_x1) (a_y1 := a_y1) (a_x2 := a_x2) (a_y2 := a_y2) (a_extra := a_extra) (a_winding := a_winding) (a_crossings := a_crossings) (a_pixels := a_pixels) (a_painter := a_painter) (g_shown := g_shown) (g_level := g_level) (g_layer := g_layer) (g_depth := g_depth) (g_parts := g_parts) (g_edges := g_edges) (g_operands := g_operands) (g_fault := g_fault) (g_partEdges := g_partEdges) (b_stream := b_stream) (b_length := b_length) (b_kind := b_kind) (b_num := b_num) (b_matrix := b_matrix) (b_clip := b_clip) (b_running := b_running) (b_at := b_at) (b_saves := b_saves) (b_below := b_below) (b_mixture := b_mixture) (b_beginX := b_beginX) (b_beginY := b_beginY) (b_endX := b_endX) (b_endY := b_endY) (b_fromX := b_fromX) (b_fromY := b_fromY) (b_toX := b_toX) (b_toY := b_toY) (b_operand := b_operand) hd hc hi hp ht
  obtain ⟨h1, ⟨dr, d1, d2, d3, d4⟩, h3, h4, h5⟩ := hd
  unfold wpX_size wpY_size
  by_cases c0 : v1 < 0
  · exact br_t c0 (br_t c0 ⟨rfl, R, same⟩)
  · by_cases c1 : v1 ≤ 5
    · obtain ⟨σ, hσ, rfl⟩ := nI_of2 (M := 5) (n := 5) (by decide) c0 c1
      have i6 : vp_in (nI σ) 6 := vp_in_nI (by omega) (by omega)
      have nw := h4 σ (by omega)
      dsimp only
      rw [nI_clamp (n := σ) (by omega)]
      have nw2 := nw
      rcases nw with ⟨e1, a1⟩ | ⟨p, hp2, e1, s1, a1⟩
      · rw [e1] at nw2 ⊢
        exact br_f c0 (br_t c1 ⟨i6, br_f (by decide) (br_f c0 (br_t c1 (yy_newest h1 nw2 (br_f (by decide) ⟨rfl, R, same⟩))))⟩)
      · obtain ⟨σ2, L, M, w1, w2, w3, w4, w5, w6, w7, w8⟩ := h3 p hp2
        rw [e1] at nw2 ⊢
        refine br_f c0 (br_t c1 ⟨i6, br_t (nI_pos' (by omega)) ⟨i6, vp_in_nI (by omega) (by omega), br_f c0 (br_t c1 (yy_newest h1 nw2 (br_t (nI_pos' (by omega)) ⟨vp_in_nI (by omega) (by omega), ?_, R, same⟩)))⟩⟩)
        rw [nI_clamp (by omega), w5, w6]
    · exact br_f c0 (br_f c1 (br_f c0 (br_f c1 ⟨rfl, R, same⟩)))
theorem td_revert {u : SX} {v : SY} (hI : IR R u v) : wpX_revert (fun r u' => wpY_revert (fun r' v' => r' = r ∧ ∃ R, IR R u' v') v) u := by
  refine ir_el (P := fun u v => wpX_revert (fun r u' => wpY_revert (fun r' v' => r' = r ∧ ∃ R, IR R u' v') v) u) ?_ hI
  intro f_drafted f_depth f_known f_saved f_edges f_counted f_begun f_startX f_startY f_nowX f_nowY f_low f_high f_pointX f_pointY f_layer f_fault f_faultAt f_units f_used g_shown g_level g_layer g_depth g_parts g_edges g_operands g_fault g_partEdges a_draftKind a_draftValue a_streamOf a_sizes a_before a_newest a_opCount a_ops a_opAt a_numbers a_running a_next a_floor a_mix a_matrix a_colour a_width a_clip a_x1 a_y1 a_x2 a_y2 a_extra a_winding a_crossings a_pixels a_painter b_stream b_length b_kind b_num b_matrix b_clip b_running b_at b_saves b_below b_mixture b_beginX b_beginY b_endX b_endY b_fromX b_fromY b_toX b_toY b_operand hd hc hi hp ht
  have same := ir_mk (f_drafted := f_drafted) (f_depth := f_depth) (f_known := f_known) (f_saved := f_saved) (f_edges := f_edges) (f_counted := f_counted) (f_begun := f_begun) (f_startX := f_startX) (f_startY := f_startY) (f_nowX := f_nowX) (f_nowY := f_nowY) (f_low := f_low) (f_high := f_high) (f_pointX := f_pointX) (f_pointY := f_pointY) (f_layer := f_layer) (f_fault := f_fault) (f_faultAt := f_faultAt) (f_units := f_units) (f_used := f_used) (a_draftKind := a_draftKind) (a_draftValue := a_draftValue) (a_streamOf := a_streamOf) (a_sizes := a_sizes) (a_before := a_before) (a_newest := a_newest) (a_opCount := a_opCount) (a_ops := a_ops) (a_opAt := a_opAt) (a_numbers := a_numbers) (a_running := a_running) (a_next := a_next) (a_floor := a_floor) (a_mix := a_mix) (a_matrix := a_matrix) (a_colour := a_colour) (a_width := a_width) (a_clip := a_clip) (a_x1 := a_x1) (a_y1 := a_y1) (a_x2 := a_x2) (a_y2 := a_y2) (a_extra := a_extra) (a_winding := a_winding) (a_crossings := a_crossings) (a_pixels := a_pixels) (a_painter := a_painter) (g_shown := g_shown) (g_level := g_level) (g_layer := g_layer) (g_depth := g_depth) (g_parts := g_parts) (g_edges := g_edges) (g_operands := g_operands) (g_fault := g_fault) (g_partEdges := g_partEdges) (b_stream := b_stream) (b_length := b_length) (b_kind := b_kind) (b_num := b_num) (b_matrix := b_matrix) (b_clip := b_clip) (b_running := b_running) (b_at := b_at) (b_saves := b_saves) (b_below := b_below) (b_mixture := b_mixture) (b_beginX := b_beginX) (b_beginY := b_beginY) (b_endX := b_endX) (b_endY := b_endY) (b_fromX := b_fromX) (b_fromY := b_fromY) (b_toX := b_toX) (b_toY := b_toY) (b_operand := b_operand) hd hc hi hp ht
  obtain ⟨h1, ⟨dr, d1, d2, d3, d4⟩, h3, h4, h5⟩ := hd
  unfold wpX_revert wpY_revert
  rcases Nat.eq_zero_or_pos R with r0 | r0
  · subst r0
    exact br_t rfl (br_t rfl ⟨rfl, 0, same⟩)
  · obtain ⟨q, rfl⟩ : ∃ q, R = q + 1 := ⟨R - 1, by omega⟩
    have n0 : ¬ nI (q + 1) = 0 := nI_ne0 (by omega) (by omega)
    have i8 : vp_in (nI q) 8 := vp_in_nI (by omega) (by omega)
    obtain ⟨σ, L, M, w1, w2, w3, w4, w5, w6, w7, w8⟩ := h3 q (by omega)
    have nb := h5 σ w1 q (by omega) w4
    have bb := NW_b (by omega) nb
    refine br_f n0 (nm_r (nI_pred q) (nm_r (nI_pred q) ?_))
    rw [nI_clamp (n := q) (by omega), w3, nI_clamp (n := σ) (by omega), vx_b (by omega)]
    refine ⟨i8, i8, vp_in_nI w1 (by omega), nm_e ⟨i8, br_f n0 (nm_r (nI_pred q) ⟨i8, ?_⟩)⟩⟩
    rw [nI_clamp (n := q) (by omega), w4]
    refine ⟨rfl, q, ir_mk ⟨by omega, ⟨dr, d1, d2, d3, d4⟩, fun r hr => h3 r (by omega), fun σ' hσ' => ?_, fun σ' hσ' r hr => h5 σ' hσ' r (by omega)⟩ hc hi hp ht⟩
    by_cases e : σ' = σ
    · subst e; rw [pk_us]; exact nb
    · rw [pk_un e]
      refine NW_le (h4 σ' hσ') (by omega) (fun ρ e1 hρ => ?_)
      rcases Nat.lt_or_ge ρ q with t | t
      · exact t
      · exfalso
        have e2 : ρ = q := by omega
        subst e2
        rcases h4 σ' hσ' with ⟨z1, _⟩ | ⟨p, z1, z2, z3, _⟩
        · rw [z1, li_m1, iz_n, iz_eq (by omega) (by omega)] at e1
          omega
        · have e3 : p = ρ := nj_inj (z2.symm.trans e1) (by omega) (by omega)
          subst e3
          exact e (nj_inj (z3.symm.trans w4) (by omega) (by omega))
end
end
section
/-! the document: commit -/
theorem vb_18 : vp_nar .byte 18 = 18 := by rw [vp_nar_byte]; decide
def cy (r : Nat) (a : Nat → Int32) (m : Nat) : Nat → Int32 := fun q => if 40 * r ≤ q ∧ q < 40 * r + m then a (320 + (q - 40 * r)) else a q
theorem cy_0 (r : Nat) (a : Nat → Int32) : cy r a 0 = a := by
  funext q
  exact if_neg (by omega)
theorem cy_s {r m : Nat} {a : Nat → Int32} {v : Int32} (hv : v = a (320 + m)) : upd (cy r a m) (40 * r + m) v = cy r a (m + 1) := by
  funext q
  by_cases e : q = 40 * r + m
  · subst e
    rw [pk_us, hv]
    unfold cy
    rw [if_pos ⟨by omega, by omega⟩, show 40 * r + m - 40 * r = m by omega]
  · rw [pk_un e]
    unfold cy
    by_cases c : 40 * r ≤ q ∧ q < 40 * r + m
    · rw [if_pos c, if_pos ⟨c.1, by omega⟩]
    · rw [if_neg c, if_neg (fun z => c ⟨z.1, by omega⟩)]
theorem cy_in {r m t : Nat} {a : Nat → Int32} (h : t < m) : cy r a m (40 * r + t) = a (320 + t) := by
  unfold cy
  rw [if_pos ⟨by omega, by omega⟩, show 40 * r + t - 40 * r = t by omega]
theorem cy_lo {r m q : Nat} {a : Nat → Int32} (h : q < 40 * r) : cy r a m q = a q := if_neg (by omega)
theorem cy_hi {r m q : Nat} {a : Nat → Int32} (h : 40 * r + m ≤ q) : cy r a m q = a q := if_neg (by omega)
/-- what translate has made of L tokens -/
def xT (r L n : Nat) (op at_ nu dk dv : Nat → Int32) : Prop :=
  n ≤ L ∧ (∀ i, i < n → gr (fun i => op (40 * r + i)) (fun i => at_ (40 * r + i)) dk L i) ∧ stp (fun i => at_ (40 * r + i)) n ≤ L ∧ L ≤ stp (fun i => at_ (40 * r + i)) n + 6 ∧
  (∀ t, stp (fun i => at_ (40 * r + i)) n ≤ t → t < L → dk t = 0) ∧ (∀ t, t < L → nu (40 * r + t) = vp_nar .short (dv t))
section
variable {f_drafted f_revisions f_depth f_known f_saved f_edges f_counted f_begun f_startX f_startY f_nowX f_nowY f_low f_high f_pointX f_pointY f_layer f_fault f_faultAt f_units f_used : Int32} {a_draftKind a_draftValue a_streamOf a_sizes a_before a_newest a_opCount a_ops a_opAt a_numbers a_running a_next a_floor a_mix a_matrix a_colour a_width a_clip a_x1 a_y1 a_x2 a_y2 a_extra a_winding a_crossings a_pixels a_painter : Nat → Int32}
theorem xt_loop {r L : Nat} {op0 at0 nu0 : Nat → Int32} (hr : r < 8) (hL : L ≤ 40) (hk : ∀ t, t < L → ∃ κ, κ ≤ 17 ∧ a_draftKind t = nI κ) {post : SX → Prop}
    (hpost : ∀ (n : Nat) (op at_ nu : Nat → Int32), (∀ q, q < 40 * r → op q = op0 q ∧ at_ q = at0 q ∧ nu q = nu0 q) → xT r L n op at_ nu a_draftKind a_draftValue → post (nI L, f_revisions, f_depth, f_known, f_saved, f_edges, f_counted, f_begun, f_startX, f_startY, f_nowX, f_nowY, f_low, f_high, f_pointX, f_pointY, f_layer, f_fault, f_faultAt, f_units, f_used, a_draftKind, a_draftValue, a_streamOf, a_sizes, a_before, a_newest, upd a_opCount r (nI n), op, at_, nu, a_running, a_next, a_floor, a_mix, a_matrix, a_colour, a_width, a_clip, a_x1, a_y1, a_x2, a_y2, a_extra, a_winding, a_crossings, a_pixels, a_painter)) :
    ∀ d t, t + d = L → ∀ fuel, d < fuel → ∀ (n w : Nat) (op at_ nu : Nat → Int32), n ≤ t → (∀ q, q < 40 * r → op q = op0 q ∧ at_ q = at0 q ∧ nu q = nu0 q) →
      (∀ i, i < n → gr (fun i => op (40 * r + i)) (fun i => at_ (40 * r + i)) a_draftKind L i) → stp (fun i => at_ (40 * r + i)) n + w = t → w ≤ 6 →
      (∀ j, stp (fun i => at_ (40 * r + i)) n ≤ j → j < t → a_draftKind j = 0) → (∀ j, j < t → nu (40 * r + j) = vp_nar .short (a_draftValue j)) →
      wX_translate_7 post (nI r) (nI L) f_revisions f_depth f_known f_saved f_edges f_counted f_begun f_startX f_startY f_nowX f_nowY f_low f_high f_pointX f_pointY f_layer f_fault f_faultAt f_units f_used fuel (nI n) (nI w) (nI t) a_draftKind a_draftValue a_streamOf a_sizes a_before a_newest a_opCount op at_ nu a_running a_next a_floor a_mix a_matrix a_colour a_width a_clip a_x1 a_y1 a_x2 a_y2 a_extra a_winding a_crossings a_pixels a_painter := by
  intro d
  induction d with
  | zero =>
    intro t ht fuel hf n w op at_ nu c1 c2 c3 c4 c5 c6 c7
    obtain ⟨fuel, rfl⟩ : ∃ f', fuel = f' + 1 := ⟨fuel - 1, by omega⟩
    have e : t = L := by omega
    subst e
    rw [wX_translate_7]
    dsimp only
    rw [in_b (by omega), vn_b (by omega), nI_clamp (n := r) (by omega)]
    exact br_t (nI_le (by omega) (by omega)) ⟨vp_in_nI hr (by omega), nm_e (hpost n op at_ nu c2 ⟨c1, c3, by omega, by omega, c6, c7⟩)⟩
  | succ d ih =>
    intro t ht fuel hf n w op at_ nu c1 c2 c3 c4 c5 c6 c7
    obtain ⟨fuel, rfl⟩ : ∃ f', fuel = f' + 1 := ⟨fuel - 1, by omega⟩
    obtain ⟨κ, k1, k2⟩ := hk t (by omega)
    have i40 : vp_in (nI t) 40 := vp_in_nI (by omega) (by omega)
    have i3 : vp_in (nI (40 * r + t)) 320 := vp_in_nI (by omega) (by omega)
    rw [wX_translate_7]
    dsimp only
    refine br_f (nI_ge (by omega) (by omega)) (nm_r (nj_ma 40 r t) ⟨i40, ?_⟩)
    rw [nI_clamp (n := t) (by omega), nI_clamp (n := 40 * r + t) (by omega), k2]
    refine nm_e ⟨i40, i3, nm_e ?_⟩
    have c2' : ∀ q, q < 40 * r → op q = op0 q ∧ at_ q = at0 q ∧ upd nu (40 * r + t) (vp_nar .short (a_draftValue t)) q = nu0 q := by
      intro q hq
      rw [pk_un (by omega)]
      exact c2 q hq
    have c7' : ∀ j, j < t + 1 → upd nu (40 * r + t) (vp_nar .short (a_draftValue t)) (40 * r + j) = vp_nar .short (a_draftValue j) := by
      intro j hj
      rcases Nat.lt_or_ge j t with z | z
      · rw [pk_un (by omega)]; exact c7 j z
      · have : j = t := by omega
        subst this; exact pk_us
    generalize upd nu (40 * r + t) (vp_nar .short (a_draftValue t)) = nu' at *
    -- an operator is written
    have emit : ∀ x : Int32, vp_nar .byte x = x → ((κ = 0 ∧ t = stp (fun i => at_ (40 * r + i)) n + 6 ∧ x = 18) ∨ (κ ≠ 0 ∧ t = stp (fun i => at_ (40 * r + i)) n + wnt κ ∧ x = nI κ) ∨ (κ ≠ 0 ∧ t ≠ stp (fun i => at_ (40 * r + i)) n + wnt κ ∧ x = 18)) →
        wX_translate_109 post (wX_translate_7 post (nI r) (nI L) f_revisions f_depth f_known f_saved f_edges f_counted f_begun f_startX f_startY f_nowX f_nowY f_low f_high f_pointX f_pointY f_layer f_fault f_faultAt f_units f_used fuel) (nI r) (nI n) (nI t) x (nI (40 * r + n)) (nI L) f_revisions f_depth f_known f_saved f_edges f_counted f_begun f_startX f_startY f_nowX f_nowY f_low f_high f_pointX f_pointY f_layer f_fault f_faultAt f_units f_used a_draftKind a_draftValue a_streamOf a_sizes a_before a_newest a_opCount op at_ nu' a_running a_next a_floor a_mix a_matrix a_colour a_width a_clip a_x1 a_y1 a_x2 a_y2 a_extra a_winding a_crossings a_pixels a_painter := by
      intro x hx hcase
      have j3 : vp_in (nI (40 * r + n)) 320 := vp_in_nI (by omega) (by omega)
      unfold wX_translate_109
      rw [hx, nj_ma 40 r n, nI_clamp (by omega), in_b (by omega), vn_b (by omega)]
      refine ⟨j3, nm_e (nm_r (nI_1 n) ⟨j3, nm_e (nm_r (nI_1 t) ?_)⟩)⟩
      have es : stp (fun i => upd at_ (40 * r + n) (nI t) (40 * r + i)) n = stp (fun i => at_ (40 * r + i)) n := stp_c (fun i hi => pk_un (by omega))
      have es1 : stp (fun i => upd at_ (40 * r + n) (nI t) (40 * r + i)) (n + 1) = t + 1 := by
        show (upd at_ (40 * r + n) (nI t) (40 * r + n)).toNatClampNeg + 1 = t + 1
        rw [pk_us, nI_clamp (by omega)]
      refine ih (t + 1) (by omega) fuel (by omega) (n + 1) 0 _ _ _ (by omega) ?_ ?_ ?_ (by omega) ?_ c7'
      · intro q hq
        rw [pk_un (by omega), pk_un (by omega)]
        exact c2' q hq
      · intro i hi
        rcases Nat.lt_or_ge i n with z | z
        · exact gr_c (c3 i z) (fun j hj => ⟨pk_un (by omega), pk_un (by omega)⟩) (fun _ _ => rfl)
        · have : i = n := by omega
          subst this
          refine ⟨t, κ, pk_us, by omega, by rw [es]; omega, by rw [es]; omega, ?_, k2, k1, ?_⟩
          · intro j j1 j2
            rw [es] at j1
            exact c6 j j1 j2
          · rw [es]
            show ((κ = 0 ∧ t = _ ∧ upd op (40 * r + i) x (40 * r + i) = 18) ∨ (κ ≠ 0 ∧ t = _ ∧ upd op (40 * r + i) x (40 * r + i) = nI κ) ∨ (κ ≠ 0 ∧ t ≠ _ ∧ upd op (40 * r + i) x (40 * r + i) = 18))
            rw [pk_us]
            exact hcase
      · rw [es1]
      · intro j j1 j2
        rw [es1] at j1
        omega
    have bad : ((κ = 0 ∧ t = stp (fun i => at_ (40 * r + i)) n + 6) ∨ (κ ≠ 0 ∧ t ≠ stp (fun i => at_ (40 * r + i)) n + wnt κ)) → wX_translate_83 post (wX_translate_7 post (nI r) (nI L) f_revisions f_depth f_known f_saved f_edges f_counted f_begun f_startX f_startY f_nowX f_nowY f_low f_high f_pointX f_pointY f_layer f_fault f_faultAt f_units f_used fuel) (nI r) (nI n) (nI t) (nI κ) (nI L) f_revisions f_depth f_known f_saved f_edges f_counted f_begun f_startX f_startY f_nowX f_nowY f_low f_high f_pointX f_pointY f_layer f_fault f_faultAt f_units f_used a_draftKind a_draftValue a_streamOf a_sizes a_before a_newest a_opCount op at_ nu' a_running a_next a_floor a_mix a_matrix a_colour a_width a_clip a_x1 a_y1 a_x2 a_y2 a_extra a_winding a_crossings a_pixels a_painter := by
      intro hcase
      unfold wX_translate_83 wX_translate_84
      rw [nj_ma 40 r n]
      refine br_t rfl (emit 18 vb_18 ?_)
      rcases hcase with ⟨z1, z2⟩ | ⟨z1, z2⟩
      · exact Or.inl ⟨z1, z2, rfl⟩
      · exact Or.inr (Or.inr ⟨z1, z2, rfl⟩)
    by_cases k0 : κ = 0
    · subst k0
      refine br_t rfl (nm_r (nI_1 w) ?_)
      refine pk_le 6 w (fun z => ?_) (fun z => nm_r (nI_1 t) ?_)
      · unfold wX_translate_65
        exact br_t rfl (bad (Or.inl ⟨rfl, by omega⟩))
      · refine ih (t + 1) (by omega) fuel (by omega) n (w + 1) op at_ nu' (by omega) c2' c3 (by omega) (by omega) ?_ c7'
        intro j j1 j2
        rcases Nat.lt_or_ge j t with y | y
        · exact c6 j j1 y
        · have : j = t := by omega
          subst this; exact k2
    · have n0 : ¬ nI κ = 0 := nI_ne0 (by omega) (by omega)
      have w6 := wnt_6 κ
      refine br_f n0 ?_
      unfold wX_translate_65
      refine br_f n0 (xx_operands (by omega) k1 ?_)
      refine pk_eq w (wnt κ) (fun z => ?_) (fun z => bad (Or.inr ⟨k0, by omega⟩)) rfl rfl
      unfold wX_translate_84
      rw [nj_ma 40 r n, in_b (by omega)]
      exact br_f (by decide) (emit (nI κ) (vn_b (by omega)) (Or.inr (Or.inl ⟨k0, by omega, rfl⟩)))
theorem xx_translate {r L : Nat} (hr : r < 8) (hL : L ≤ 40) (hk : ∀ t, t < L → ∃ κ, κ ≤ 17 ∧ a_draftKind t = nI κ) {post : SX → Prop}
    (hpost : ∀ (n : Nat) (op at_ nu : Nat → Int32), (∀ q, q < 40 * r → op q = a_ops q ∧ at_ q = a_opAt q ∧ nu q = a_numbers q) → xT r L n op at_ nu a_draftKind a_draftValue → post (nI L, f_revisions, f_depth, f_known, f_saved, f_edges, f_counted, f_begun, f_startX, f_startY, f_nowX, f_nowY, f_low, f_high, f_pointX, f_pointY, f_layer, f_fault, f_faultAt, f_units, f_used, a_draftKind, a_draftValue, a_streamOf, a_sizes, a_before, a_newest, upd a_opCount r (nI n), op, at_, nu, a_running, a_next, a_floor, a_mix, a_matrix, a_colour, a_width, a_clip, a_x1, a_y1, a_x2, a_y2, a_extra, a_winding, a_crossings, a_pixels, a_painter)) :
    wpX_translate post (nI L, f_revisions, f_depth, f_known, f_saved, f_edges, f_counted, f_begun, f_startX, f_startY, f_nowX, f_nowY, f_low, f_high, f_pointX, f_pointY, f_layer, f_fault, f_faultAt, f_units, f_used, a_draftKind, a_draftValue, a_streamOf, a_sizes, a_before, a_newest, a_opCount, a_ops, a_opAt, a_numbers, a_running, a_next, a_floor, a_mix, a_matrix, a_colour, a_width, a_clip, a_x1, a_y1, a_x2, a_y2, a_extra, a_winding, a_crossings, a_pixels, a_painter) (nI r) := by
  unfold wpX_translate
  exact ⟨L + 1, xt_loop hr hL hk hpost L 0 (by omega) (L + 1) (by omega) 0 0 a_ops a_opAt a_numbers (by omega) (fun _ _ => ⟨rfl, rfl, rfl⟩) (fun i hi => absurd hi (Nat.not_lt_zero i)) rfl (by omega) (fun j _ hj => absurd hj (Nat.not_lt_zero j)) (fun j hj => absurd hj (Nat.not_lt_zero j))⟩
end
section
variable {g_revisions g_shown g_level g_layer g_depth g_parts g_edges g_operands g_units g_fault g_where g_partEdges : Int32} {b_stream b_length b_kind b_num b_matrix b_colour b_width b_clip b_paint b_painter b_running b_at b_saves b_below b_mixture b_beginX b_beginY b_endX b_endY b_fromX b_fromY b_toX b_toY b_operand : Nat → Int32}
theorem yc_copy {r L : Nat} {post : Int32 → SY → Prop} (hr : r < 8) (hL : L ≤ 40) (e8 : b_length 8 = nI L) (h : post 1 (nI (r + 1), g_shown, g_level, g_layer, g_depth, g_parts, g_edges, g_operands, g_units, g_fault, g_where, g_partEdges, b_stream, upd b_length 8 0, cy r b_kind L, cy r b_num L, b_matrix, b_colour, b_width, b_clip, b_paint, b_painter, b_running, b_at, b_saves, b_below, b_mixture, b_beginX, b_beginY, b_endX, b_endY, b_fromX, b_fromY, b_toX, b_toY, b_operand)) : ∃ n, wY_commit_48 post (nI r) g_shown g_level g_layer g_depth g_parts g_edges g_operands g_units g_fault g_where g_partEdges n 0 b_stream b_length b_kind b_num b_matrix b_colour b_width b_clip b_paint b_painter b_running b_at b_saves b_below b_mixture b_beginX b_beginY b_endX b_endY b_fromX b_fromY b_toX b_toY b_operand := by
  have loop : ∀ d m, m + d = L → ∀ n, d < n → wY_commit_48 post (nI r) g_shown g_level g_layer g_depth g_parts g_edges g_operands g_units g_fault g_where g_partEdges n (nI m) b_stream b_length (cy r b_kind m) (cy r b_num m) b_matrix b_colour b_width b_clip b_paint b_painter b_running b_at b_saves b_below b_mixture b_beginX b_beginY b_endX b_endY b_fromX b_fromY b_toX b_toY b_operand := by
    intro d
    induction d with
    | zero =>
      intro m hm n hn
      obtain ⟨n, rfl⟩ : ∃ n', n = n' + 1 := ⟨n - 1, by omega⟩
      have e : m = L := by omega
      subst e
      rw [wY_commit_48]
      dsimp only
      rw [e8]
      exact br_t (nI_le (by omega) (by omega)) (nm_e (nm_r (nI_1 r) h))
    | succ d ih =>
      intro m hm n hn
      obtain ⟨n, rfl⟩ : ∃ n', n = n' + 1 := ⟨n - 1, by omega⟩
      have nx := ih (m + 1) (by omega) n (by omega)
      have e3 : (320 : Int32) + nI m = nI (320 + m) := nI_add 320 m
      have i1 : vp_in (nI (320 + m)) 360 := vp_in_nI (by omega) (by omega)
      have i2 : vp_in (nI (40 * r + m)) 360 := vp_in_nI (by omega) (by omega)
      rw [wY_commit_48]
      dsimp only
      rw [e8, e3, nj_ma 40 r m, nI_clamp (n := 320 + m) (by omega), nI_clamp (n := 40 * r + m) (by omega), cy_hi (by omega), cy_hi (by omega)]
      exact br_f (nI_ge (by omega) (by omega)) ⟨i1, i2, nm_r (cy_s rfl) ⟨i1, i2, nm_r (cy_s rfl) (nm_r (nI_1 m) nx)⟩⟩
  refine ⟨L + 1, ?_⟩
  have := loop L 0 (by omega) (L + 1) (by omega)
  rw [cy_0, cy_0] at this
  exact this
end
section
variable {f_drafted f_revisions f_depth f_known f_saved f_edges f_counted f_begun f_startX f_startY f_nowX f_nowY f_low f_high f_pointX f_pointY f_layer f_fault f_faultAt f_units f_used : Int32} {a_draftKind a_draftValue a_streamOf a_sizes a_before a_newest a_opCount a_ops a_opAt a_numbers a_running a_next a_floor a_mix a_matrix a_colour a_width a_clip a_x1 a_y1 a_x2 a_y2 a_extra a_winding a_crossings a_pixels a_painter : Nat → Int32}
variable {g_revisions g_shown g_level g_layer g_depth g_parts g_edges g_operands g_units g_fault g_where g_partEdges : Int32} {b_stream b_length b_kind b_num b_matrix b_colour b_width b_clip b_paint b_painter b_running b_at b_saves b_below b_mixture b_beginX b_beginY b_endX b_endY b_fromX b_fromY b_toX b_toY b_operand : Nat → Int32}
variable {R : Nat}
theorem dc_commit {σ L n : Nat} {op at_ nu : Nat → Int32} (h : (dc R (nI L) a_draftKind a_draftValue a_streamOf a_sizes a_before a_newest a_opCount a_ops a_opAt a_numbers b_stream b_length b_kind b_num)) (hR : R < 8) (hσ : σ < 6) (e8 : b_length 8 = nI L) (hL : L ≤ 40) (hb : ∀ q, q < 40 * R → op q = a_ops q ∧ at_ q = a_opAt q ∧ nu q = a_numbers q) (hx : xT R L n op at_ nu a_draftKind a_draftValue) :
    (dc (R + 1) 0 a_draftKind a_draftValue (upd a_streamOf R (nI σ)) (upd a_sizes R (nI L)) (upd a_before R (a_newest σ)) (upd a_newest σ (nI R)) (upd a_opCount R (nI n)) op at_ nu (upd b_stream R (nI σ)) (upd (upd b_length R (nI L)) 8 0) (cy R b_kind L) (cy R b_num L)) := by
  obtain ⟨h1, ⟨dr', d1, d2, d3, d4⟩, h3, h4, h5⟩ := h
  have ed : dr' = L := nj_inj d2.symm (by omega) (by omega)
  subst ed
  refine ⟨by omega, ⟨0, by omega, rfl, pk_us, fun t ht => absurd ht (Nat.not_lt_zero t)⟩, fun r hr => ?_, fun σ' hσ' => ?_, fun σ' hσ' r hr => ?_⟩
  · rcases Nat.lt_or_ge r R with t | t
    · obtain ⟨σ2, L, M, w1, w2, w3, w4, w5, w6, w7, w8⟩ := h3 r t
      refine ⟨σ2, L, M, w1, w2, by rw [pk_un (by omega)]; exact w3, by rw [pk_un (by omega)]; exact w4, by rw [pk_un (by omega)]; exact w5, by rw [pk_un (by omega), pk_un (by omega)]; exact w6, by rw [pk_un (by omega)]; exact w7, ?_⟩
      have hML : M ≤ L := w8.1
      exact TR_c w8 (fun i hi => ⟨(hb _ (by omega)).1, (hb _ (by omega)).2.1⟩) (fun q hq => ⟨cy_lo (by omega), (hb _ (by omega)).2.2, cy_lo (by omega)⟩)
    · have : r = R := by omega
      subst this
      obtain ⟨x1, x2, x3, x4, x5, x6⟩ := hx
      have kk : ∀ t, t < dr' → cy r b_kind dr' (40 * r + t) = a_draftKind t := by
        intro t ht
        rw [cy_in ht]
        obtain ⟨κ, q1, q2, q3, q4⟩ := d4 t ht
        rw [q2, q3]
      refine ⟨σ, dr', n, hσ, d1, pk_us, pk_us, pk_us, by rw [pk_un (by omega), pk_us], pk_us, x1, fun i hi => gr_c (x2 i hi) (fun _ _ => ⟨rfl, rfl⟩) kk, x3, x4, fun t t1 t2 => ?_, fun t ht => ?_⟩
      · dsimp only
        rw [kk t t2]; exact x5 t t1 t2
      · dsimp only
        rw [kk t ht]
        obtain ⟨κ, q1, q2, q3, q4⟩ := d4 t ht
        refine ⟨⟨κ, q1, q2⟩, fun z => ?_⟩
        rw [q2, ← nI_0] at z
        obtain ⟨y, y1, y2, y3⟩ := q4 (nj_inj z (by omega) (by omega))
        refine ⟨y, y1, ?_, ?_⟩
        · rw [x6 t ht, y2, vz_s (by omega)]
        · rw [cy_in ht, y3]
  · have old := NW_c (h4 σ' hσ') (st' := upd b_stream R (nI σ)) (fun r hr => pk_un (by omega))
    by_cases e : σ' = σ
    · subst e
      rw [pk_us]
      exact Or.inr ⟨R, by omega, rfl, pk_us, fun r r1 r2 => by omega⟩
    · rw [pk_un e]
      have ne : upd b_stream R (nI σ) R ≠ nI σ' := by
        rw [pk_us]
        intro z
        exact e (nj_inj z (by omega) (by omega)).symm
      rcases old with ⟨e1, a1⟩ | ⟨p, hp, e1, s1, a1⟩
      · refine Or.inl ⟨e1, fun r hr => ?_⟩
        rcases Nat.lt_or_ge r R with t | t
        · exact a1 r t
        · have : r = R := by omega
          subst this; exact ne
      · refine Or.inr ⟨p, by omega, e1, s1, fun r r1 r2 => ?_⟩
        rcases Nat.lt_or_ge r R with t | t
        · exact a1 r r1 t
        · have : r = R := by omega
          subst this; exact ne
  · intro hs
    rcases Nat.lt_or_ge r R with t | t
    · rw [pk_un (by omega)] at hs
      rw [pk_un (by omega)]
      exact NW_c (h5 σ' hσ' r t hs) (fun q hq => pk_un (by omega))
    · have : r = R := by omega
      subst this
      rw [pk_us] at hs
      have : σ' = σ := (nj_inj hs (by omega) (by omega)).symm
      subst this
      rw [pk_us]
      exact NW_c (h4 σ' hσ') (fun q hq => pk_un (by omega))
theorem td_commit {v1 : Int32} {u : SX} {v : SY} (hI : IR R u v) : wpX_commit (fun r u' => wpY_commit (fun r' v' => r' = r ∧ ∃ R, IR R u' v') v v1) u v1 := by
  refine ir_el (P := fun u v => wpX_commit (fun r u' => wpY_commit (fun r' v' => r' = r ∧ ∃ R, IR R u' v') v v1) u v1) ?_ hI
  intro f_drafted f_depth f_known f_saved f_edges f_counted f_begun f_startX f_startY f_nowX f_nowY f_low f_high f_pointX f_pointY f_layer f_fault f_faultAt f_units f_used g_shown g_level g_layer g_depth g_parts g_edges g_operands g_fault g_partEdges a_draftKind a_draftValue a_streamOf a_sizes a_before a_newest a_opCount a_ops a_opAt a_numbers a_running a_next a_floor a_mix a_matrix a_colour a_width a_clip a_x1 a_y1 a_x2 a_y2 a_extra a_winding a_crossings a_pixels a_painter b_stream b_length b_kind b_num b_matrix b_clip b_running b_at b_saves b_below b_mixture b_beginX b_beginY b_endX b_endY b_fromX b_fromY b_toX b_toY b_operand hd hc hi hp ht
  have same := ir_mk (f_drafted := f_drafted) (f_depth := f_depth) (f_known := f_known) (f_saved := f_saved) (f_edges := f_edges) (f_counted := f_counted) (f_begun := f_begun) (f_startX := f_startX) (f_startY := f_startY) (f_nowX := f_nowX) (f_nowY := f_nowY) (f_low := f_low) (f_high := f_high) (f_pointX := f_pointX) (f_pointY := f_pointY) (f_layer := f_layer) (f_fault := f_fault) (f_faultAt := f_faultAt) (f_units := f_units) (f_used := f_used) (a_draftKind := a_draftKind) (a_draftValue := a_draftValue) (a_streamOf := a_streamOf) (a_sizes := a_sizes) (a_before := a_before) (a_newest := a_newest) (a_opCount := a_opCount) (a_ops := a_ops) (a_opAt := a_opAt) (a_numbers := a_numbers) (a_running := a_running) (a_next := a_next) (a_floor := a_floor) (a_mix := a_mix) (a_matrix := a_matrix) (a_colour := a_colour) (a_width := a_width) (a_clip := a_clip) (a_x1 := a_x1) (a_y1 := a_y1) (a_x2 := a_x2) (a_y2 := a_y2) (a_extra := a_extra) (a_winding := a_winding) (a_crossings := a_crossings) (a_pixels := a_pixels) (a_painter := a_painter) (g_shown := g_shown) (g_level := g_level) (g_layer := g_layer) (g_depth := g_depth) (g_parts := g_parts) (g_edges := g_edges) (g_operands := g_operands) (g_fault := g_fault) (g_partEdges := g_partEdges) (b_stream := b_stream) (b_length := b_length) (b_kind := b_kind) (b_num := b_num) (b_matrix := b_matrix) (b_clip := b_clip) (b_running := b_running) (b_at := b_at) (b_saves := b_saves) (b_below := b_below) (b_mixture := b_mixture) (b_beginX := b_beginX) (b_beginY := b_beginY) (b_endX := b_endX) (b_endY := b_endY) (b_fromX := b_fromX) (b_fromY := b_fromY) (b_toX := b_toX) (b_toY := b_toY) (b_operand := b_operand) hd hc hi hp ht
  have hd2 := hd
  obtain ⟨h1, ⟨dr, d1, d2, d3, d4⟩, h3, h4, h5⟩ := hd2
  subst d2
  unfold wpX_commit
  by_cases c0 : v1 < 0
  · refine br_t c0 ?_
    unfold wpY_commit
    exact br_t c0 ⟨rfl, R, same⟩
  · by_cases c1 : 5 < v1
    · refine br_f c0 (br_t c1 ?_)
      unfold wpY_commit
      exact br_f c0 (br_t c1 ⟨rfl, R, same⟩)
    · refine br_f c0 (br_f c1 ?_)
      obtain ⟨σ, hσ, rfl⟩ := nI_of2 (M := 5) (n := 5) (by decide) c0 (Int32.not_lt.mp c1)
      refine pk_eq R 8 (fun z => ?_) (fun z => ?_)
      · unfold wpY_commit
        exact br_f c0 (br_f c1 (pk_eq R 8 (fun _ => ⟨rfl, R, same⟩) (fun q => absurd z q)))
      · have hR : R < 8 := by omega
        have i8 : vp_in (nI R) 8 := vp_in_nI hR (by omega)
        have i9 : vp_in (nI R) 9 := vp_in_nI (by omega) (by omega)
        have i6 : vp_in (nI σ) 6 := vp_in_nI (by omega) (by omega)
        have bn := NW_b h1 (h4 σ (by omega))
        rw [nI_clamp (n := R) (by omega), nI_clamp (n := σ) (by omega), in_b (a := σ) (by omega), vn_b (a := σ) (by omega), in_b (a := dr) (by omega), vn_b (a := dr) (by omega), in_b (a := R) (by omega), vn_b (a := R) (by omega), vx_b (by omega)]
        refine nm_r (nI_1 R) ⟨i8, nm_e ⟨i8, nm_e ⟨i6, i8, nm_e ⟨i6, nm_e ?_⟩⟩⟩⟩
        refine xx_translate hR d1 (fun t ht => ?_) ?_
        · obtain ⟨κ, q1, q2, q3, q4⟩ := d4 t ht
          exact ⟨κ, q1, q2⟩
        · intro n op at_ nu hb hx
          show wpY_commit (fun r' v' => r' = 1 ∧ ∃ R', IR R' (0, nI (R + 1), f_depth, f_known, f_saved, f_edges, f_counted, f_begun, f_startX, f_startY, f_nowX, f_nowY, f_low, f_high, f_pointX, f_pointY, f_layer, f_fault, f_faultAt, f_units, f_used, a_draftKind, a_draftValue, upd a_streamOf R (nI σ), upd a_sizes R (nI dr), upd a_before R (a_newest σ), upd a_newest σ (nI R), upd a_opCount R (nI n), op, at_, nu, a_running, a_next, a_floor, a_mix, a_matrix, a_colour, a_width, a_clip, a_x1, a_y1, a_x2, a_y2, a_extra, a_winding, a_crossings, a_pixels, a_painter) v') (nI R, g_shown, g_level, g_layer, g_depth, g_parts, g_edges, g_operands, f_used, g_fault, f_faultAt, g_partEdges, b_stream, b_length, b_kind, b_num, b_matrix, a_colour, a_width, b_clip, a_pixels, a_painter, b_running, b_at, b_saves, b_below, b_mixture, b_beginX, b_beginY, b_endX, b_endY, b_fromX, b_fromY, b_toX, b_toY, b_operand) (nI σ)
          unfold wpY_commit
          refine br_f c0 (br_f c1 (pk_eq R 8 (fun q => absurd q z) (fun _ => ⟨i8, nm_e ⟨i9, nm_e ?_⟩⟩)))
          rw [nI_clamp (n := R) (by omega), d3]
          refine yc_copy hR d1 (by rw [pk_un (by omega)]; exact d3) ⟨rfl, R + 1, ?_⟩
          exact ir_mk (dc_commit hd hR (by omega) d3 d1 hb hx) hc hi hp ht
end
end
section
/-! the answers -/
section
variable {f_drafted f_revisions f_depth f_known f_saved f_edges f_counted f_begun f_startX f_startY f_nowX f_nowY f_low f_high f_pointX f_pointY f_layer f_fault f_faultAt f_units f_used : Int32} {a_draftKind a_draftValue a_streamOf a_sizes a_before a_newest a_opCount a_ops a_opAt a_numbers a_running a_next a_floor a_mix a_matrix a_colour a_width a_clip a_x1 a_y1 a_x2 a_y2 a_extra a_winding a_crossings a_pixels a_painter : Nat → Int32}
variable {g_revisions g_shown g_level g_layer g_depth g_parts g_edges g_operands g_units g_fault g_where g_partEdges : Int32} {b_stream b_length b_kind b_num b_matrix b_colour b_width b_clip b_paint b_painter b_running b_at b_saves b_below b_mixture b_beginX b_beginY b_endX b_endY b_fromX b_fromY b_toX b_toY b_operand : Nat → Int32}
variable {R : Nat}
theorem td_count_l (px : Nat → Int32) (c : Int32) : ∀ d j : Nat, j + d = 192 → ∀ n x : Int32, True → ∃ r : Int32, (∀ post : Int32 → Prop, post r → wX_count_4 post c f_drafted f_revisions f_depth f_known f_saved f_edges f_counted f_begun f_startX f_startY f_nowX f_nowY f_low f_high f_pointX f_pointY f_layer f_fault f_faultAt f_units f_used a_draftKind a_draftValue a_streamOf a_sizes a_before a_newest a_opCount a_ops a_opAt a_numbers a_running a_next a_floor a_mix a_matrix a_colour a_width a_clip a_x1 a_y1 a_x2 a_y2 a_extra a_winding a_crossings px a_painter (d + 1) n (nI j)) ∧ (∀ post : Int32 → Prop, post r → wY_count_4 post c g_revisions g_shown g_level g_layer g_depth g_parts g_edges g_operands g_units g_fault g_where g_partEdges b_stream b_length b_kind b_num b_matrix b_colour b_width b_clip px b_painter b_running b_at b_saves b_below b_mixture b_beginX b_beginY b_endX b_endY b_fromX b_fromY b_toX b_toY b_operand (d + 1) n (nI j)) := by
  intro d
  induction d with
  | zero =>
    intro j hj n _ _
    have h : (192 : Int32) ≤ nI j := nI_le (a := 192) (by omega) (by omega)
    exact ⟨n, fun _ hp => br_t h hp, fun _ hp => br_t h hp⟩
  | succ d ih =>
    intro j hj n _ _
    have h : ¬ (192 : Int32) ≤ nI j := nI_ge (b := 192) (by omega) (by omega)
    have hi : vp_in (nI j) 1344 := vp_in_nI (by omega) (by omega)
    by_cases z : px (nI j).toNatClampNeg = c
    · obtain ⟨r, hX, hY⟩ := ih (j + 1) (by omega) (n + 1) 0 trivial
      exact ⟨r, fun post hp => br_f h ⟨hi, br_t z (nm_e (nm_r (nI_1 j) (hX post hp)))⟩, fun post hp => br_f h ⟨hi, br_t z (nm_e (nm_r (nI_1 j) (hY post hp)))⟩⟩
    · obtain ⟨r, hX, hY⟩ := ih (j + 1) (by omega) n 0 trivial
      exact ⟨r, fun post hp => br_f h ⟨hi, br_f z (nm_r (nI_1 j) (hX post hp))⟩, fun post hp => br_f h ⟨hi, br_f z (nm_r (nI_1 j) (hY post hp))⟩⟩
theorem td_row_l (px : Nat → Int32) {q : Nat} (hq : q < 12) : ∀ d j : Nat, j + d = 16 → ∀ n : Int32, ∃ r : Int32, (∀ post : Int32 → Prop, post r → wX_row_16 post (nI q) f_drafted f_revisions f_depth f_known f_saved f_edges f_counted f_begun f_startX f_startY f_nowX f_nowY f_low f_high f_pointX f_pointY f_layer f_fault f_faultAt f_units f_used a_draftKind a_draftValue a_streamOf a_sizes a_before a_newest a_opCount a_ops a_opAt a_numbers a_running a_next a_floor a_mix a_matrix a_colour a_width a_clip a_x1 a_y1 a_x2 a_y2 a_extra a_winding a_crossings px a_painter (d + 1) n (nI j)) ∧ (∀ post : Int32 → Prop, post r → wY_row_16 post (nI q) g_revisions g_shown g_level g_layer g_depth g_parts g_edges g_operands g_units g_fault g_where g_partEdges b_stream b_length b_kind b_num b_matrix b_colour b_width b_clip px b_painter b_running b_at b_saves b_below b_mixture b_beginX b_beginY b_endX b_endY b_fromX b_fromY b_toX b_toY b_operand (d + 1) n (nI j)) := by
  intro d
  induction d with
  | zero =>
    intro j hj n
    have h : (16 : Int32) ≤ nI j := nI_le (a := 16) (by omega) (by omega)
    exact ⟨n, fun _ hp => br_t h hp, fun _ hp => br_t h hp⟩
  | succ d ih =>
    intro j hj n
    have h : ¬ (16 : Int32) ≤ nI j := nI_ge (b := 16) (by omega) (by omega)
    have hi : vp_in ((16 : Int32) * nI q + nI j) 1344 := by rw [nj_ma 16 q j]; exact vp_in_nI (by omega) (by omega)
    by_cases z : px ((16 : Int32) * nI q + nI j).toNatClampNeg = 0
    · obtain ⟨r, hX, hY⟩ := ih (j + 1) (by omega) n
      exact ⟨r, fun post hp => br_f h ⟨hi, br_t z (nm_r (nI_1 j) (hX post hp))⟩, fun post hp => br_f h ⟨hi, br_t z (nm_r (nI_1 j) (hY post hp))⟩⟩
    · obtain ⟨r, hX, hY⟩ := ih (j + 1) (by omega) (n ||| ((1 : Int32) <<< (nI j &&& 31)))
      exact ⟨r, fun post hp => br_f h ⟨hi, br_f z (nm_e (nm_r (nI_1 j) (hX post hp)))⟩, fun post hp => br_f h ⟨hi, br_f z (nm_e (nm_r (nI_1 j) (hY post hp)))⟩⟩
theorem td_count {v1 : Int32} {u : SX} {v : SY} (hI : IR R u v) : wpX_count (fun r => wpY_count (fun r' => r' = r ∧ ∃ R, IR R u v) v v1) u v1 := by
  refine ir_el (P := fun u v => wpX_count (fun r => wpY_count (fun r' => r' = r ∧ ∃ R, IR R u v) v v1) u v1) ?_ hI
  intro f_drafted f_depth f_known f_saved f_edges f_counted f_begun f_startX f_startY f_nowX f_nowY f_low f_high f_pointX f_pointY f_layer f_fault f_faultAt f_units f_used g_shown g_level g_layer g_depth g_parts g_edges g_operands g_fault g_partEdges a_draftKind a_draftValue a_streamOf a_sizes a_before a_newest a_opCount a_ops a_opAt a_numbers a_running a_next a_floor a_mix a_matrix a_colour a_width a_clip a_x1 a_y1 a_x2 a_y2 a_extra a_winding a_crossings a_pixels a_painter b_stream b_length b_kind b_num b_matrix b_clip b_running b_at b_saves b_below b_mixture b_beginX b_beginY b_endX b_endY b_fromX b_fromY b_toX b_toY b_operand hd hc hi hp ht
  have same := ir_mk (f_drafted := f_drafted) (f_depth := f_depth) (f_known := f_known) (f_saved := f_saved) (f_edges := f_edges) (f_counted := f_counted) (f_begun := f_begun) (f_startX := f_startX) (f_startY := f_startY) (f_nowX := f_nowX) (f_nowY := f_nowY) (f_low := f_low) (f_high := f_high) (f_pointX := f_pointX) (f_pointY := f_pointY) (f_layer := f_layer) (f_fault := f_fault) (f_faultAt := f_faultAt) (f_units := f_units) (f_used := f_used) (a_draftKind := a_draftKind) (a_draftValue := a_draftValue) (a_streamOf := a_streamOf) (a_sizes := a_sizes) (a_before := a_before) (a_newest := a_newest) (a_opCount := a_opCount) (a_ops := a_ops) (a_opAt := a_opAt) (a_numbers := a_numbers) (a_running := a_running) (a_next := a_next) (a_floor := a_floor) (a_mix := a_mix) (a_matrix := a_matrix) (a_colour := a_colour) (a_width := a_width) (a_clip := a_clip) (a_x1 := a_x1) (a_y1 := a_y1) (a_x2 := a_x2) (a_y2 := a_y2) (a_extra := a_extra) (a_winding := a_winding) (a_crossings := a_crossings) (a_pixels := a_pixels) (a_painter := a_painter) (g_shown := g_shown) (g_level := g_level) (g_layer := g_layer) (g_depth := g_depth) (g_parts := g_parts) (g_edges := g_edges) (g_operands := g_operands) (g_fault := g_fault) (g_partEdges := g_partEdges) (b_stream := b_stream) (b_length := b_length) (b_kind := b_kind) (b_num := b_num) (b_matrix := b_matrix) (b_clip := b_clip) (b_running := b_running) (b_at := b_at) (b_saves := b_saves) (b_below := b_below) (b_mixture := b_mixture) (b_beginX := b_beginX) (b_beginY := b_beginY) (b_endX := b_endX) (b_endY := b_endY) (b_fromX := b_fromX) (b_fromY := b_fromY) (b_toX := b_toX) (b_toY := b_toY) (b_operand := b_operand) hd hc hi hp ht
  obtain ⟨r, hX, hY⟩ := td_count_l (f_drafted := f_drafted) (f_revisions := nI R) (f_depth := f_depth) (f_known := f_known) (f_saved := f_saved) (f_edges := f_edges) (f_counted := f_counted) (f_begun := f_begun) (f_startX := f_startX) (f_startY := f_startY) (f_nowX := f_nowX) (f_nowY := f_nowY) (f_low := f_low) (f_high := f_high) (f_pointX := f_pointX) (f_pointY := f_pointY) (f_layer := f_layer) (f_fault := f_fault) (f_faultAt := f_faultAt) (f_units := f_units) (f_used := f_used) (a_draftKind := a_draftKind) (a_draftValue := a_draftValue) (a_streamOf := a_streamOf) (a_sizes := a_sizes) (a_before := a_before) (a_newest := a_newest) (a_opCount := a_opCount) (a_ops := a_ops) (a_opAt := a_opAt) (a_numbers := a_numbers) (a_running := a_running) (a_next := a_next) (a_floor := a_floor) (a_mix := a_mix) (a_matrix := a_matrix) (a_colour := a_colour) (a_width := a_width) (a_clip := a_clip) (a_x1 := a_x1) (a_y1 := a_y1) (a_x2 := a_x2) (a_y2 := a_y2) (a_extra := a_extra) (a_winding := a_winding) (a_crossings := a_crossings) (a_painter := a_painter) (g_revisions := nI R) (g_shown := g_shown) (g_level := g_level) (g_layer := g_layer) (g_depth := g_depth) (g_parts := g_parts) (g_edges := g_edges) (g_operands := g_operands) (g_units := f_used) (g_fault := g_fault) (g_where := f_faultAt) (g_partEdges := g_partEdges) (b_stream := b_stream) (b_length := b_length) (b_kind := b_kind) (b_num := b_num) (b_matrix := b_matrix) (b_colour := a_colour) (b_width := a_width) (b_clip := b_clip) (b_painter := a_painter) (b_running := b_running) (b_at := b_at) (b_saves := b_saves) (b_below := b_below) (b_mixture := b_mixture) (b_beginX := b_beginX) (b_beginY := b_beginY) (b_endX := b_endX) (b_endY := b_endY) (b_fromX := b_fromX) (b_fromY := b_fromY) (b_toX := b_toX) (b_toY := b_toY) (b_operand := b_operand) a_pixels v1 192 0 (by omega) 0 0 trivial
  unfold wpX_count
  refine ⟨193, hX _ ?_⟩
  unfold wpY_count
  exact ⟨193, hY _ ⟨rfl, R, same⟩⟩
theorem td_row {v1 : Int32} {u : SX} {v : SY} (hI : IR R u v) : wpX_row (fun r => wpY_row (fun r' => r' = r ∧ ∃ R, IR R u v) v v1) u v1 := by
  refine ir_el (P := fun u v => wpX_row (fun r => wpY_row (fun r' => r' = r ∧ ∃ R, IR R u v) v v1) u v1) ?_ hI
  intro f_drafted f_depth f_known f_saved f_edges f_counted f_begun f_startX f_startY f_nowX f_nowY f_low f_high f_pointX f_pointY f_layer f_fault f_faultAt f_units f_used g_shown g_level g_layer g_depth g_parts g_edges g_operands g_fault g_partEdges a_draftKind a_draftValue a_streamOf a_sizes a_before a_newest a_opCount a_ops a_opAt a_numbers a_running a_next a_floor a_mix a_matrix a_colour a_width a_clip a_x1 a_y1 a_x2 a_y2 a_extra a_winding a_crossings a_pixels a_painter b_stream b_length b_kind b_num b_matrix b_clip b_running b_at b_saves b_below b_mixture b_beginX b_beginY b_endX b_endY b_fromX b_fromY b_toX b_toY b_operand hd hc hi hp ht
  have same := ir_mk (f_drafted := f_drafted) (f_depth := f_depth) (f_known := f_known) (f_saved := f_saved) (f_edges := f_edges) (f_counted := f_counted) (f_begun := f_begun) (f_startX := f_startX) (f_startY := f_startY) (f_nowX := f_nowX) (f_nowY := f_nowY) (f_low := f_low) (f_high := f_high) (f_pointX := f_pointX) (f_pointY := f_pointY) (f_layer := f_layer) (f_fault := f_fault) (f_faultAt := f_faultAt) (f_units := f_units) (f_used := f_used) (a_draftKind := a_draftKind) (a_draftValue := a_draftValue) (a_streamOf := a_streamOf) (a_sizes := a_sizes) (a_before := a_before) (a_newest := a_newest) (a_opCount := a_opCount) (a_ops := a_ops) (a_opAt := a_opAt) (a_numbers := a_numbers) (a_running := a_running) (a_next := a_next) (a_floor := a_floor) (a_mix := a_mix) (a_matrix := a_matrix) (a_colour := a_colour) (a_width := a_width) (a_clip := a_clip) (a_x1 := a_x1) (a_y1 := a_y1) (a_x2 := a_x2) (a_y2 := a_y2) (a_extra := a_extra) (a_winding := a_winding) (a_crossings := a_crossings) (a_pixels := a_pixels) (a_painter := a_painter) (g_shown := g_shown) (g_level := g_level) (g_layer := g_layer) (g_depth := g_depth) (g_parts := g_parts) (g_edges := g_edges) (g_operands := g_operands) (g_fault := g_fault) (g_partEdges := g_partEdges) (b_stream := b_stream) (b_length := b_length) (b_kind := b_kind) (b_num := b_num) (b_matrix := b_matrix) (b_clip := b_clip) (b_running := b_running) (b_at := b_at) (b_saves := b_saves) (b_below := b_below) (b_mixture := b_mixture) (b_beginX := b_beginX) (b_beginY := b_beginY) (b_endX := b_endX) (b_endY := b_endY) (b_fromX := b_fromX) (b_fromY := b_fromY) (b_toX := b_toX) (b_toY := b_toY) (b_operand := b_operand) hd hc hi hp ht
  unfold wpX_row wpY_row
  by_cases c0 : v1 < 0
  · exact br_t c0 (br_t c0 ⟨rfl, R, same⟩)
  · by_cases c1 : v1 ≤ 11
    · obtain ⟨q, hq, rfl⟩ := nI_of2 (M := 11) (n := 11) (by decide) c0 c1
      obtain ⟨r, hX, hY⟩ := td_row_l (f_drafted := f_drafted) (f_revisions := nI R) (f_depth := f_depth) (f_known := f_known) (f_saved := f_saved) (f_edges := f_edges) (f_counted := f_counted) (f_begun := f_begun) (f_startX := f_startX) (f_startY := f_startY) (f_nowX := f_nowX) (f_nowY := f_nowY) (f_low := f_low) (f_high := f_high) (f_pointX := f_pointX) (f_pointY := f_pointY) (f_layer := f_layer) (f_fault := f_fault) (f_faultAt := f_faultAt) (f_units := f_units) (f_used := f_used) (a_draftKind := a_draftKind) (a_draftValue := a_draftValue) (a_streamOf := a_streamOf) (a_sizes := a_sizes) (a_before := a_before) (a_newest := a_newest) (a_opCount := a_opCount) (a_ops := a_ops) (a_opAt := a_opAt) (a_numbers := a_numbers) (a_running := a_running) (a_next := a_next) (a_floor := a_floor) (a_mix := a_mix) (a_matrix := a_matrix) (a_colour := a_colour) (a_width := a_width) (a_clip := a_clip) (a_x1 := a_x1) (a_y1 := a_y1) (a_x2 := a_x2) (a_y2 := a_y2) (a_extra := a_extra) (a_winding := a_winding) (a_crossings := a_crossings) (a_painter := a_painter) (g_revisions := nI R) (g_shown := g_shown) (g_level := g_level) (g_layer := g_layer) (g_depth := g_depth) (g_parts := g_parts) (g_edges := g_edges) (g_operands := g_operands) (g_units := f_used) (g_fault := g_fault) (g_where := f_faultAt) (g_partEdges := g_partEdges) (b_stream := b_stream) (b_length := b_length) (b_kind := b_kind) (b_num := b_num) (b_matrix := b_matrix) (b_colour := a_colour) (b_width := a_width) (b_clip := b_clip) (b_painter := a_painter) (b_running := b_running) (b_at := b_at) (b_saves := b_saves) (b_below := b_below) (b_mixture := b_mixture) (b_beginX := b_beginX) (b_beginY := b_beginY) (b_endX := b_endX) (b_endY := b_endY) (b_fromX := b_fromX) (b_fromY := b_fromY) (b_toX := b_toX) (b_toY := b_toY) (b_operand := b_operand) a_pixels (q := q) (by omega) 16 0 (by omega) 0
      exact br_f c0 (br_t c1 ⟨17, hX _ (br_f c0 (br_t c1 ⟨17, hY _ ⟨rfl, R, same⟩⟩))⟩)
    · exact br_f c0 (br_f c1 (br_f c0 (br_f c1 ⟨rfl, R, same⟩)))
theorem td_pixel {v1 v2 : Int32} {u : SX} {v : SY} (hI : IR R u v) : wpX_pixel (fun r => wpY_pixel (fun r' => r' = r ∧ ∃ R, IR R u v) v v1 v2) u v1 v2 := by
  refine ir_el (P := fun u v => wpX_pixel (fun r => wpY_pixel (fun r' => r' = r ∧ ∃ R, IR R u v) v v1 v2) u v1 v2) ?_ hI
  intro f_drafted f_depth f_known f_saved f_edges f_counted f_begun f_startX f_startY f_nowX f_nowY f_low f_high f_pointX f_pointY f_layer f_fault f_faultAt f_units f_used g_shown g_level g_layer g_depth g_parts g_edges g_operands g_fault g_partEdges a_draftKind a_draftValue a_streamOf a_sizes a_before a_newest a_opCount a_ops a_opAt a_numbers a_running a_next a_floor a_mix a_matrix a_colour a_width a_clip a_x1 a_y1 a_x2 a_y2 a_extra a_winding a_crossings a_pixels a_painter b_stream b_length b_kind b_num b_matrix b_clip b_running b_at b_saves b_below b_mixture b_beginX b_beginY b_endX b_endY b_fromX b_fromY b_toX b_toY b_operand hd hc hi hp ht
  have same := ir_mk (f_drafted := f_drafted) (f_depth := f_depth) (f_known := f_known) (f_saved := f_saved) (f_edges := f_edges) (f_counted := f_counted) (f_begun := f_begun) (f_startX := f_startX) (f_startY := f_startY) (f_nowX := f_nowX) (f_nowY := f_nowY) (f_low := f_low) (f_high := f_high) (f_pointX := f_pointX) (f_pointY := f_pointY) (f_layer := f_layer) (f_fault := f_fault) (f_faultAt := f_faultAt) (f_units := f_units) (f_used := f_used) (a_draftKind := a_draftKind) (a_draftValue := a_draftValue) (a_streamOf := a_streamOf) (a_sizes := a_sizes) (a_before := a_before) (a_newest := a_newest) (a_opCount := a_opCount) (a_ops := a_ops) (a_opAt := a_opAt) (a_numbers := a_numbers) (a_running := a_running) (a_next := a_next) (a_floor := a_floor) (a_mix := a_mix) (a_matrix := a_matrix) (a_colour := a_colour) (a_width := a_width) (a_clip := a_clip) (a_x1 := a_x1) (a_y1 := a_y1) (a_x2 := a_x2) (a_y2 := a_y2) (a_extra := a_extra) (a_winding := a_winding) (a_crossings := a_crossings) (a_pixels := a_pixels) (a_painter := a_painter) (g_shown := g_shown) (g_level := g_level) (g_layer := g_layer) (g_depth := g_depth) (g_parts := g_parts) (g_edges := g_edges) (g_operands := g_operands) (g_fault := g_fault) (g_partEdges := g_partEdges) (b_stream := b_stream) (b_length := b_length) (b_kind := b_kind) (b_num := b_num) (b_matrix := b_matrix) (b_clip := b_clip) (b_running := b_running) (b_at := b_at) (b_saves := b_saves) (b_below := b_below) (b_mixture := b_mixture) (b_beginX := b_beginX) (b_beginY := b_beginY) (b_endX := b_endX) (b_endY := b_endY) (b_fromX := b_fromX) (b_fromY := b_fromY) (b_toX := b_toX) (b_toY := b_toY) (b_operand := b_operand) hd hc hi hp ht
  unfold wpX_pixel wpY_pixel wpY_there
  by_cases c0 : v1 < 0
  · exact br_t c0 (br_t c0 (br_t rfl ⟨rfl, R, same⟩))
  · refine br_f c0 ?_
    obtain ⟨i, hi31, rfl⟩ := nI_of c0
    refine pk_lt 15 i (fun c1 => ?_) (fun c1 => ?_)
    · exact br_f c0 (br_t (nI_le (a := 16) (by omega) hi31) (br_t rfl ⟨rfl, R, same⟩))
    · have n16 : ¬ (16 : Int32) ≤ nI i := nI_ge (b := 16) (by omega) (by omega)
      by_cases c2 : v2 < 0
      · exact br_t c2 (br_f c0 (br_f n16 (br_t c2 (br_t rfl ⟨rfl, R, same⟩))))
      · refine br_f c2 ?_
        obtain ⟨j, hj31, rfl⟩ := nI_of c2
        refine pk_le j 11 (fun c3 => ?_) (fun c3 => ?_)
        · have hin : vp_in ((16 : Int32) * nI j + nI i) 1344 := by rw [nj_ma 16 j i]; exact vp_in_nI (by omega) (by omega)
          have n12 : ¬ (12 : Int32) ≤ nI j := nI_ge (b := 12) (by omega) (by omega)
          exact ⟨hin, br_f c0 (br_f n16 (br_f c2 (br_f n12 (br_f (by decide) ⟨hin, rfl, R, same⟩))))⟩
        · exact br_f c0 (br_f n16 (br_f c2 (br_t (nI_le (a := 12) (by omega) hj31) (br_t rfl ⟨rfl, R, same⟩))))
theorem td_by {v1 v2 : Int32} {u : SX} {v : SY} (hI : IR R u v) : wpX_by (fun r => wpY_by (fun r' => r' = r ∧ ∃ R, IR R u v) v v1 v2) u v1 v2 := by
  refine ir_el (P := fun u v => wpX_by (fun r => wpY_by (fun r' => r' = r ∧ ∃ R, IR R u v) v v1 v2) u v1 v2) ?_ hI
  intro f_drafted f_depth f_known f_saved f_edges f_counted f_begun f_startX f_startY f_nowX f_nowY f_low f_high f_pointX f_pointY f_layer f_fault f_faultAt f_units f_used g_shown g_level g_layer g_depth g_parts g_edges g_operands g_fault g_partEdges a_draftKind a_draftValue a_streamOf a_sizes a_before a_newest a_opCount a_ops a_opAt a_numbers a_running a_next a_floor a_mix a_matrix a_colour a_width a_clip a_x1 a_y1 a_x2 a_y2 a_extra a_winding a_crossings a_pixels a_painter b_stream b_length b_kind b_num b_matrix b_clip b_running b_at b_saves b_below b_mixture b_beginX b_beginY b_endX b_endY b_fromX b_fromY b_toX b_toY b_operand hd hc hi hp ht
  have same := ir_mk (f_drafted := f_drafted) (f_depth := f_depth) (f_known := f_known) (f_saved := f_saved) (f_edges := f_edges) (f_counted := f_counted) (f_begun := f_begun) (f_startX := f_startX) (f_startY := f_startY) (f_nowX := f_nowX) (f_nowY := f_nowY) (f_low := f_low) (f_high := f_high) (f_pointX := f_pointX) (f_pointY := f_pointY) (f_layer := f_layer) (f_fault := f_fault) (f_faultAt := f_faultAt) (f_units := f_units) (f_used := f_used) (a_draftKind := a_draftKind) (a_draftValue := a_draftValue) (a_streamOf := a_streamOf) (a_sizes := a_sizes) (a_before := a_before) (a_newest := a_newest) (a_opCount := a_opCount) (a_ops := a_ops) (a_opAt := a_opAt) (a_numbers := a_numbers) (a_running := a_running) (a_next := a_next) (a_floor := a_floor) (a_mix := a_mix) (a_matrix := a_matrix) (a_colour := a_colour) (a_width := a_width) (a_clip := a_clip) (a_x1 := a_x1) (a_y1 := a_y1) (a_x2 := a_x2) (a_y2 := a_y2) (a_extra := a_extra) (a_winding := a_winding) (a_crossings := a_crossings) (a_pixels := a_pixels) (a_painter := a_painter) (g_shown := g_shown) (g_level := g_level) (g_layer := g_layer) (g_depth := g_depth) (g_parts := g_parts) (g_edges := g_edges) (g_operands := g_operands) (g_fault := g_fault) (g_partEdges := g_partEdges) (b_stream := b_stream) (b_length := b_length) (b_kind := b_kind) (b_num := b_num) (b_matrix := b_matrix) (b_clip := b_clip) (b_running := b_running) (b_at := b_at) (b_saves := b_saves) (b_below := b_below) (b_mixture := b_mixture) (b_beginX := b_beginX) (b_beginY := b_beginY) (b_endX := b_endX) (b_endY := b_endY) (b_fromX := b_fromX) (b_fromY := b_fromY) (b_toX := b_toX) (b_toY := b_toY) (b_operand := b_operand) hd hc hi hp ht
  unfold wpX_by wpY_by wpY_there
  by_cases c0 : v1 < 0
  · exact br_t c0 (br_t c0 (br_t rfl ⟨rfl, R, same⟩))
  · refine br_f c0 ?_
    obtain ⟨i, hi31, rfl⟩ := nI_of c0
    refine pk_lt 15 i (fun c1 => ?_) (fun c1 => ?_)
    · exact br_f c0 (br_t (nI_le (a := 16) (by omega) hi31) (br_t rfl ⟨rfl, R, same⟩))
    · have n16 : ¬ (16 : Int32) ≤ nI i := nI_ge (b := 16) (by omega) (by omega)
      by_cases c2 : v2 < 0
      · exact br_t c2 (br_f c0 (br_f n16 (br_t c2 (br_t rfl ⟨rfl, R, same⟩))))
      · refine br_f c2 ?_
        obtain ⟨j, hj31, rfl⟩ := nI_of c2
        refine pk_le j 11 (fun c3 => ?_) (fun c3 => ?_)
        · have hin : vp_in ((16 : Int32) * nI j + nI i) 1344 := by rw [nj_ma 16 j i]; exact vp_in_nI (by omega) (by omega)
          have n12 : ¬ (12 : Int32) ≤ nI j := nI_ge (b := 12) (by omega) (by omega)
          exact ⟨hin, br_f c0 (br_f n16 (br_f c2 (br_f n12 (br_f (by decide) ⟨hin, rfl, R, same⟩))))⟩
        · exact br_f c0 (br_f n16 (br_f c2 (br_t (nI_le (a := 12) (by omega) hj31) (br_t rfl ⟨rfl, R, same⟩))))
theorem td_faultAt {u : SX} {v : SY} (hI : IR R u v) : wpX_faultAt (fun r => wpY_faultAt (fun r' => r' = r ∧ ∃ R, IR R u v) v) u := by
  refine ir_el (P := fun u v => wpX_faultAt (fun r => wpY_faultAt (fun r' => r' = r ∧ ∃ R, IR R u v) v) u) ?_ hI
  intro f_drafted f_depth f_known f_saved f_edges f_counted f_begun f_startX f_startY f_nowX f_nowY f_low f_high f_pointX f_pointY f_layer f_fault f_faultAt f_units f_used g_shown g_level g_layer g_depth g_parts g_edges g_operands g_fault g_partEdges a_draftKind a_draftValue a_streamOf a_sizes a_before a_newest a_opCount a_ops a_opAt a_numbers a_running a_next a_floor a_mix a_matrix a_colour a_width a_clip a_x1 a_y1 a_x2 a_y2 a_extra a_winding a_crossings a_pixels a_painter b_stream b_length b_kind b_num b_matrix b_clip b_running b_at b_saves b_below b_mixture b_beginX b_beginY b_endX b_endY b_fromX b_fromY b_toX b_toY b_operand hd hc hi hp ht
  have same := ir_mk (f_drafted := f_drafted) (f_depth := f_depth) (f_known := f_known) (f_saved := f_saved) (f_edges := f_edges) (f_counted := f_counted) (f_begun := f_begun) (f_startX := f_startX) (f_startY := f_startY) (f_nowX := f_nowX) (f_nowY := f_nowY) (f_low := f_low) (f_high := f_high) (f_pointX := f_pointX) (f_pointY := f_pointY) (f_layer := f_layer) (f_fault := f_fault) (f_faultAt := f_faultAt) (f_units := f_units) (f_used := f_used) (a_draftKind := a_draftKind) (a_draftValue := a_draftValue) (a_streamOf := a_streamOf) (a_sizes := a_sizes) (a_before := a_before) (a_newest := a_newest) (a_opCount := a_opCount) (a_ops := a_ops) (a_opAt := a_opAt) (a_numbers := a_numbers) (a_running := a_running) (a_next := a_next) (a_floor := a_floor) (a_mix := a_mix) (a_matrix := a_matrix) (a_colour := a_colour) (a_width := a_width) (a_clip := a_clip) (a_x1 := a_x1) (a_y1 := a_y1) (a_x2 := a_x2) (a_y2 := a_y2) (a_extra := a_extra) (a_winding := a_winding) (a_crossings := a_crossings) (a_pixels := a_pixels) (a_painter := a_painter) (g_shown := g_shown) (g_level := g_level) (g_layer := g_layer) (g_depth := g_depth) (g_parts := g_parts) (g_edges := g_edges) (g_operands := g_operands) (g_fault := g_fault) (g_partEdges := g_partEdges) (b_stream := b_stream) (b_length := b_length) (b_kind := b_kind) (b_num := b_num) (b_matrix := b_matrix) (b_clip := b_clip) (b_running := b_running) (b_at := b_at) (b_saves := b_saves) (b_below := b_below) (b_mixture := b_mixture) (b_beginX := b_beginX) (b_beginY := b_beginY) (b_endX := b_endX) (b_endY := b_endY) (b_fromX := b_fromX) (b_fromY := b_fromY) (b_toX := b_toX) (b_toY := b_toY) (b_operand := b_operand) hd hc hi hp ht
  unfold wpX_faultAt wpY_faultAt
  exact ⟨rfl, R, same⟩
theorem td_used {u : SX} {v : SY} (hI : IR R u v) : wpX_used (fun r => wpY_used (fun r' => r' = r ∧ ∃ R, IR R u v) v) u := by
  refine ir_el (P := fun u v => wpX_used (fun r => wpY_used (fun r' => r' = r ∧ ∃ R, IR R u v) v) u) ?_ hI
  intro f_drafted f_depth f_known f_saved f_edges f_counted f_begun f_startX f_startY f_nowX f_nowY f_low f_high f_pointX f_pointY f_layer f_fault f_faultAt f_units f_used g_shown g_level g_layer g_depth g_parts g_edges g_operands g_fault g_partEdges a_draftKind a_draftValue a_streamOf a_sizes a_before a_newest a_opCount a_ops a_opAt a_numbers a_running a_next a_floor a_mix a_matrix a_colour a_width a_clip a_x1 a_y1 a_x2 a_y2 a_extra a_winding a_crossings a_pixels a_painter b_stream b_length b_kind b_num b_matrix b_clip b_running b_at b_saves b_below b_mixture b_beginX b_beginY b_endX b_endY b_fromX b_fromY b_toX b_toY b_operand hd hc hi hp ht
  have same := ir_mk (f_drafted := f_drafted) (f_depth := f_depth) (f_known := f_known) (f_saved := f_saved) (f_edges := f_edges) (f_counted := f_counted) (f_begun := f_begun) (f_startX := f_startX) (f_startY := f_startY) (f_nowX := f_nowX) (f_nowY := f_nowY) (f_low := f_low) (f_high := f_high) (f_pointX := f_pointX) (f_pointY := f_pointY) (f_layer := f_layer) (f_fault := f_fault) (f_faultAt := f_faultAt) (f_units := f_units) (f_used := f_used) (a_draftKind := a_draftKind) (a_draftValue := a_draftValue) (a_streamOf := a_streamOf) (a_sizes := a_sizes) (a_before := a_before) (a_newest := a_newest) (a_opCount := a_opCount) (a_ops := a_ops) (a_opAt := a_opAt) (a_numbers := a_numbers) (a_running := a_running) (a_next := a_next) (a_floor := a_floor) (a_mix := a_mix) (a_matrix := a_matrix) (a_colour := a_colour) (a_width := a_width) (a_clip := a_clip) (a_x1 := a_x1) (a_y1 := a_y1) (a_x2 := a_x2) (a_y2 := a_y2) (a_extra := a_extra) (a_winding := a_winding) (a_crossings := a_crossings) (a_pixels := a_pixels) (a_painter := a_painter) (g_shown := g_shown) (g_level := g_level) (g_layer := g_layer) (g_depth := g_depth) (g_parts := g_parts) (g_edges := g_edges) (g_operands := g_operands) (g_fault := g_fault) (g_partEdges := g_partEdges) (b_stream := b_stream) (b_length := b_length) (b_kind := b_kind) (b_num := b_num) (b_matrix := b_matrix) (b_clip := b_clip) (b_running := b_running) (b_at := b_at) (b_saves := b_saves) (b_below := b_below) (b_mixture := b_mixture) (b_beginX := b_beginX) (b_beginY := b_beginY) (b_endX := b_endX) (b_endY := b_endY) (b_fromX := b_fromX) (b_fromY := b_fromY) (b_toX := b_toX) (b_toY := b_toY) (b_operand := b_operand) hd hc hi hp ht
  unfold wpX_used wpY_used
  exact ⟨rfl, R, same⟩
theorem td_renderAt {v1 : Int32} {u : SX} {v : SY} (hI : IR R u v) : wpX_renderAt (fun r u' => wpY_renderAt (fun r' v' => r' = r ∧ ∃ R, IR R u' v') v v1) u v1 := by
  refine ir_el (P := fun u v => wpX_renderAt (fun r u' => wpY_renderAt (fun r' v' => r' = r ∧ ∃ R, IR R u' v') v v1) u v1) ?_ hI
  intro f_drafted f_depth f_known f_saved f_edges f_counted f_begun f_startX f_startY f_nowX f_nowY f_low f_high f_pointX f_pointY f_layer f_fault f_faultAt f_units f_used g_shown g_level g_layer g_depth g_parts g_edges g_operands g_fault g_partEdges a_draftKind a_draftValue a_streamOf a_sizes a_before a_newest a_opCount a_ops a_opAt a_numbers a_running a_next a_floor a_mix a_matrix a_colour a_width a_clip a_x1 a_y1 a_x2 a_y2 a_extra a_winding a_crossings a_pixels a_painter b_stream b_length b_kind b_num b_matrix b_clip b_running b_at b_saves b_below b_mixture b_beginX b_beginY b_endX b_endY b_fromX b_fromY b_toX b_toY b_operand hd hc hi hp ht
  have same := ir_mk (f_drafted := f_drafted) (f_depth := f_depth) (f_known := f_known) (f_saved := f_saved) (f_edges := f_edges) (f_counted := f_counted) (f_begun := f_begun) (f_startX := f_startX) (f_startY := f_startY) (f_nowX := f_nowX) (f_nowY := f_nowY) (f_low := f_low) (f_high := f_high) (f_pointX := f_pointX) (f_pointY := f_pointY) (f_layer := f_layer) (f_fault := f_fault) (f_faultAt := f_faultAt) (f_units := f_units) (f_used := f_used) (a_draftKind := a_draftKind) (a_draftValue := a_draftValue) (a_streamOf := a_streamOf) (a_sizes := a_sizes) (a_before := a_before) (a_newest := a_newest) (a_opCount := a_opCount) (a_ops := a_ops) (a_opAt := a_opAt) (a_numbers := a_numbers) (a_running := a_running) (a_next := a_next) (a_floor := a_floor) (a_mix := a_mix) (a_matrix := a_matrix) (a_colour := a_colour) (a_width := a_width) (a_clip := a_clip) (a_x1 := a_x1) (a_y1 := a_y1) (a_x2 := a_x2) (a_y2 := a_y2) (a_extra := a_extra) (a_winding := a_winding) (a_crossings := a_crossings) (a_pixels := a_pixels) (a_painter := a_painter) (g_shown := g_shown) (g_level := g_level) (g_layer := g_layer) (g_depth := g_depth) (g_parts := g_parts) (g_edges := g_edges) (g_operands := g_operands) (g_fault := g_fault) (g_partEdges := g_partEdges) (b_stream := b_stream) (b_length := b_length) (b_kind := b_kind) (b_num := b_num) (b_matrix := b_matrix) (b_clip := b_clip) (b_running := b_running) (b_at := b_at) (b_saves := b_saves) (b_below := b_below) (b_mixture := b_mixture) (b_beginX := b_beginX) (b_beginY := b_beginY) (b_endX := b_endX) (b_endY := b_endY) (b_fromX := b_fromX) (b_fromY := b_fromY) (b_toX := b_toX) (b_toY := b_toY) (b_operand := b_operand) hd hc hi hp ht
  exact ren same
theorem etaX2 {P : Int32 → SX → Prop} : (fun (r : Int32) (u : SX) => match u with | (f_drafted, f_revisions, f_depth, f_known, f_saved, f_edges, f_counted, f_begun, f_startX, f_startY, f_nowX, f_nowY, f_low, f_high, f_pointX, f_pointY, f_layer, f_fault, f_faultAt, f_units, f_used, a_draftKind, a_draftValue, a_streamOf, a_sizes, a_before, a_newest, a_opCount, a_ops, a_opAt, a_numbers, a_running, a_next, a_floor, a_mix, a_matrix, a_colour, a_width, a_clip, a_x1, a_y1, a_x2, a_y2, a_extra, a_winding, a_crossings, a_pixels, a_painter) => P r (f_drafted, f_revisions, f_depth, f_known, f_saved, f_edges, f_counted, f_begun, f_startX, f_startY, f_nowX, f_nowY, f_low, f_high, f_pointX, f_pointY, f_layer, f_fault, f_faultAt, f_units, f_used, a_draftKind, a_draftValue, a_streamOf, a_sizes, a_before, a_newest, a_opCount, a_ops, a_opAt, a_numbers, a_running, a_next, a_floor, a_mix, a_matrix, a_colour, a_width, a_clip, a_x1, a_y1, a_x2, a_y2, a_extra, a_winding, a_crossings, a_pixels, a_painter)) = P := by
  funext r u
  obtain ⟨f_drafted, f_revisions, f_depth, f_known, f_saved, f_edges, f_counted, f_begun, f_startX, f_startY, f_nowX, f_nowY, f_low, f_high, f_pointX, f_pointY, f_layer, f_fault, f_faultAt, f_units, f_used, a_draftKind, a_draftValue, a_streamOf, a_sizes, a_before, a_newest, a_opCount, a_ops, a_opAt, a_numbers, a_running, a_next, a_floor, a_mix, a_matrix, a_colour, a_width, a_clip, a_x1, a_y1, a_x2, a_y2, a_extra, a_winding, a_crossings, a_pixels, a_painter⟩ := u
  rfl
theorem etaY2 {P : Int32 → SY → Prop} : (fun (r : Int32) (u : SY) => match u with | (g_revisions, g_shown, g_level, g_layer, g_depth, g_parts, g_edges, g_operands, g_units, g_fault, g_where, g_partEdges, b_stream, b_length, b_kind, b_num, b_matrix, b_colour, b_width, b_clip, b_paint, b_painter, b_running, b_at, b_saves, b_below, b_mixture, b_beginX, b_beginY, b_endX, b_endY, b_fromX, b_fromY, b_toX, b_toY, b_operand) => P r (g_revisions, g_shown, g_level, g_layer, g_depth, g_parts, g_edges, g_operands, g_units, g_fault, g_where, g_partEdges, b_stream, b_length, b_kind, b_num, b_matrix, b_colour, b_width, b_clip, b_paint, b_painter, b_running, b_at, b_saves, b_below, b_mixture, b_beginX, b_beginY, b_endX, b_endY, b_fromX, b_fromY, b_toX, b_toY, b_operand)) = P := by
  funext r u
  obtain ⟨g_revisions, g_shown, g_level, g_layer, g_depth, g_parts, g_edges, g_operands, g_units, g_fault, g_where, g_partEdges, b_stream, b_length, b_kind, b_num, b_matrix, b_colour, b_width, b_clip, b_paint, b_painter, b_running, b_at, b_saves, b_below, b_mixture, b_beginX, b_beginY, b_endX, b_endY, b_fromX, b_fromY, b_toX, b_toY, b_operand⟩ := u
  rfl
theorem td_render {u : SX} {v : SY} (hI : IR R u v) : wpX_render (fun r u' => wpY_render (fun r' v' => r' = r ∧ ∃ R, IR R u' v') v) u := by
  refine ir_el (P := fun u v => wpX_render (fun r u' => wpY_render (fun r' v' => r' = r ∧ ∃ R, IR R u' v') v) u) ?_ hI
  intro f_drafted f_depth f_known f_saved f_edges f_counted f_begun f_startX f_startY f_nowX f_nowY f_low f_high f_pointX f_pointY f_layer f_fault f_faultAt f_units f_used g_shown g_level g_layer g_depth g_parts g_edges g_operands g_fault g_partEdges a_draftKind a_draftValue a_streamOf a_sizes a_before a_newest a_opCount a_ops a_opAt a_numbers a_running a_next a_floor a_mix a_matrix a_colour a_width a_clip a_x1 a_y1 a_x2 a_y2 a_extra a_winding a_crossings a_pixels a_painter b_stream b_length b_kind b_num b_matrix b_clip b_running b_at b_saves b_below b_mixture b_beginX b_beginY b_endX b_endY b_fromX b_fromY b_toX b_toY b_operand hd hc hi hp ht
  have same := ir_mk (f_drafted := f_drafted) (f_depth := f_depth) (f_known := f_known) (f_saved := f_saved) (f_edges := f_edges) (f_counted := f_counted) (f_begun := f_begun) (f_startX := f_startX) (f_startY := f_startY) (f_nowX := f_nowX) (f_nowY := f_nowY) (f_low := f_low) (f_high := f_high) (f_pointX := f_pointX) (f_pointY := f_pointY) (f_layer := f_layer) (f_fault := f_fault) (f_faultAt := f_faultAt) (f_units := f_units) (f_used := f_used) (a_draftKind := a_draftKind) (a_draftValue := a_draftValue) (a_streamOf := a_streamOf) (a_sizes := a_sizes) (a_before := a_before) (a_newest := a_newest) (a_opCount := a_opCount) (a_ops := a_ops) (a_opAt := a_opAt) (a_numbers := a_numbers) (a_running := a_running) (a_next := a_next) (a_floor := a_floor) (a_mix := a_mix) (a_matrix := a_matrix) (a_colour := a_colour) (a_width := a_width) (a_clip := a_clip) (a_x1 := a_x1) (a_y1 := a_y1) (a_x2 := a_x2) (a_y2 := a_y2) (a_extra := a_extra) (a_winding := a_winding) (a_crossings := a_crossings) (a_pixels := a_pixels) (a_painter := a_painter) (g_shown := g_shown) (g_level := g_level) (g_layer := g_layer) (g_depth := g_depth) (g_parts := g_parts) (g_edges := g_edges) (g_operands := g_operands) (g_fault := g_fault) (g_partEdges := g_partEdges) (b_stream := b_stream) (b_length := b_length) (b_kind := b_kind) (b_num := b_num) (b_matrix := b_matrix) (b_clip := b_clip) (b_running := b_running) (b_at := b_at) (b_saves := b_saves) (b_below := b_below) (b_mixture := b_mixture) (b_beginX := b_beginX) (b_beginY := b_beginY) (b_endX := b_endX) (b_endY := b_endY) (b_fromX := b_fromX) (b_fromY := b_fromY) (b_toX := b_toX) (b_toY := b_toY) (b_operand := b_operand) hd hc hi hp ht
  have H := ren (v1 := nI R) same
  have eY : ∀ Q : Int32 → SY → Prop, wpY_render Q (nI R, g_shown, g_level, g_layer, g_depth, g_parts, g_edges, g_operands, f_used, g_fault, f_faultAt, g_partEdges, b_stream, b_length, b_kind, b_num, b_matrix, a_colour, a_width, b_clip, a_pixels, a_painter, b_running, b_at, b_saves, b_below, b_mixture, b_beginX, b_beginY, b_endX, b_endY, b_fromX, b_fromY, b_toX, b_toY, b_operand) = wpY_renderAt Q (nI R, g_shown, g_level, g_layer, g_depth, g_parts, g_edges, g_operands, f_used, g_fault, f_faultAt, g_partEdges, b_stream, b_length, b_kind, b_num, b_matrix, a_colour, a_width, b_clip, a_pixels, a_painter, b_running, b_at, b_saves, b_below, b_mixture, b_beginX, b_beginY, b_endX, b_endY, b_fromX, b_fromY, b_toX, b_toY, b_operand) (nI R) := by
    intro Q
    unfold wpY_render
    dsimp only
  have eX : ∀ P : Int32 → SX → Prop, wpX_render P (f_drafted, nI R, f_depth, f_known, f_saved, f_edges, f_counted, f_begun, f_startX, f_startY, f_nowX, f_nowY, f_low, f_high, f_pointX, f_pointY, f_layer, f_fault, f_faultAt, f_units, f_used, a_draftKind, a_draftValue, a_streamOf, a_sizes, a_before, a_newest, a_opCount, a_ops, a_opAt, a_numbers, a_running, a_next, a_floor, a_mix, a_matrix, a_colour, a_width, a_clip, a_x1, a_y1, a_x2, a_y2, a_extra, a_winding, a_crossings, a_pixels, a_painter) = wpX_renderAt P (f_drafted, nI R, f_depth, f_known, f_saved, f_edges, f_counted, f_begun, f_startX, f_startY, f_nowX, f_nowY, f_low, f_high, f_pointX, f_pointY, f_layer, f_fault, f_faultAt, f_units, f_used, a_draftKind, a_draftValue, a_streamOf, a_sizes, a_before, a_newest, a_opCount, a_ops, a_opAt, a_numbers, a_running, a_next, a_floor, a_mix, a_matrix, a_colour, a_width, a_clip, a_x1, a_y1, a_x2, a_y2, a_extra, a_winding, a_crossings, a_pixels, a_painter) (nI R) := by
    intro P
    unfold wpX_render
    dsimp only
  rw [eX]
  simp only [eY]
  exact H
end
end
section
/-! WHAT IS OWED -/
/-- the relation: the same document, the same page, the same last answers -/
def i_Rel (k : Nat) (u : SX) (v : SY) : Prop := ∃ R : Nat, IR R u v
theorem i_up {k : Nat} {u : SX} {v : SY} (h : i_Rel k u v) : i_Rel (k + 3) u v := h
theorem xi_init {post : SX → Prop} (h : ∀ nw : Nat → Int32, (∀ s, s < 6 → nw s = -1) → post (0, 0, 0, 0, 0, 0, 0, 0, 0, 0, 0, 0, 0, 0, 0, 0, 0, 0, -1, 0, 0, fun _ => 0, fun _ => 0, fun _ => 0, fun _ => 0, fun _ => 0, nw, fun _ => 0, fun _ => 0, fun _ => 0, fun _ => 0, fun _ => 0, fun _ => 0, fun _ => 0, fun _ => 0, fun _ => 0, fun _ => 0, fun _ => 0, fun _ => 0, fun _ => 0, fun _ => 0, fun _ => 0, fun _ => 0, fun _ => 0, fun _ => 0, fun _ => 0, pf (fun _ => true) 0 0 (fun _ => 0) 192, pf (fun _ => true) 0 (-1) (fun _ => 0) 192)) : wpX_init post := by
  have loop : ∀ d m, m + d = 6 → ∀ n, d < n → ∀ nw : Nat → Int32, (∀ s, s < m → nw s = -1) → wX_init_234 post 0 0 0 0 0 0 0 0 0 0 0 0 0 0 0 0 0 0 (-1) 0 0 n (nI m) (fun _ => 0) (fun _ => 0) (fun _ => 0) (fun _ => 0) (fun _ => 0) nw (fun _ => 0) (fun _ => 0) (fun _ => 0) (fun _ => 0) (fun _ => 0) (fun _ => 0) (fun _ => 0) (fun _ => 0) (fun _ => 0) (fun _ => 0) (fun _ => 0) (fun _ => 0) (fun _ => 0) (fun _ => 0) (fun _ => 0) (fun _ => 0) (fun _ => 0) (fun _ => 0) (fun _ => 0) (fun _ => 0) (fun _ => 0) := by
    intro d
    induction d with
    | zero =>
      intro m hm n hn nw hw
      obtain ⟨n, rfl⟩ : ∃ n', n = n' + 1 := ⟨n - 1, by omega⟩
      have e : m = 6 := by omega
      subst e
      rw [wX_init_234]
      exact br_t (nI_le (a := 6) (by omega) (by omega)) (xx_blank (l := 0) (by omega) (h nw hw))
    | succ d ih =>
      intro m hm n hn nw hw
      obtain ⟨n, rfl⟩ : ∃ n', n = n' + 1 := ⟨n - 1, by omega⟩
      have vm : vp_nar .byte (-1) = -1 := by rw [li_m1]; exact vz_b (by omega)
      rw [wX_init_234]
      dsimp only
      rw [vm, nI_clamp (by omega)]
      refine br_f (nI_ge (b := 6) (by omega) (by omega)) ⟨vp_in_nI (by omega) (by omega), nm_e (nm_r (nI_1 m) (ih (m + 1) (by omega) n (by omega) _ ?_))⟩
      intro s hs
      by_cases e : s = m
      · subst e; exact pk_us
      · rw [pk_un e]; exact hw s (by omega)
  unfold wpX_init
  exact ⟨7, loop 6 0 (by omega) 7 (by omega) _ (fun s hs => absurd hs (Nat.not_lt_zero s))⟩
theorem i_vc0 : wpX_init (fun u => wpY_init (fun v => i_Rel 0 u v)) := by
  refine xi_init ?_
  intro nw hnw
  unfold wpY_init
  refine yy_clear ?_
  have z1 : 0 ≤ (0 : Int32).toInt ∧ (0 : Int32).toInt ≤ 255 := by decide
  have z2 : 0 ≤ (0 : Int32).toInt ∧ (0 : Int32).toInt ≤ 60 := by decide
  have z3 : -1 ≤ (0 : Int32).toInt ∧ (0 : Int32).toInt ≤ 255 := by decide
  have z4 : -1 ≤ (0 : Int32).toInt ∧ (0 : Int32).toInt ≤ 1000 := by decide
  refine ⟨0, rfl, rfl, rfl, rfl, rfl, rfl, rfl, rfl, ⟨by omega, ⟨0, by omega, rfl, rfl, fun t ht => absurd ht (Nat.not_lt_zero t)⟩, fun r hr => absurd hr (Nat.not_lt_zero r), fun σ hσ => Or.inl ⟨hnw σ hσ, fun r hr => absurd hr (Nat.not_lt_zero r)⟩, fun σ _ r hr => absurd hr (Nat.not_lt_zero r)⟩, fun i => z1, fun i => z2, pf_r (by decide) (fun q => z3), pf_rt (by decide) (fun q => z4)⟩
theorem i_vc_token {k : Nat} {u : SX} {v : SY} (I : i_Rel k u v) (hk : k + 3 ≤ 1536) (v1 : Int32) (v2 : Int32) : wpX_token (fun r u' => wpY_token (fun r' v' => r' = r ∧ i_Rel (k + 3) u' v') v v1 v2) u v1 v2 := by
  obtain ⟨R, h⟩ := I
  exact td_token h
theorem i_vc_wipe {k : Nat} {u : SX} {v : SY} (I : i_Rel k u v) (hk : k + 3 ≤ 1536) : wpX_wipe (fun r u' => wpY_wipe (fun r' v' => r' = r ∧ i_Rel (k + 3) u' v') v) u := by
  obtain ⟨R, h⟩ := I
  exact td_wipe h
theorem i_vc_commit {k : Nat} {u : SX} {v : SY} (I : i_Rel k u v) (hk : k + 3 ≤ 1536) (v1 : Int32) : wpX_commit (fun r u' => wpY_commit (fun r' v' => r' = r ∧ i_Rel (k + 3) u' v') v v1) u v1 := by
  obtain ⟨R, h⟩ := I
  exact td_commit h
theorem i_vc_revert {k : Nat} {u : SX} {v : SY} (I : i_Rel k u v) (hk : k + 3 ≤ 1536) : wpX_revert (fun r u' => wpY_revert (fun r' v' => r' = r ∧ i_Rel (k + 3) u' v') v) u := by
  obtain ⟨R, h⟩ := I
  exact td_revert h
theorem i_vc_size {k : Nat} {u : SX} {v : SY} (I : i_Rel k u v) (hk : k + 3 ≤ 1536) (v1 : Int32) : wpX_size (fun r => wpY_size (fun r' => r' = r ∧ i_Rel (k + 3) u v) v v1) u v1 := by
  obtain ⟨R, h⟩ := I
  exact td_size h
theorem i_vc_render {k : Nat} {u : SX} {v : SY} (I : i_Rel k u v) (hk : k + 3 ≤ 1536) : wpX_render (fun r u' => wpY_render (fun r' v' => r' = r ∧ i_Rel (k + 3) u' v') v) u := by
  obtain ⟨R, h⟩ := I
  exact td_render h
theorem i_vc_renderAt {k : Nat} {u : SX} {v : SY} (I : i_Rel k u v) (hk : k + 3 ≤ 1536) (v1 : Int32) : wpX_renderAt (fun r u' => wpY_renderAt (fun r' v' => r' = r ∧ i_Rel (k + 3) u' v') v v1) u v1 := by
  obtain ⟨R, h⟩ := I
  exact td_renderAt h
theorem i_vc_faultAt {k : Nat} {u : SX} {v : SY} (I : i_Rel k u v) (hk : k + 3 ≤ 1536) : wpX_faultAt (fun r => wpY_faultAt (fun r' => r' = r ∧ i_Rel (k + 3) u v) v) u := by
  obtain ⟨R, h⟩ := I
  exact td_faultAt h
theorem i_vc_used {k : Nat} {u : SX} {v : SY} (I : i_Rel k u v) (hk : k + 3 ≤ 1536) : wpX_used (fun r => wpY_used (fun r' => r' = r ∧ i_Rel (k + 3) u v) v) u := by
  obtain ⟨R, h⟩ := I
  exact td_used h
theorem i_vc_pixel {k : Nat} {u : SX} {v : SY} (I : i_Rel k u v) (hk : k + 3 ≤ 1536) (v1 : Int32) (v2 : Int32) : wpX_pixel (fun r => wpY_pixel (fun r' => r' = r ∧ i_Rel (k + 3) u v) v v1 v2) u v1 v2 := by
  obtain ⟨R, h⟩ := I
  exact td_pixel h
theorem i_vc_by {k : Nat} {u : SX} {v : SY} (I : i_Rel k u v) (hk : k + 3 ≤ 1536) (v1 : Int32) (v2 : Int32) : wpX_by (fun r => wpY_by (fun r' => r' = r ∧ i_Rel (k + 3) u v) v v1 v2) u v1 v2 := by
  obtain ⟨R, h⟩ := I
  exact td_by h
theorem i_vc_count {k : Nat} {u : SX} {v : SY} (I : i_Rel k u v) (hk : k + 3 ≤ 1536) (v1 : Int32) : wpX_count (fun r => wpY_count (fun r' => r' = r ∧ i_Rel (k + 3) u v) v v1) u v1 := by
  obtain ⟨R, h⟩ := I
  exact td_count h
theorem i_vc_row {k : Nat} {u : SX} {v : SY} (I : i_Rel k u v) (hk : k + 3 ≤ 1536) (v1 : Int32) : wpX_row (fun r => wpY_row (fun r' => r' = r ∧ i_Rel (k + 3) u v) v v1) u v1 := by
  obtain ⟨R, h⟩ := I
  exact td_row h
end
