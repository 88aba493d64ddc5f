section
/-! pure rows to paste: stores, nI and lN arithmetic, masks, shifts, narrowing, branches by naturals (pk_le, pk_lt, pk_eq), loops (lp1 .. lp16: the measure of the state; rp1 ..: recursion), negatives. Take what you need -/
theorem pk_us {f : Nat → Int32} {k : Nat} {x : Int32} : upd f k x k = x := if_pos rfl
theorem pk_un {f : Nat → Int32} {k j : Nat} {x : Int32} (h : j ≠ k) : upd f k x j = f j := if_neg h
theorem pk_uLs {f : Nat → Int64} {k : Nat} {x : Int64} : vp_updL f k x k = x := if_pos rfl
theorem pk_uLn {f : Nat → Int64} {k j : Nat} {x : Int64} (h : j ≠ k) : vp_updL f k x j = f j := if_neg h
theorem pk_sub {a b : Nat} (h : b ≤ a) : nI a - nI b = nI (a - b) := by
  obtain ⟨c, rfl⟩ : ∃ c, a = c + b := ⟨a - b, by omega⟩
  rw [← nI_add, Int32.add_sub_cancel, Nat.add_sub_cancel]
theorem pk_m1 (n : Nat) : nI (n + 1) + (-1) = nI n := by
  rw [← nI_1, Int32.add_assoc, show (1 : Int32) + (-1) = 0 from rfl, Int32.add_zero]
theorem pk_mul (a b : Nat) : nI a * nI b = nI (a * b) := (Int32.ofNat_mul a b).symm
theorem pk_div {a d : Nat} (ha : a < 2 ^ 31) (h0 : 0 < d) (hd : d < 2 ^ 31) : nI a / nI d = nI (a / d) := by
  apply Int32.toInt_inj.mp
  rw [lg_idiv_nonneg (by rw [nI_toInt ha]; omega) (by rw [nI_toInt hd]; omega), nI_toInt ha, nI_toInt hd, nI_toInt (Nat.lt_of_le_of_lt (Nat.div_le_self a d) ha)]
  first | rfl | exact (Int.natCast_ediv _ _).symm
theorem pk_rem {a d : Nat} (ha : a < 2 ^ 31) (h0 : 0 < d) (hd : d < 2 ^ 31) : nI a - nI a / nI d * nI d = nI (a % d) := by
  rw [pk_div ha h0 hd, pk_mul, pk_sub (Nat.div_mul_le_self a d)]
  exact congrArg nI (by have := Nat.div_add_mod' a d; omega)
theorem pk_sub_toInt {a b : Nat} (ha : a < 2 ^ 30) (hb : b < 2 ^ 30) : (nI a - nI b).toInt = (a : Int) - b := by
  rw [Int32.toInt_sub, nI_toInt (by omega), nI_toInt (by omega)]
  exact Int.bmod_eq_of_le (by omega) (by omega)
theorem pk_sneg {a b : Nat} (hb : b < 2 ^ 30) (h : a < b) : nI a - nI b < 0 := by
  rw [Int32.lt_iff_toInt_lt, pk_sub_toInt (by omega) hb, show (0 : Int32).toInt = 0 from by decide]
  omega
theorem pk_ix (x : Int32) {n : Nat} (hn : n < 2 ^ 31) : x < 0 ∨ nI n ≤ x ∨ ∃ j : Nat, j < n ∧ x = nI j := by
  by_cases h : x < 0
  · exact Or.inl h
  · obtain ⟨j, hj, rfl⟩ := nI_of h
    by_cases h2 : j < n
    · exact Or.inr (Or.inr ⟨j, h2, rfl⟩)
    · exact Or.inr (Or.inl (nI_le (by omega) hj))
theorem pk_le {x y : Int32} {A B : Prop} (a b : Nat) (f : a ≤ b → A) (g : b < a → B) (hx : x = nI a := by rfl) (hy : y = nI b := by rfl) (ha : a < 2 ^ 31 := by omega) (hb : b < 2 ^ 31 := by omega) : (x ≤ y → A) ∧ (¬ x ≤ y → B) := by
  subst hx hy
  rw [nI_leI ha hb]
  exact ⟨f, fun z => g (by omega)⟩
theorem pk_lt {x y : Int32} {A B : Prop} (a b : Nat) (f : a < b → A) (g : b ≤ a → B) (hx : x = nI a := by rfl) (hy : y = nI b := by rfl) (ha : a < 2 ^ 31 := by omega) (hb : b < 2 ^ 31 := by omega) : (x < y → A) ∧ (¬ x < y → B) := by
  subst hx hy
  rw [nI_ltI ha hb]
  exact ⟨f, fun z => g (by omega)⟩
theorem pk_eq {x y : Int32} {A B : Prop} (a b : Nat) (f : a = b → A) (g : a ≠ b → B) (hx : x = nI a := by rfl) (hy : y = nI b := by rfl) (ha : a < 2 ^ 31 := by omega) (hb : b < 2 ^ 31 := by omega) : (x = y → A) ∧ (¬ x = y → B) := by
  subst hx hy
  rw [nI_eq ha hb]
  exact ⟨f, g⟩
theorem pk_in {x : Int32} (n N : Nat) (h : n < N) (hx : x = nI n := by rfl) (hN : N < 2 ^ 31 := by omega) : vp_in x N := by
  subst hx
  exact vp_in_nI h hN
theorem pk_cl {x : Int32} (n : Nat) (hx : x = nI n := by rfl) (h : n < 2 ^ 31 := by omega) : x.toNatClampNeg = n := by
  subst hx
  exact nI_clamp h
theorem pk_tn {n : Nat} (h : n < 2 ^ 32) : (nI n).toBitVec.toNat = n := Nat.mod_eq_of_lt h
theorem pk_and (x : Int32) {m : Int32} (k : Nat) (hm : m.toBitVec.toNat = 2 ^ k - 1) : x &&& m = nI (x.toBitVec.toNat % 2 ^ k) := by
  apply Int32.toBitVec_inj.mp
  apply BitVec.eq_of_toNat_eq
  rw [Int32.toBitVec_and, BitVec.toNat_and, hm, Nat.and_two_pow_sub_one_eq_mod]
  show _ = (BitVec.ofNat 32 _).toNat
  rw [BitVec.toNat_ofNat]
  exact (Nat.mod_eq_of_lt (Nat.lt_of_le_of_lt (Nat.mod_le _ _) x.toBitVec.isLt)).symm
theorem pk_andN {n : Nat} (h : n < 2 ^ 32) {m : Int32} (k : Nat) (hm : m.toBitVec.toNat = 2 ^ k - 1) : nI n &&& m = nI (n % 2 ^ k) := by
  rw [pk_and _ k hm, pk_tn h]
theorem pk_andE (x : Int32) {m : Int32} (k : Nat) (hm : m.toBitVec.toNat = 2 ^ k - 1) : ∃ j : Nat, j < 2 ^ k ∧ x &&& m = nI j := ⟨_, Nat.mod_lt _ (Nat.two_pow_pos k), pk_and x k hm⟩
theorem pk_andIn (x : Int32) {m : Int32} (k : Nat) (hm : m.toBitVec.toNat = 2 ^ k - 1) (hk : k ≤ 30) : vp_in (x &&& m) (2 ^ k) := by
  obtain ⟨j, hj, e⟩ := pk_andE x k hm
  rw [e]
  exact vp_in_nI hj (Nat.lt_of_le_of_lt (Nat.pow_le_pow_right (by decide) hk) (by decide))
theorem pk_shl (a s : Int32) (k : Nat) (hs : (s.toBitVec.smod 32).toNat = k) : (a <<< s).toBitVec.toNat = a.toBitVec.toNat * 2 ^ k % 2 ^ 32 := by
  show (a.toBitVec <<< (s.toBitVec.smod 32).toNat).toNat = _
  rw [hs, BitVec.toNat_shiftLeft, Nat.shiftLeft_eq]
theorem pk_shlN {n : Nat} (s : Int32) (k : Nat) (hs : (s.toBitVec.smod 32).toNat = k) (h : n * 2 ^ k < 2 ^ 32) : nI n <<< s = nI (n * 2 ^ k) := by
  apply Int32.toBitVec_inj.mp
  apply BitVec.eq_of_toNat_eq
  have hn : n < 2 ^ 32 := Nat.lt_of_le_of_lt (Nat.le_mul_of_pos_right n (Nat.two_pow_pos k)) h
  rw [pk_shl _ _ k hs, pk_tn hn, pk_tn h, Nat.mod_eq_of_lt h]
theorem pk_shr (a s : Int32) (k : Nat) (hs : (s.toBitVec.smod 32).toNat = k) : (a >>> s).toInt = a.toInt >>> k := by
  show (a.toBitVec.sshiftRight (s.toBitVec.smod 32).toNat).toInt = _
  rw [hs, BitVec.toInt_sshiftRight]
  rfl
theorem pk_shrN {n : Nat} (h : n < 2 ^ 31) (s : Int32) (k : Nat) (hs : (s.toBitVec.smod 32).toNat = k) : nI n >>> s = nI (n / 2 ^ k) := by
  apply Int32.toInt_inj.mp
  have h2 : n / 2 ^ k ≤ n := Nat.div_le_self _ _
  rw [pk_shr _ _ k hs, nI_toInt h, nI_toInt (by omega), Int.shiftRight_eq_div_pow]
  rfl
theorem pk_ushr (x s : Int32) (k : Nat) (hs : ((s.toUInt32 &&& Int32.toUInt32 31).toBitVec % 32).toNat = k) : (x.toUInt32 >>> (s.toUInt32 &&& Int32.toUInt32 31)).toInt32.toBitVec.toNat = x.toBitVec.toNat / 2 ^ k := by
  have e : (x.toUInt32 >>> (s.toUInt32 &&& Int32.toUInt32 31)).toInt32.toBitVec = x.toBitVec >>> k := by
    rw [← hs]
    exact UInt32.toBitVec_shiftRight _ _
  rw [e, BitVec.toNat_ushiftRight, Nat.shiftRight_eq_div_pow]
theorem pk_ushrN {n : Nat} (hn : n < 2 ^ 32) (s : Int32) (k : Nat) (hs : ((s.toUInt32 &&& Int32.toUInt32 31).toBitVec % 32).toNat = k) : ((nI n).toUInt32 >>> (s.toUInt32 &&& Int32.toUInt32 31)).toInt32 = nI (n / 2 ^ k) := by
  apply Int32.toBitVec_inj.mp
  apply BitVec.eq_of_toNat_eq
  rw [pk_ushr _ s k hs, pk_tn hn, pk_tn (Nat.lt_of_le_of_lt (Nat.div_le_self _ _) hn)]
theorem pk_nb (z : Int32) : narrow .byte (.int z.toInt8.toInt32) = .int z.toInt8.toInt32 := congrArg Value.int (by simp)
theorem pk_ns (z : Int32) : narrow .short (.int z.toInt16.toInt32) = .int z.toInt16.toInt32 := congrArg Value.int (by simp)
theorem pk_fb (r : Int32) : fits .byte (.int r.toInt8.toInt32) = true := by
  have ⟨a, b⟩ := lg_i2b_range r
  have h1 : (-128 : Int32).toInt = -128 := by decide
  have h2 : (127 : Int32).toInt = 127 := by decide
  simp only [fits, Bool.and_eq_true, decide_eq_true_eq, Int32.le_iff_toInt_le, h1, h2]
  omega
theorem pk_fs (r : Int32) : fits .short (.int r.toInt16.toInt32) = true := by
  have ⟨a, b⟩ := lg_i2s_range r
  have h1 : (-32768 : Int32).toInt = -32768 := by decide
  have h2 : (32767 : Int32).toInt = 32767 := by decide
  simp only [fits, Bool.and_eq_true, decide_eq_true_eq, Int32.le_iff_toInt_le, h1, h2]
  omega
theorem pk_charN {q : Nat} (hq : q < 65536) : narrow .char (.int (nI q)) = .int (nI q) ∧ fits .char (.int (nI q)) = true := by
  constructor
  · have e : (nI q).toUInt32.toUInt16.toUInt32.toInt32 = nI q := by
      apply Int32.toBitVec_inj.mp
      apply BitVec.eq_of_toNat_eq
      show (nI q).toUInt32.toUInt16.toUInt32.toNat = q % 2 ^ 32
      rw [UInt16.toNat_toUInt32, UInt32.toNat_toUInt16, show (nI q).toUInt32.toNat = q % 2 ^ 32 from rfl]
      omega
    exact congrArg Value.int e
  · have a : (0 : Int32) ≤ nI q := nI_pos' (by omega)
    have b : nI q ≤ 65535 := nI_le (b := 65535) (by omega) (by decide)
    show (decide ((0 : Int32) ≤ nI q) && decide (nI q ≤ 65535)) = true
    rw [decide_eq_true a, decide_eq_true b]
    rfl
theorem pk_char (x : Int32) : (x.toUInt32 % 65536).toInt32 = nI (x.toBitVec.toNat % 65536) := by
  apply Int32.toBitVec_inj.mp
  apply BitVec.eq_of_toNat_eq
  rw [pk_tn (by omega)]
  show (x.toUInt32 % 65536).toNat = _
  rw [UInt32.toNat_mod]
  rfl
theorem pk_nc (x : Int32) : narrow .char (.int (x.toUInt32 % 65536).toInt32) = .int (x.toUInt32 % 65536).toInt32 := by
  rw [pk_char]
  exact (pk_charN (Nat.mod_lt _ (by decide))).1
theorem pk_fc (x : Int32) : fits .char (.int (x.toUInt32 % 65536).toInt32) = true := by
  rw [pk_char]
  exact (pk_charN (Nat.mod_lt _ (by decide))).2
theorem pk_vb (z : Int32) : vp_nar .byte z.toInt8.toInt32 = z.toInt8.toInt32 := by rw [vp_nar_byte]; simp
theorem pk_vs (z : Int32) : vp_nar .short z.toInt16.toInt32 = z.toInt16.toInt32 := by rw [vp_nar_short]; simp
theorem pk_vc (z : Int32) : vp_nar .char (z.toUInt32 % 65536).toInt32 = (z.toUInt32 % 65536).toInt32 := Value.int.inj (pk_nc z)
theorem pk_lT {n : Nat} (h : n < 2 ^ 63) : (lN n).toInt = (n : Int) := lg_ofNat_toInt h
theorem pk_lLT {a b : Nat} (ha : a < 2 ^ 63) (hb : b < 2 ^ 63) : lN a < lN b ↔ a < b := by
  rw [Int64.lt_iff_toInt_lt, pk_lT ha, pk_lT hb]; omega
theorem pk_lLE {a b : Nat} (ha : a < 2 ^ 63) (hb : b < 2 ^ 63) : lN a ≤ lN b ↔ a ≤ b := by
  rw [Int64.le_iff_toInt_le, pk_lT ha, pk_lT hb]; omega
theorem pk_lEQ {a b : Nat} (ha : a < 2 ^ 63) (hb : b < 2 ^ 63) : lN a = lN b ↔ a = b := by
  rw [← Int64.toInt_inj, pk_lT ha, pk_lT hb]; omega
theorem pk_lOf {x : Int64} (h : ¬ x < 0) : ∃ k : Nat, k < 2 ^ 63 ∧ x = lN k := by
  rw [Int64.lt_iff_toInt_lt] at h
  have h0 : (0 : Int64).toInt = 0 := by decide
  have hx := Int64.toInt_lt x
  refine ⟨x.toInt.toNat, by omega, Int64.toInt_inj.mp ?_⟩
  rw [pk_lT (by omega)]
  omega
theorem pk_lDiv {a b : Nat} (ha : a < 2 ^ 63) (h0 : 0 < b) (hb : b < 2 ^ 63) : lN a / lN b = lN (a / b) := by
  apply Int64.toInt_inj.mp
  rw [lg_ldiv_nonneg (by rw [pk_lT ha]; omega) (by rw [pk_lT hb]; omega), pk_lT ha, pk_lT hb, pk_lT (Nat.lt_of_le_of_lt (Nat.div_le_self a b) ha)]
  rfl
theorem pk_lRem {a b : Nat} (ha : a < 2 ^ 63) (h0 : 0 < b) (hb : b < 2 ^ 63) : lN a - lN a / lN b * lN b = lN (a % b) := by
  rw [pk_lDiv ha h0 hb, lN_mul, lN_sub (Nat.div_mul_le_self a b)]
  exact congrArg lN (by have := Nat.div_add_mod' a b; omega)
theorem pk_loop {σ : Type} (W : Nat → Nat → σ → Prop) (I : Nat → σ → Prop) (e i0 : Nat) (s : σ) (hi : i0 ≤ e) (h0 : I i0 s) (hx : ∀ n s, I e s → W (n + 1) e s)
    (hs : ∀ n i s, i < e → I i s → (∀ s', I (i + 1) s' → W n (i + 1) s') → W (n + 1) i s) : ∃ n, W n i0 s :=
  ⟨e + 1, loop_i W I e hx hs (e + 1) i0 s hi (by omega) h0⟩
theorem pk_loopD {σ : Type} (W : Nat → Nat → σ → Prop) (I : Nat → σ → Prop) (hx : ∀ n s, I 0 s → W (n + 1) 0 s)
    (hs : ∀ n i s, I (i + 1) s → (∀ s', I i s' → W n i s') → W (n + 1) (i + 1) s) : ∀ (e : Nat) (s : σ), I e s → W (e + 1) e s := by
  intro e
  induction e with
  | zero => exact fun s h => hx 0 s h
  | succ e ih => exact fun s h => hs (e + 1) e s h (fun s' h' => ih s' h')
/-! ===== Int32 by its bits: bt x i ===== -/
def bt (x : Int32) (i : Nat) : Bool := x.toBitVec.getLsbD i
theorem b_ext {x y : Int32} (h : ∀ i, i < 32 → bt x i = bt y i) : x = y := Int32.toBitVec_inj.mp (BitVec.eq_of_getLsbD_eq (fun i hi => h i hi))
theorem b_or (x y : Int32) (i : Nat) : bt (x ||| y) i = (bt x i || bt y i) := by unfold bt; rw [Int32.toBitVec_or, BitVec.getLsbD_or]
theorem b_and (x y : Int32) (i : Nat) : bt (x &&& y) i = (bt x i && bt y i) := by unfold bt; rw [Int32.toBitVec_and, BitVec.getLsbD_and]
theorem b_xor (x y : Int32) (i : Nat) : bt (x ^^^ y) i = (bt x i ^^ bt y i) := by unfold bt; rw [Int32.toBitVec_xor, BitVec.getLsbD_xor]
theorem b_big {x : Int32} {i : Nat} (h : 32 ≤ i) : bt x i = false := BitVec.getLsbD_of_ge _ _ h
theorem b_255 (i : Nat) : bt 255 i = decide (i < 8) := by
  rcases Nat.lt_or_ge i 32 with h | h
  · exact (by decide +kernel : ∀ i, i < 32 → bt 255 i = decide (i < 8)) i h
  · rw [b_big h, decide_eq_false (by omega)]
theorem b_65535 (i : Nat) : bt 65535 i = decide (i < 16) := by
  rcases Nat.lt_or_ge i 32 with h | h
  · exact (by decide +kernel : ∀ i, i < 32 → bt 65535 i = decide (i < 16)) i h
  · rw [b_big h, decide_eq_false (by omega)]
theorem b_m1 : ∀ i, i < 32 → bt (-1) i = true := by decide +kernel
theorem b_0 (i : Nat) : bt 0 i = false := BitVec.getLsbD_zero
theorem s_l : ∀ n, n < 32 → ((nI n &&& 31).toBitVec.smod 32).toNat = n := by decide +kernel
theorem s_u : ∀ n, n < 32 → (((nI n).toUInt32 &&& Int32.toUInt32 31).toBitVec % 32).toNat = n := by decide +kernel
theorem b_shl (n : Nat) (hn : n < 32) (x : Int32) {i : Nat} (hi : i < 32) : bt (x <<< (nI n &&& 31)) i = (decide (n ≤ i) && bt x (i - n)) := by
  unfold bt
  rw [Int32.toBitVec_shiftLeft]
  show (x.toBitVec <<< ((nI n &&& 31).toBitVec.smod 32).toNat).getLsbD i = _
  rw [s_l n hn, BitVec.getLsbD_shiftLeft]
  rcases Nat.lt_or_ge i n with h | h
  · simp [h, Nat.not_le.mpr h]
  · simp [hi, h, Nat.not_lt.mpr h]
theorem b_ushr (n : Nat) (hn : n < 32) (x : Int32) (i : Nat) : bt ((x.toUInt32 >>> ((nI n).toUInt32 &&& Int32.toUInt32 31)).toInt32) i = bt x (n + i) := by
  show (x.toUInt32 >>> ((nI n).toUInt32 &&& Int32.toUInt32 31)).toBitVec.getLsbD i = x.toUInt32.toBitVec.getLsbD (n + i)
  rw [UInt32.toBitVec_shiftRight]
  show (x.toUInt32.toBitVec >>> (((nI n).toUInt32 &&& Int32.toUInt32 31).toBitVec % 32).toNat).getLsbD i = _
  rw [s_u n hn, BitVec.getLsbD_ushiftRight]
theorem b_sshr (n : Nat) (hn : n < 32) (x : Int32) {i : Nat} (hi : i < 32) : bt (x >>> (nI n &&& 31)) i = if n + i < 32 then bt x (n + i) else bt x 31 := by
  unfold bt
  rw [Int32.toBitVec_shiftRight]
  show (x.toBitVec.sshiftRight ((nI n &&& 31).toBitVec.smod 32).toNat).getLsbD i = _
  rw [s_l n hn, BitVec.getLsbD_sshiftRight, BitVec.msb_eq_getLsbD_last]
  simp [hi]
theorem b_shl8 (x : Int32) {i : Nat} (hi : i < 32) : bt (x <<< ((8 : Int32) &&& 31)) i = (decide (8 ≤ i) && bt x (i - 8)) := b_shl 8 (by omega) x hi
theorem b_shl16 (x : Int32) {i : Nat} (hi : i < 32) : bt (x <<< ((16 : Int32) &&& 31)) i = (decide (16 ≤ i) && bt x (i - 16)) := b_shl 16 (by omega) x hi
theorem b_shl24 (x : Int32) {i : Nat} (hi : i < 32) : bt (x <<< ((24 : Int32) &&& 31)) i = (decide (24 ≤ i) && bt x (i - 24)) := b_shl 24 (by omega) x hi
theorem b_sshr8 (x : Int32) {i : Nat} (hi : i < 32) : bt (x >>> ((8 : Int32) &&& 31)) i = if 8 + i < 32 then bt x (8 + i) else bt x 31 := b_sshr 8 (by omega) x hi
/-! ===== nI under and, xor, >>>, one bit, 65535 ===== -/
theorem nx_and (a b : Nat) : nI a &&& nI b = nI (a &&& b) := by
  apply Int32.toBitVec_inj.1
  show BitVec.ofNat 32 a &&& BitVec.ofNat 32 b = BitVec.ofNat 32 (a &&& b)
  apply BitVec.eq_of_getLsbD_eq
  intro i hi
  simp [hi]
theorem nx_xor (a b : Nat) : nI a ^^^ nI b = nI (a ^^^ b) := by
  apply Int32.toBitVec_inj.1
  show BitVec.ofNat 32 a ^^^ BitVec.ofNat 32 b = BitVec.ofNat 32 (a ^^^ b)
  apply BitVec.eq_of_getLsbD_eq
  intro i hi
  simp [hi]
end
section
/-! counts over predicates -/
noncomputable def cw_b (P : Prop) : Nat := @ite Nat P (Classical.propDecidable P) 1 0
theorem cw_b_t {P : Prop} (h : P) : cw_b P = 1 := by unfold cw_b; rw [if_pos h]
theorem cw_b_f {P : Prop} (h : ¬ P) : cw_b P = 0 := by unfold cw_b; rw [if_neg h]
theorem cw_b_c {P Q : Prop} (h : P ↔ Q) : cw_b P = cw_b Q := by rw [propext h]
theorem cw_b_le (P : Prop) : cw_b P ≤ 1 := by
  rcases Classical.em P with h | h
  · rw [cw_b_t h]; omega
  · rw [cw_b_f h]; omega
theorem cw_b_0 {P : Prop} : cw_b P = 0 ↔ ¬ P := by
  rcases Classical.em P with h | h
  · rw [cw_b_t h]; exact ⟨fun e => by omega, fun e => absurd h e⟩
  · rw [cw_b_f h]; exact ⟨fun _ => h, fun _ => rfl⟩
noncomputable def cw_ct (P : Nat → Prop) : Nat → Nat
  | 0 => 0
  | k + 1 => cw_ct P k + cw_b (P k)
theorem cw_ct_s (P : Nat → Prop) (k : Nat) : cw_ct P (k + 1) = cw_ct P k + cw_b (P k) := rfl
theorem cw_ct_eq {P Q : Nat → Prop} : ∀ {N : Nat}, (∀ k, k < N → (P k ↔ Q k)) → cw_ct P N = cw_ct Q N
  | 0, _ => rfl
  | N + 1, h => by
    rw [cw_ct_s, cw_ct_s, cw_ct_eq (N := N) (fun k hk => h k (by omega)), cw_b_c (h N (by omega))]
theorem cw_ct_le (P : Nat → Prop) : ∀ N, cw_ct P N ≤ N
  | 0 => Nat.le_refl _
  | N + 1 => by have := cw_ct_le P N; have := cw_b_le (P N); rw [cw_ct_s]; omega
theorem cw_ct_0 {P : Nat → Prop} : ∀ {N : Nat}, cw_ct P N = 0 ↔ ∀ k, k < N → ¬ P k
  | 0 => ⟨fun _ k hk => absurd hk (Nat.not_lt_zero k), fun _ => rfl⟩
  | N + 1 => by
    rw [cw_ct_s]
    constructor
    · intro h k hk
      rcases Nat.lt_or_ge k N with z | z
      · exact (cw_ct_0 (N := N)).mp (by omega) k z
      · have e : k = N := by omega
        subst e
        exact cw_b_0.mp (by omega)
    · intro h
      have a := (cw_ct_0 (P := P) (N := N)).mpr (fun k hk => h k (by omega))
      have b := cw_b_f (h N (by omega))
      omega
theorem cw_ct_pos {P : Nat → Prop} {N k : Nat} (hk : k < N) (h : P k) : cw_ct P N ≠ 0 := fun e => cw_ct_0.mp e k hk h
theorem cw_ct_ex {P : Nat → Prop} {N : Nat} (h : cw_ct P N ≠ 0) : ∃ k, k < N ∧ P k := by
  apply Classical.byContradiction
  intro z
  exact h (cw_ct_0.mpr fun k hk p => z ⟨k, hk, p⟩)
theorem cw_ct_ne {P : Nat → Prop} {N : Nat} : cw_ct P N ≠ 0 ↔ ∃ k, k < N ∧ P k := ⟨cw_ct_ex, fun ⟨_, a, b⟩ => cw_ct_pos a b⟩
theorem cw_ct_lt {P : Nat → Prop} {i : Nat} (h : ¬ P i) : ∀ {N : Nat}, i < N → cw_ct P N < N
  | 0, z => by omega
  | N + 1, z => by
    rw [cw_ct_s]
    rcases Nat.lt_or_ge i N with y | y
    · have := cw_ct_lt h y; have := cw_b_le (P N); omega
    · have e : i = N := by omega
      subst e
      have := cw_ct_le P i; have := cw_b_f h; omega
theorem cw_ct_add (P : Nat → Prop) (a : Nat) : ∀ b, cw_ct P (a + b) = cw_ct P a + cw_ct (fun i => P (a + i)) b
  | 0 => rfl
  | b + 1 => by
    rw [← Nat.add_assoc, cw_ct_s, cw_ct_s, cw_ct_add P a b]
    omega
theorem cw_ct_h (P : Nat → Prop) (d : Nat) : cw_ct P (d + 1) = cw_b (P 0) + cw_ct (fun i => P (1 + i)) d := by
  rw [Nat.add_comm d 1, cw_ct_add P 1 d]
  show 0 + cw_b (P 0) + _ = _
  omega
theorem cw_ct_at {P Q : Nat → Prop} {i : Nat} : ∀ {N : Nat}, i < N → (∀ k, k < N → k ≠ i → (P k ↔ Q k)) → cw_ct P N + cw_b (Q i) = cw_ct Q N + cw_b (P i)
  | 0, z, _ => by omega
  | N + 1, z, h => by
    rw [cw_ct_s, cw_ct_s]
    rcases Nat.lt_or_ge i N with y | y
    · have a := cw_ct_at (P := P) (Q := Q) y (fun k hk => h k (by omega))
      have b := cw_b_c (h N (by omega) (by omega))
      omega
    · have e : i = N := by omega
      subst e
      have a := cw_ct_eq (P := P) (Q := Q) (N := i) (fun k hk => h k (by omega) (by omega))
      omega
theorem cw_ct_win {P Q : Nat → Prop} {a w N : Nat} (h : a + w ≤ N) (ho : ∀ k, k < N → (k < a ∨ a + w ≤ k) → (P k ↔ Q k)) :
    cw_ct P N + cw_ct (fun i => Q (a + i)) w = cw_ct Q N + cw_ct (fun i => P (a + i)) w := by
  obtain ⟨r, rfl⟩ : ∃ r, N = a + w + r := ⟨N - (a + w), by omega⟩
  rw [cw_ct_add P (a + w) r, cw_ct_add Q (a + w) r, cw_ct_add P a w, cw_ct_add Q a w]
  have e1 := cw_ct_eq (P := P) (Q := Q) (N := a) (fun k hk => ho k (by omega) (Or.inl hk))
  have e2 := cw_ct_eq (P := fun i => P (a + w + i)) (Q := fun i => Q (a + w + i)) (N := r) (fun k hk => ho _ (by omega) (Or.inr (by omega)))
  omega
theorem cw_ct_one {P : Nat → Prop} : ∀ {N : Nat}, (∀ i j, i < N → j < N → P i → P j → i = j) → cw_ct P N ≤ 1
  | 0, _ => by show 0 ≤ 1; omega
  | N + 1, h => by
    rw [cw_ct_s]
    rcases Classical.em (P N) with p | p
    · have e : cw_ct P N = 0 := cw_ct_0.mpr fun k hk q => by have := h k N (by omega) (by omega) q p; omega
      have := cw_b_le (P N); omega
    · have := cw_b_f p
      have := cw_ct_one (P := P) (N := N) (fun i j hi hj => h i j (by omega) (by omega))
      omega
/-! numbers -/
theorem cw_m1 {n : Nat} (h : n < 2 ^ 31) : ¬ (-1 : Int32) = nI n := by
  intro e
  have a := congrArg Int32.toInt e
  rw [nI_toInt h, show (-1 : Int32).toInt = -1 from by decide] at a
  omega
theorem cw_m1' {n : Nat} (h : n < 2 ^ 31) : ¬ nI n = (-1 : Int32) := fun e => cw_m1 h e.symm
theorem cw_m1neg : (-1 : Int32) < 0 := by decide
theorem cw_m1n0 : ¬ (0 : Int32) ≤ -1 := by decide
theorem cw_sh {n : Nat} (h : n < 32768) : vp_nar .short (nI n).toInt16.toInt32 = nI n := by
  have e : (nI n).toInt = n := nI_toInt (by omega)
  rw [pk_vs, lg_i2s_small (by rw [e]; omega) (by rw [e]; omega)]
theorem cw_by8 {n : Nat} (h : n < 128) : (nI n).toInt8.toInt32 = nI n := by
  have e : (nI n).toInt = n := nI_toInt (by omega)
  rw [lg_i2b_small (by rw [e]; omega) (by rw [e]; omega)]
theorem cw_by {n : Nat} (h : n < 128) : vp_nar .byte (nI n).toInt8.toInt32 = nI n := by
  rw [pk_vb, cw_by8 h]
theorem cw_by1 {n : Nat} (h : n < 128) : vp_nar .byte (nI n) = nI n := by
  rw [vp_nar_byte, cw_by8 h]
theorem cw_bym : vp_nar .byte (-1) = -1 := by rw [vp_nar_byte]; decide
theorem cw_bym8 : vp_nar .byte (-1 : Int32).toInt8.toInt32 = -1 := by rw [vp_nar_byte]; decide
theorem cw_bl0 : vp_nar .boolean 0 = 0 := rfl
theorem cw_bl1 : vp_nar .boolean 1 = 1 := rfl
theorem cw_s0 : vp_nar .short 0 = 0 := by rw [vp_nar_short]; decide
theorem cw_y0 : vp_nar .byte 0 = 0 := by rw [vp_nar_byte]; decide
/-- -1, or a number below m -/
def cw_o (m : Nat) (x : Int32) : Prop := x = -1 ∨ ∃ n, n < m ∧ x = nI n
theorem cw_o_up {m m' : Nat} {x : Int32} (h : cw_o m x) (hm : m ≤ m') : cw_o m' x := by
  rcases h with h | ⟨n, hn, e⟩
  · exact Or.inl h
  · exact Or.inr ⟨n, by omega, e⟩
theorem cw_o_by {m : Nat} {x : Int32} (h : cw_o m x) (hm : m ≤ 128) : vp_nar .byte x = x := by
  rcases h with rfl | ⟨n, hn, rfl⟩
  · exact cw_bym
  · exact cw_by1 (by omega)
theorem cw_o_by8 {m : Nat} {x : Int32} (h : cw_o m x) (hm : m ≤ 128) : vp_nar .byte x.toInt8.toInt32 = x := by
  rcases h with rfl | ⟨n, hn, rfl⟩
  · exact cw_bym8
  · exact cw_by (by omega)
theorem cw_o_neg {m : Nat} {x : Int32} (h : cw_o m x) (hm : m ≤ 2 ^ 31) : x < 0 ↔ x = -1 := by
  rcases h with rfl | ⟨n, hn, rfl⟩
  · exact ⟨fun _ => rfl, fun _ => cw_m1neg⟩
  · exact ⟨fun e => absurd e (nI_pos (by omega)), fun e => absurd e (cw_m1' (by omega))⟩
theorem cw_o_pos {m : Nat} {x : Int32} (h : cw_o m x) (hm : m ≤ 2 ^ 31) : 0 ≤ x ↔ x ≠ -1 := by
  rcases h with rfl | ⟨n, hn, rfl⟩
  · exact ⟨fun e => absurd e cw_m1n0, fun e => absurd rfl e⟩
  · exact ⟨fun _ => cw_m1' (by omega), fun _ => nI_pos' (by omega)⟩
/-- first cells of their kind, counted, are the kinds, counted -/
theorem cw_dist (B : Nat → Int32) (Q : Int32 → Prop) (M : Nat) (hM : M ≤ 2 ^ 31) : ∀ N, (∀ c, c < N → cw_o M (B c)) →
    cw_ct (fun c => B c ≠ -1 ∧ (∀ d, d < c → B d ≠ B c) ∧ Q (B c)) N = cw_ct (fun b => (∃ c, c < N ∧ B c = nI b) ∧ Q (nI b)) M
  | 0, _ => by
    symm
    exact cw_ct_0.mpr fun k _ h => by obtain ⟨⟨c, hc, _⟩, _⟩ := h; omega
  | N + 1, hB => by
    have ih := cw_dist B Q M hM N (fun c hc => hB c (by omega))
    rw [cw_ct_s, ih]
    rcases Classical.em (B N ≠ -1 ∧ (∀ d, d < N → B d ≠ B N) ∧ Q (B N)) with h | h
    · rw [cw_b_t h]
      obtain ⟨h1, h2, h3⟩ := h
      rcases hB N (by omega) with e | ⟨b, hb, e⟩
      · exact absurd e h1
      · have key := cw_ct_at (P := fun b => (∃ c, c < N ∧ B c = nI b) ∧ Q (nI b)) (Q := fun b => (∃ c, c < N + 1 ∧ B c = nI b) ∧ Q (nI b)) (i := b) (N := M) hb (fun k hk hne => ⟨fun ⟨⟨c, hc, e1⟩, q⟩ => ⟨⟨c, by omega, e1⟩, q⟩, fun ⟨⟨c, hc, e1⟩, q⟩ => ⟨⟨c, by
          rcases Nat.lt_or_ge c N with z | z
          · exact z
          · have ec : c = N := by omega
            rw [ec, e, nI_eq (by omega) (by omega)] at e1
            omega, e1⟩, q⟩⟩)
        try dsimp only at key
        rw [cw_b_t (P := (∃ c, c < N + 1 ∧ B c = nI b) ∧ Q (nI b)) ⟨⟨N, by omega, e⟩, e ▸ h3⟩, cw_b_f (P := (∃ c, c < N ∧ B c = nI b) ∧ Q (nI b)) (fun ⟨⟨c, hc, e1⟩, _⟩ => h2 c hc (e1.trans e.symm))] at key
        exact key
    · rw [cw_b_f h]
      apply cw_ct_eq
      intro b hb
      constructor
      · exact fun ⟨⟨c, hc, e1⟩, q⟩ => ⟨⟨c, by omega, e1⟩, q⟩
      · intro ⟨⟨c, hc, e1⟩, q⟩
        refine ⟨?_, q⟩
        rcases Nat.lt_or_ge c N with z | z
        · exact ⟨c, z, e1⟩
        · have ec : c = N := by omega
          subst ec
          apply Classical.byContradiction
          intro y
          exact h ⟨by rw [e1]; exact cw_m1' (by omega), fun d hd e2 => y ⟨d, hd, e2.trans e1⟩, e1.symm ▸ q⟩
/-! sums, and a free number among the counted -/
def cw_sm (f : Nat → Nat) : Nat → Nat
  | 0 => 0
  | k + 1 => cw_sm f k + f k
theorem cw_sm_eq {f g : Nat → Nat} : ∀ {N : Nat}, (∀ k, k < N → f k = g k) → cw_sm f N = cw_sm g N
  | 0, _ => rfl
  | N + 1, h => by
    show cw_sm f N + f N = cw_sm g N + g N
    rw [cw_sm_eq (N := N) (fun k hk => h k (by omega)), h N (by omega)]
theorem cw_sm_add (f g : Nat → Nat) : ∀ N, cw_sm (fun k => f k + g k) N = cw_sm f N + cw_sm g N
  | 0 => rfl
  | N + 1 => by
    show cw_sm (fun k => f k + g k) N + (f N + g N) = cw_sm f N + f N + (cw_sm g N + g N)
    rw [cw_sm_add f g N]; omega
theorem cw_sm_b (P : Nat → Prop) : ∀ N, cw_sm (fun k => cw_b (P k)) N = cw_ct P N
  | 0 => rfl
  | N + 1 => by
    show cw_sm (fun k => cw_b (P k)) N + cw_b (P N) = cw_ct P N + cw_b (P N)
    rw [cw_sm_b P N]
theorem cw_sm_ge {f : Nat → Nat} : ∀ {N : Nat}, (∀ k, k < N → f k ≠ 0) → N ≤ cw_sm f N
  | 0, _ => Nat.le_refl _
  | N + 1, h => by
    have a := cw_sm_ge (f := f) (N := N) (fun k hk => h k (by omega))
    have b := h N (by omega)
    show N + 1 ≤ cw_sm f N + f N
    omega
theorem cw_sm_gt {f : Nat → Nat} {i : Nat} (hi : 2 ≤ f i) : ∀ {N : Nat}, i < N → (∀ k, k < N → f k ≠ 0) → N + 1 ≤ cw_sm f N
  | 0, z, _ => by omega
  | N + 1, z, h => by
    show N + 1 + 1 ≤ cw_sm f N + f N
    have b := h N (by omega)
    rcases Nat.lt_or_ge i N with y | y
    · have a := cw_sm_gt hi y (fun k hk => h k (by omega))
      omega
    · have e : i = N := by omega
      subst e
      have a := cw_sm_ge (f := f) (N := i) (fun k hk => h k (by omega))
      omega
theorem cw_pig (R : Nat → Int32) (M : Nat) (hM : M ≤ 2 ^ 31) : ∀ G, cw_sm (fun m => cw_ct (fun g => R g = nI m) G) M ≤ cw_ct (fun g => R g ≠ -1) G
  | 0 => by
    have : cw_sm (fun m => cw_ct (fun g => R g = nI m) 0) M = cw_sm (fun m => cw_b False) M := cw_sm_eq fun k _ => (cw_b_f (fun z => z)).symm
    rw [this, cw_sm_b, cw_ct_0.mpr (fun _ _ z => z)]
    exact Nat.zero_le _
  | G + 1 => by
    have ih := cw_pig R M hM G
    have e : cw_sm (fun m => cw_ct (fun g => R g = nI m) (G + 1)) M = cw_sm (fun m => cw_ct (fun g => R g = nI m) G + cw_b (R G = nI m)) M := rfl
    rw [e, cw_sm_add (fun m => cw_ct (fun g => R g = nI m) G) (fun m => cw_b (R G = nI m)), cw_sm_b (fun m => R G = nI m), cw_ct_s]
    rcases Classical.em (R G = -1) with z | z
    · have : cw_ct (fun m => R G = nI m) M = 0 := cw_ct_0.mpr fun k hk q => cw_m1 (by omega) (z.symm.trans q)
      omega
    · have a := cw_ct_one (P := fun m => R G = nI m) (N := M) (fun i j hi hj p q => (nI_eq (by omega) (by omega)).mp (p.symm.trans q))
      have b : cw_b (R G ≠ -1) = 1 := cw_b_t z
      omega
end
section
/-! references to nodes and blocks, counted -/
theorem cw_ct_uniq {P : Nat → Prop} {N i j : Nat} (h : cw_ct P N ≤ 1) (hi : i < N) (hj : j < N) (pi : P i) (pj : P j) : i = j := by
  apply Classical.byContradiction
  intro ne
  have a := cw_ct_at (P := P) (Q := fun k => P k ∧ k ≠ i) hi (fun k _ hk => ⟨fun p => ⟨p, hk⟩, fun p => p.1⟩)
  try dsimp only at a
  rw [cw_b_f (P := P i ∧ i ≠ i) (fun z => z.2 rfl), cw_b_t pi] at a
  exact (cw_ct_0 (P := fun k => P k ∧ k ≠ i) (N := N)).mp (by omega) j hj ⟨pj, fun e => ne e.symm⟩
theorem cw_ct_two {P : Nat → Prop} {N i : Nat} (h : cw_ct P N ≠ 1) (hi : i < N) (pi : P i) : ∃ j, j < N ∧ j ≠ i ∧ P j := by
  have a := cw_ct_at (P := P) (Q := fun k => P k ∧ k ≠ i) hi (fun k _ hk => ⟨fun p => ⟨p, hk⟩, fun p => p.1⟩)
  try dsimp only at a
  rw [cw_b_f (P := P i ∧ i ≠ i) (fun z => z.2 rfl), cw_b_t pi] at a
  obtain ⟨j, hj, q⟩ := cw_ct_ex (P := fun k => P k ∧ k ≠ i) (N := N) (by omega)
  exact ⟨j, hj, q.2, q.1⟩
noncomputable def cw_cn (R : Nat → Int32) (n : Nat) : Nat := cw_ct (fun g => R g = nI n) 96
theorem cw_cn_le (R : Nat → Int32) (n : Nat) : cw_cn R n ≤ 96 := cw_ct_le _ _
theorem cw_cn_upd (R : Nat → Int32) {g : Nat} (x : Int32) (hg : g < 96) (n : Nat) : cw_cn (upd R g x) n + cw_b (R g = nI n) = cw_cn R n + cw_b (x = nI n) := by
  have a := cw_ct_at (P := fun q => upd R g x q = nI n) (Q := fun q => R q = nI n) hg (fun k _ hne => by rw [pk_un hne])
  try dsimp only at a
  rw [pk_us] at a
  exact a
theorem cw_cn_put {R : Nat → Int32} {g : Nat} (x : Int32) (hg : g < 96) (hR : R g = -1) {n : Nat} (hn : n < 72) : cw_cn (upd R g x) n = cw_cn R n + cw_b (x = nI n) := by
  have a := cw_cn_upd R x hg n
  rw [hR, cw_b_f (cw_m1 (by omega))] at a
  exact a
theorem cw_cn_take {R : Nat → Int32} {g : Nat} {x : Int32} (hg : g < 96) (hR : R g = x) {n : Nat} (hn : n < 72) : cw_cn R n = cw_cn (upd R g (-1)) n + cw_b (x = nI n) := by
  have a := cw_cn_upd R (-1) hg n
  rw [hR, cw_b_f (cw_m1 (by omega))] at a
  omega
theorem cw_cn_at {R : Nat → Int32} {g n : Nat} (hg : g < 96) (hR : R g = nI n) : cw_cn R n ≠ 0 := cw_ct_pos hg hR
theorem cw_cn_eq {R R' : Nat → Int32} (h : ∀ g, g < 96 → R' g = R g) (n : Nat) : cw_cn R' n = cw_cn R n := cw_ct_eq fun k hk => by rw [h k hk]
noncomputable def cw_bw (c : Nat → Nat) (no : Nat → Int32) (b : Nat) : Nat := cw_ct (fun k => c (k / 4) ≠ 0 ∧ no k = nI b) 288
theorem cw_bw_le (c : Nat → Nat) (no : Nat → Int32) (b : Nat) : cw_bw c no b ≤ 288 := cw_ct_le _ _
theorem cw_bw_same {c c' : Nat → Nat} {no no' : Nat → Int32} {b : Nat} (h : ∀ n, n < 72 → (c n ≠ 0 ↔ c' n ≠ 0)) (hn : ∀ k, k < 288 → c (k / 4) ≠ 0 → no k = no' k) : cw_bw c no b = cw_bw c' no' b :=
  cw_ct_eq fun k hk => ⟨fun ⟨a, e⟩ => ⟨(h _ (by omega)).mp a, (hn k hk a).symm.trans e⟩, fun ⟨a, e⟩ => have a' := (h _ (by omega)).mpr a; ⟨a', (hn k hk a').trans e⟩⟩
theorem cw_bw_add {c c' : Nat → Nat} {no : Nat → Int32} {b m : Nat} (hm : m < 72) (h0 : c m = 0) (h1 : c' m ≠ 0) (h : ∀ n, n < 72 → n ≠ m → c n = c' n) :
    cw_bw c' no b = cw_bw c no b + cw_ct (fun i => no (4 * m + i) = nI b) 4 := by
  have a := cw_ct_win (P := fun k => c' (k / 4) ≠ 0 ∧ no k = nI b) (Q := fun k => c (k / 4) ≠ 0 ∧ no k = nI b) (a := 4 * m) (w := 4) (N := 288) (by omega) (fun k hk ho => by
    rw [h (k / 4) (by omega) (by omega)])
  have e1 : cw_ct (fun i => c ((4 * m + i) / 4) ≠ 0 ∧ no (4 * m + i) = nI b) 4 = 0 := cw_ct_0.mpr fun k hk q => by
    have : (4 * m + k) / 4 = m := by omega
    rw [this] at q
    exact q.1 h0
  have e2 : cw_ct (fun i => c' ((4 * m + i) / 4) ≠ 0 ∧ no (4 * m + i) = nI b) 4 = cw_ct (fun i => no (4 * m + i) = nI b) 4 := cw_ct_eq fun k hk => by
    have : (4 * m + k) / 4 = m := by omega
    rw [this]
    exact ⟨fun q => q.2, fun q => ⟨h1, q⟩⟩
  try dsimp only at a
  rw [e1, e2] at a
  exact a
theorem cw_bw_upd {c : Nat → Nat} {no : Nat → Int32} {i : Nat} (x : Int32) (hi : i < 288) (hc : c (i / 4) ≠ 0) (b : Nat) :
    cw_bw c (upd no i x) b + cw_b (no i = nI b) = cw_bw c no b + cw_b (x = nI b) := by
  have a := cw_ct_at (P := fun k => c (k / 4) ≠ 0 ∧ upd no i x k = nI b) (Q := fun k => c (k / 4) ≠ 0 ∧ no k = nI b) hi (fun k _ hne => by rw [pk_un hne])
  try dsimp only at a
  rw [pk_us, cw_b_c (P := c (i / 4) ≠ 0 ∧ no i = nI b) (Q := no i = nI b) ⟨fun q => q.2, fun q => ⟨hc, q⟩⟩, cw_b_c (P := c (i / 4) ≠ 0 ∧ x = nI b) (Q := x = nI b) ⟨fun q => q.2, fun q => ⟨hc, q⟩⟩] at a
  exact a
/-- the counts of blocks and how many are in use -/
def cw_BI (w : Nat → Nat) (br : Nat → Int32) (iu : Int32) : Prop := (∀ b, b < 24 → br b = nI (w b)) ∧ iu = nI (cw_ct (fun b => w b ≠ 0) 24)
theorem cw_BI_ext {w w' : Nat → Nat} {br : Nat → Int32} {iu : Int32} (h : cw_BI w br iu) (e : ∀ b, b < 24 → w b = w' b) : cw_BI w' br iu := by
  refine ⟨fun b hb => (h.1 b hb).trans (congrArg nI (e b hb)), h.2.trans (congrArg nI (cw_ct_eq fun b hb => ?_))⟩
  rw [e b hb]
theorem cw_BI_put {w : Nat → Nat} {br : Nat → Int32} {iu : Int32} {b : Nat} (h : cw_BI w br iu) (hb : b < 24) (hw : w b ≠ 0) : cw_BI (fun q => w q + cw_b (nI b = nI q)) (upd br b (nI (w b + 1))) iu := by
  refine ⟨fun q hq => ?_, h.2.trans (congrArg nI (cw_ct_eq fun q hq => ?_))⟩
  · try dsimp only
    by_cases e : q = b
    · subst e
      rw [pk_us, cw_b_t rfl]
    · rw [pk_un e, h.1 q hq]
      try dsimp only
      rw [cw_b_f (fun z => e ((nI_eq (by omega) (by omega)).mp z).symm)]
      try rfl
  · try dsimp only
    by_cases e : q = b
    · subst e
      rw [cw_b_t rfl]
      exact ⟨fun _ => by omega, fun _ => hw⟩
    · rw [cw_b_f (fun z => e ((nI_eq (by omega) (by omega)).mp z).symm)]
      exact Iff.rfl
theorem cw_BI_new {w : Nat → Nat} {br : Nat → Int32} {iu : Int32} {b : Nat} (h : cw_BI w br iu) (hb : b < 24) (hw : w b = 0) : cw_BI (fun q => w q + cw_b (nI b = nI q)) (upd br b (nI (w b + 1))) (iu + 1) := by
  refine ⟨fun q hq => ?_, ?_⟩
  · try dsimp only
    by_cases e : q = b
    · subst e
      rw [pk_us, cw_b_t rfl]
    · rw [pk_un e, h.1 q hq]
      try dsimp only
      rw [cw_b_f (fun z => e ((nI_eq (by omega) (by omega)).mp z).symm)]
      try rfl
  · have a := cw_ct_at (P := fun q => w q + cw_b (nI b = nI q) ≠ 0) (Q := fun q => w q ≠ 0) hb (fun q hq e => by
      rw [cw_b_f (fun z => e ((nI_eq (by omega) (by omega)).mp z).symm)]
      exact Iff.rfl)
    try dsimp only at a
    rw [cw_b_f (P := w b ≠ 0) (fun z => z hw), cw_b_t (P := w b + cw_b (nI b = nI b) ≠ 0) (by rw [cw_b_t rfl]; omega)] at a
    rw [h.2, nI_1]
    exact congrArg nI a.symm
theorem cw_BI_take {w : Nat → Nat} {br : Nat → Int32} {iu : Int32} {b : Nat} (h : cw_BI (fun q => w q + cw_b (nI b = nI q)) br iu) (hb : b < 24) (hw : w b ≠ 0) : cw_BI w (upd br b (nI (w b))) iu := by
  refine ⟨fun q hq => ?_, h.2.trans (congrArg nI (cw_ct_eq fun q hq => ?_))⟩
  · try dsimp only
    by_cases e : q = b
    · subst e
      rw [pk_us]
    · rw [pk_un e, h.1 q hq]
      try dsimp only
      rw [cw_b_f (fun z => e ((nI_eq (by omega) (by omega)).mp z).symm)]
      try rfl
  · try dsimp only
    by_cases e : q = b
    · subst e
      rw [cw_b_t rfl]
      exact ⟨fun _ => hw, fun _ => by omega⟩
    · rw [cw_b_f (fun z => e ((nI_eq (by omega) (by omega)).mp z).symm)]
      exact Iff.rfl
theorem cw_BI_last {w : Nat → Nat} {br : Nat → Int32} {iu : Int32} {b : Nat} (h : cw_BI (fun q => w q + cw_b (nI b = nI q)) br iu) (hb : b < 24) (hw : w b = 0) : cw_BI w (upd br b (nI (w b))) (iu - 1) := by
  refine ⟨fun q hq => ?_, ?_⟩
  · try dsimp only
    by_cases e : q = b
    · subst e
      rw [pk_us]
    · rw [pk_un e, h.1 q hq]
      try dsimp only
      rw [cw_b_f (fun z => e ((nI_eq (by omega) (by omega)).mp z).symm)]
      try rfl
  · have a := cw_ct_at (P := fun q => w q + cw_b (nI b = nI q) ≠ 0) (Q := fun q => w q ≠ 0) hb (fun q hq e => by
      rw [cw_b_f (fun z => e ((nI_eq (by omega) (by omega)).mp z).symm)]
      exact Iff.rfl)
    try dsimp only at a
    rw [cw_b_f (P := w b ≠ 0) (fun z => z hw), cw_b_t (P := w b + cw_b (nI b = nI b) ≠ 0) (by rw [cw_b_t rfl]; omega), Nat.add_zero] at a
    rw [h.2]
    dsimp only
    rw [a, nI_pred]
/-- the counts of nodes and blocks: c n references to node n -/
def cw_Cnt (c : Nat → Nat) (no nr br : Nat → Int32) (iu : Int32) : Prop :=
  (∀ n, n < 72 → nr n = nI (c n)) ∧ cw_BI (cw_bw c no) br iu ∧ (∀ k, k < 288 → cw_o 24 (no k))
theorem cw_Cnt_ext {c c' : Nat → Nat} {no nr br : Nat → Int32} {iu : Int32} (h : cw_Cnt c no nr br iu) (e : ∀ n, n < 72 → c n = c' n) : cw_Cnt c' no nr br iu :=
  ⟨fun n hn => (h.1 n hn).trans (congrArg nI (e n hn)), cw_BI_ext h.2.1 (fun b _ => cw_bw_same (fun n hn => by rw [e n hn]) (fun _ _ _ => rfl)), h.2.2⟩
theorem cw_Cnt_no {c : Nat → Nat} {no no' nr br : Nat → Int32} {iu : Int32} (h : cw_Cnt c no nr br iu) (e : ∀ k, k < 288 → c (k / 4) ≠ 0 → no k = no' k) (ho : ∀ k, k < 288 → cw_o 24 (no' k)) : cw_Cnt c no' nr br iu :=
  ⟨h.1, cw_BI_ext h.2.1 (fun b _ => cw_bw_same (fun n hn => Iff.rfl) e), ho⟩
theorem cw_free {R : Nat → Int32} (h72 : ∀ g, 72 ≤ g → R g = -1) {r : Nat} (hr : r < 72) (h : R r = -1 ∨ ∃ n, n < 72 ∧ R r = nI n ∧ cw_cn R n ≠ 1) : ∃ m, m < 72 ∧ cw_cn R m = 0 := by
  apply Classical.byContradiction
  intro z
  have hz : ∀ m, m < 72 → cw_cn R m ≠ 0 := fun m hm e => z ⟨m, hm, e⟩
  have p := cw_pig R 72 (by decide) 96
  have q : cw_ct (fun g => R g ≠ -1) 96 = cw_ct (fun g => R g ≠ -1) 72 := by
    have a := cw_ct_add (fun g => R g ≠ -1) 72 24
    have b : cw_ct (fun i => R (72 + i) ≠ -1) 24 = 0 := cw_ct_0.mpr (fun k _ e => e (h72 _ (by omega)))
    rw [b] at a
    exact a
  rcases h with h | ⟨n, hn, e, h1⟩
  · have a := cw_ct_lt (P := fun g => R g ≠ -1) (i := r) (N := 72) (fun e => e h) hr
    have b := cw_sm_ge (f := fun m => cw_ct (fun g => R g = nI m) 96) (N := 72) hz
    omega
  · have a := cw_ct_le (fun g => R g ≠ -1) 72
    have h0 := cw_cn_at (R := R) (g := r) (n := n) (by omega) e
    have b := cw_sm_gt (f := fun m => cw_ct (fun g => R g = nI m) 96) (i := n) (N := 72) (show 2 ≤ cw_cn R n by omega) hn hz
    omega
end
section
section
variable {li up pr iu ha nh nu : Int32} {ro no nr nd br lb lv ld de dn sl : Nat → Int32}
theorem cw_holdBlock {post : SX → Prop} {w : Nat → Nat} {x : Int32} (h : cw_BI w br iu) (hx : cw_o 24 x) (hw : ∀ b, b < 24 → w b ≤ 1000)
    (H : ∀ iu' br', cw_BI (fun b => w b + cw_b (x = nI b)) br' iu' → post (li, up, pr, iu', ha, nh, nu, ro, no, nr, nd, br', lb, lv, ld, de, dn, sl)) : wpX_holdBlock post (li, up, pr, iu, ha, nh, nu, ro, no, nr, nd, br, lb, lv, ld, de, dn, sl) x := by
  rcases hx with rfl | ⟨b, hb, rfl⟩
  · exact br_f cw_m1n0 (H iu br (cw_BI_ext h (fun b hb => by rw [cw_b_f (cw_m1 (by omega))]; rfl)))
  · have hv : vp_in (nI b) 24 := vp_in_nI hb (by decide)
    have cl : (nI b).toNatClampNeg = b := nI_clamp (by omega)
    have e := h.1 b hb
    have eb : vp_nar .short ((br (nI b).toNatClampNeg + 1).toInt16.toInt32) = nI (w b + 1) := by
      rw [cl, e, nI_1, cw_sh (by have := hw b hb; omega)]
    have eu : upd br (nI b).toNatClampNeg (vp_nar .short ((br (nI b).toNatClampNeg + 1).toInt16.toInt32)) = upd br b (nI (w b + 1)) := by rw [eb, cl]
    refine br_t (nI_pos' (by omega)) ⟨hv, ?_⟩
    by_cases z : w b = 0
    · refine br_t (by rw [cl, e, z]; rfl) (nm_e ?_)
      unfold wX_holdBlock_24
      exact ⟨hv, hv, nm_r eu (H _ _ (cw_BI_new h hb z))⟩
    · refine br_f (by rw [cl, e]; exact nI_ne0 (by omega) (by have := hw b hb; omega)) ?_
      unfold wX_holdBlock_24
      exact ⟨hv, hv, nm_r eu (H _ _ (cw_BI_put h hb z))⟩
theorem cw_releaseBlock {post : SX → Prop} {w : Nat → Nat} {x : Int32} (h : cw_BI (fun b => w b + cw_b (x = nI b)) br iu) (hx : cw_o 24 x) (hw : ∀ b, b < 24 → w b ≤ 1000)
    (H : ∀ iu' br', cw_BI w br' iu' → post (li, up, pr, iu', ha, nh, nu, ro, no, nr, nd, br', lb, lv, ld, de, dn, sl)) : wpX_releaseBlock post (li, up, pr, iu, ha, nh, nu, ro, no, nr, nd, br, lb, lv, ld, de, dn, sl) x := by
  rcases hx with rfl | ⟨b, hb, rfl⟩
  · exact br_f cw_m1n0 (H iu br (cw_BI_ext h (fun b hb => by rw [cw_b_f (cw_m1 (by omega))]; rfl)))
  · have hv : vp_in (nI b) 24 := vp_in_nI hb (by decide)
    have cl : (nI b).toNatClampNeg = b := nI_clamp (by omega)
    have e := h.1 b hb
    dsimp only at e
    rw [cw_b_t rfl] at e
    have hwb := hw b hb
    have eb : vp_nar .short ((br (nI b).toNatClampNeg - 1).toInt16.toInt32) = nI (w b) := by
      rw [cl, e, nI_pred, cw_sh (by omega)]
    have eu : upd br (nI b).toNatClampNeg (vp_nar .short ((br (nI b).toNatClampNeg - 1).toInt16.toInt32)) = upd br b (nI (w b)) := by rw [eb, cl]
    refine br_t (nI_pos' (by omega)) ⟨hv, hv, nm_r eu ⟨hv, ?_⟩⟩
    by_cases z : w b = 0
    · refine br_t (by rw [cl, pk_us, z]; rfl) (nm_e ?_)
      exact H _ _ (cw_BI_last h hb z)
    · refine br_f (by rw [cl, pk_us]; exact nI_ne0 (by omega) (by omega)) ?_
      exact H _ _ (cw_BI_take h hb z)
theorem cw_x4 (m : Nat) : nI m * 4 + 4 = nI (4 * m + 4) := by
  rw [show (4 : Int32) = nI 4 from rfl, pk_mul, nI_add, Nat.mul_comm]
theorem cw_x4' (m : Nat) : nI m * 4 = nI (4 * m) := by
  rw [show (4 : Int32) = nI 4 from rfl, pk_mul, Nat.mul_comm]
theorem cw_x4p (m p : Nat) : nI m * 4 + nI p = nI (4 * m + p) := by
  rw [cw_x4', nI_add]
theorem cw_hold_43 {post : SX → Prop} {m c : Nat} (hm : m < 72) (hc : c ≤ 100) (e : nr m = nI c)
    (H : post (li, up, pr, iu, ha, nh, nu, ro, no, upd nr m (nI (c + 1)), nd, br, lb, lv, ld, de, dn, sl)) : wX_hold_43 post (nI m) li up pr iu ha nh nu ro no nr nd br lb lv ld de dn sl := by
  have hv : vp_in (nI m) 72 := vp_in_nI hm (by decide)
  have cl : (nI m).toNatClampNeg = m := nI_clamp (by omega)
  unfold wX_hold_43
  exact ⟨hv, hv, nm_r (e' := upd nr m (nI (c + 1))) (by rw [cl, e, nI_1, cw_by (by omega)]) H⟩
theorem cw_hold_18 {post : SX → Prop} {m : Nat} (hm : m < 72) (hno : ∀ k, k < 288 → cw_o 24 (no k)) {w : Nat → Nat} (hw : ∀ b, b < 24 → w b ≤ 900)
    (H : ∀ iu' br', cw_BI (fun b => w b + cw_ct (fun i => no (4 * m + i) = nI b) 4) br' iu' → wX_hold_43 post (nI m) li up pr iu' ha nh nu ro no nr nd br' lb lv ld de dn sl) :
    ∀ d j n br iu, j + d = 4 → d < n → cw_BI (fun b => w b + cw_ct (fun i => no (4 * m + i) = nI b) j) br iu → wX_hold_18 post (nI m) n (nI (4 * m + j)) li up pr iu ha nh nu ro no nr nd br lb lv ld de dn sl := by
  intro d
  induction d with
  | zero =>
    intro j n br iu hj hn h
    obtain ⟨n, rfl⟩ : ∃ q, n = q + 1 := ⟨n - 1, by omega⟩
    have e : j = 4 := by omega
    subst e
    exact br_t (by rw [cw_x4]; exact nI_le (by omega) (by omega)) (H iu br h)
  | succ d ih =>
    intro j n br iu hj hn h
    obtain ⟨n, rfl⟩ : ∃ q, n = q + 1 := ⟨n - 1, by omega⟩
    refine br_f (by rw [cw_x4]; exact nI_ge (by omega) (by omega)) ⟨vp_in_nI (by omega) (by decide), ?_⟩
    rw [nI_clamp (by omega)]
    refine cw_holdBlock h (hno _ (by omega)) (fun b hb => by have := hw b hb; have := cw_ct_le (fun i => no (4 * m + i) = nI b) j; omega) (fun iu' br' h' => ?_)
    refine nm_r (nI_1 _) (ih (j + 1) n br' iu' (by omega) (by omega) (cw_BI_ext h' (fun b hb => ?_)))
    rw [cw_ct_s, Nat.add_assoc]
theorem cw_hold {post : SX → Prop} {R : Nat → Int32} {g : Nat} {x : Int32} (h : cw_Cnt (cw_cn R) no nr br iu) (hg : g < 96) (hR : R g = -1) (hx : cw_o 72 x)
    (H : ∀ iu' nr' br', cw_Cnt (cw_cn (upd R g x)) no nr' br' iu' → post (li, up, pr, iu', ha, nh, nu, ro, no, nr', nd, br', lb, lv, ld, de, dn, sl)) : wpX_hold post (li, up, pr, iu, ha, nh, nu, ro, no, nr, nd, br, lb, lv, ld, de, dn, sl) x := by
  have hc : ∀ n, n < 72 → cw_cn (upd R g x) n = cw_cn R n + cw_b (x = nI n) := fun n hn => cw_cn_put x hg hR hn
  rcases hx with rfl | ⟨m, hm, rfl⟩
  · exact br_f cw_m1n0 (H iu nr br (cw_Cnt_ext h (fun n hn => by rw [hc n hn, cw_b_f (cw_m1 (by omega))]; rfl)))
  · have hv : vp_in (nI m) 72 := vp_in_nI hm (by decide)
    have cl : (nI m).toNatClampNeg = m := nI_clamp (by omega)
    have e := h.1 m hm
    have hle := cw_cn_le R m
    have cm := hc m hm
    rw [cw_b_t rfl] at cm
    have cq : ∀ n, n < 72 → n ≠ m → cw_cn (upd R g (nI m)) n = cw_cn R n := fun n hn ne => by
      rw [hc n hn, cw_b_f (fun z => ne ((nI_eq (by omega) (by omega)).mp z).symm)]; rfl
    have hnr : ∀ n, n < 72 → upd nr m (nI (cw_cn R m + 1)) n = nI (cw_cn (upd R g (nI m)) n) := fun n hn => by
      by_cases ne : n = m
      · subst ne; rw [pk_us, cm]
      · rw [pk_un ne, cq n hn ne]; exact h.1 n hn
    refine br_t (nI_pos' (by omega)) ⟨hv, ?_⟩
    by_cases z : cw_cn R m = 0
    · refine br_t (by rw [cl, e, z]; rfl) (nm_r (cw_x4' m) ⟨5, ?_⟩)
      refine cw_hold_18 hm h.2.2 (w := cw_bw (cw_cn R) no) (fun b _ => by have := cw_bw_le (cw_cn R) no b; omega) (fun iu' br' h' => ?_) 4 0 5 br iu (by omega) (by omega) (cw_BI_ext h.2.1 (fun b hb => rfl))
      refine cw_hold_43 hm (by omega) e (H iu' _ br' ⟨hnr, cw_BI_ext h' (fun b hb => ?_), h.2.2⟩)
      exact (cw_bw_add hm z (by omega) (fun n hn ne => (cq n hn ne).symm)).symm
    · refine br_f (by rw [cl, e]; exact nI_ne0 (by omega) (by omega)) ?_
      refine cw_hold_43 hm (by omega) e (H iu _ br ⟨hnr, cw_BI_ext h.2.1 (fun b hb => ?_), h.2.2⟩)
      refine cw_bw_same (fun n hn => ?_) (fun _ _ _ => rfl)
      by_cases ne : n = m
      · subst ne; rw [cm]; exact ⟨fun _ => by omega, fun _ => z⟩
      · rw [cq n hn ne]
theorem cw_release_29 {post : SX → Prop} {m : Nat} (hm : m < 72) (hno : ∀ k, k < 288 → cw_o 24 (no k)) {w : Nat → Nat} (hw : ∀ b, b < 24 → w b ≤ 900)
    (H : ∀ iu' br', cw_BI w br' iu' → post (li, up, pr, iu', ha, nh, nu, ro, no, nr, upd nd m 0, br', lb, lv, ld, de, dn, sl)) :
    ∀ d j n br iu, j + d = 4 → d < n → cw_BI (fun b => w b + cw_ct (fun i => no (4 * m + j + i) = nI b) d) br iu → wX_release_29 post (nI m) n (nI (4 * m + j)) li up pr iu ha nh nu ro no nr nd br lb lv ld de dn sl := by
  have cl : (nI m).toNatClampNeg = m := nI_clamp (by omega)
  intro d
  induction d with
  | zero =>
    intro j n br iu hj hn h
    obtain ⟨n, rfl⟩ : ∃ q, n = q + 1 := ⟨n - 1, by omega⟩
    have e : j = 4 := by omega
    subst e
    refine br_t (by rw [cw_x4]; exact nI_le (by omega) (by omega)) ⟨vp_in_nI hm (by decide), nm_r (e' := upd nd m 0) (by rw [cl, cw_bl0]) (H iu br h)⟩
  | succ d ih =>
    intro j n br iu hj hn h
    obtain ⟨n, rfl⟩ : ∃ q, n = q + 1 := ⟨n - 1, by omega⟩
    refine br_f (by rw [cw_x4]; exact nI_ge (by omega) (by omega)) ⟨vp_in_nI (by omega) (by decide), ?_⟩
    rw [nI_clamp (by omega)]
    refine cw_releaseBlock (w := fun b => w b + cw_ct (fun i => no (4 * m + (j + 1) + i) = nI b) d) (cw_BI_ext h (fun b hb => ?_)) (hno _ (by omega)) (fun b hb => by have := hw b hb; have := cw_ct_le (fun i => no (4 * m + (j + 1) + i) = nI b) d; omega) (fun iu' br' h' => ?_)
    · rw [cw_ct_h]
      have e : cw_ct (fun i => no (4 * m + j + (1 + i)) = nI b) d = cw_ct (fun i => no (4 * m + (j + 1) + i) = nI b) d := cw_ct_eq fun k hk => by
        rw [show 4 * m + j + (1 + k) = 4 * m + (j + 1) + k by omega]
      try dsimp only
      rw [e, Nat.add_zero]
      omega
    · exact nm_r (nI_1 _) (ih (j + 1) n br' iu' (by omega) (by omega) h')
theorem cw_release {post : SX → Prop} {R : Nat → Int32} {g : Nat} {x : Int32} (h : cw_Cnt (cw_cn R) no nr br iu) (hg : g < 96) (hR : R g = x) (hx : cw_o 72 x)
    (H : ∀ iu' nr' nd' br', cw_Cnt (cw_cn (upd R g (-1))) no nr' br' iu' → (∀ n, n < 72 → nd' n = nd n ∨ (nd' n = 0 ∧ cw_cn (upd R g (-1)) n = 0)) → post (li, up, pr, iu', ha, nh, nu, ro, no, nr', nd', br', lb, lv, ld, de, dn, sl)) : wpX_release post (li, up, pr, iu, ha, nh, nu, ro, no, nr, nd, br, lb, lv, ld, de, dn, sl) x := by
  have hc : ∀ n, n < 72 → cw_cn R n = cw_cn (upd R g (-1)) n + cw_b (x = nI n) := fun n hn => cw_cn_take hg hR hn
  rcases hx with rfl | ⟨m, hm, rfl⟩
  · exact br_f cw_m1n0 (H iu nr nd br (cw_Cnt_ext h (fun n hn => by rw [hc n hn, cw_b_f (cw_m1 (by omega))]; rfl)) (fun n _ => Or.inl rfl))
  · have hv : vp_in (nI m) 72 := vp_in_nI hm (by decide)
    have cl : (nI m).toNatClampNeg = m := nI_clamp (by omega)
    have e := h.1 m hm
    have hle := cw_cn_le R m
    have cm := hc m hm
    rw [cw_b_t rfl] at cm
    have cq : ∀ n, n < 72 → n ≠ m → cw_cn R n = cw_cn (upd R g (-1)) n := fun n hn ne => by
      rw [hc n hn, cw_b_f (fun z => ne ((nI_eq (by omega) (by omega)).mp z).symm)]; rfl
    have hnr : ∀ n, n < 72 → upd nr m (nI (cw_cn (upd R g (-1)) m)) n = nI (cw_cn (upd R g (-1)) n) := fun n hn => by
      by_cases ne : n = m
      · subst ne; rw [pk_us]
      · rw [pk_un ne, ← cq n hn ne]; exact h.1 n hn
    have eu : upd nr (nI m).toNatClampNeg (vp_nar .byte ((nr (nI m).toNatClampNeg - 1).toInt8.toInt32)) = upd nr m (nI (cw_cn (upd R g (-1)) m)) := by
      rw [cl, e, cm, nI_pred, cw_by (by omega)]
    refine br_t (nI_pos' (by omega)) ⟨hv, hv, nm_r eu ⟨hv, ?_⟩⟩
    by_cases z : cw_cn (upd R g (-1)) m = 0
    · refine br_t (by rw [cl, pk_us, z]; rfl) (nm_r (cw_x4' m) ⟨5, ?_⟩)
      refine cw_release_29 hm h.2.2 (w := cw_bw (cw_cn (upd R g (-1))) no) (fun b _ => by have := cw_bw_le (cw_cn (upd R g (-1))) no b; omega) (fun iu' br' h' => ?_) 4 0 5 br iu (by omega) (by omega) (cw_BI_ext h.2.1 (fun b hb => ?_))
      · refine H iu' _ _ br' ⟨hnr, h', h.2.2⟩ (fun n hn => ?_)
        by_cases ne : n = m
        · subst ne; exact Or.inr ⟨pk_us, z⟩
        · exact Or.inl (pk_un ne)
      · exact cw_bw_add hm z (by omega) (fun n hn ne => (cq n hn ne).symm)
    · refine br_f (by rw [cl, pk_us]; exact nI_ne0 (by omega) (by omega)) ?_
      refine H iu _ nd br ⟨hnr, cw_BI_ext h.2.1 (fun b hb => ?_), h.2.2⟩ (fun n _ => Or.inl rfl)
      refine cw_bw_same (fun n hn => ?_) (fun _ _ _ => rfl)
      by_cases ne : n = m
      · subst ne; exact ⟨fun _ => z, fun _ => by omega⟩
      · rw [cq n hn ne]
end
end
section
/-! the cache: eight lines over 24 blocks -/
def cw_Ca (lb lv ld de : Nat → Int32) : Prop := ∀ l, l < 8 → (lb l = -1 ∧ ld l = 0) ∨ ∃ b, b < 24 ∧ b % 8 = l ∧ lb l = nI b ∧ (ld l = 0 → lv l = de b)
def cw_ctn (lb lv de : Nat → Int32) (b : Nat) : Int32 := if lb (b % 8) = nI b then lv (b % 8) else de b
theorem cw_ctn_t {lb lv de : Nat → Int32} {b : Nat} (h : lb (b % 8) = nI b) : cw_ctn lb lv de b = lv (b % 8) := if_pos h
theorem cw_ctn_f {lb lv de : Nat → Int32} {b : Nat} (h : ¬ lb (b % 8) = nI b) : cw_ctn lb lv de b = de b := if_neg h
/-- the line's old block goes to the device, or need not -/
def cw_Ev (lb lv ld de de' : Nat → Int32) (l : Nat) : Prop := (de' = de ∧ ld l = 0) ∨ ∃ b, b < 24 ∧ b % 8 = l ∧ lb l = nI b ∧ de' = upd de b (lv l)
theorem cw_Ev_o {lb lv ld de de' : Nat → Int32} {l q : Nat} (h : cw_Ev lb lv ld de de' l) (hq : q % 8 ≠ l) : de' q = de q := by
  rcases h with ⟨e, _⟩ | ⟨b, hb, hl, _, e⟩
  · rw [e]
  · rw [e, pk_un (fun z => hq (by rw [z]; exact hl))]
theorem cw_Ev_v {lb lv ld de de' : Nat → Int32} {l q : Nat} (hC : cw_Ca lb lv ld de) (hl : l < 8) (h : cw_Ev lb lv ld de de' l) (hq : q < 24) : de' q = cw_ctn lb lv de q ∨ (q % 8 ≠ l ∧ de' q = de q) := by
  by_cases hm : q % 8 = l
  · left
    rcases h with ⟨e, hd⟩ | ⟨b, hb, hl2, e2, e⟩
    · rw [e]
      by_cases z : lb (q % 8) = nI q
      · rw [cw_ctn_t z]
        rcases hC l hl with ⟨e1, _⟩ | ⟨b, hb, _, e1, e3⟩
        · rw [hm, e1] at z; exact absurd z (cw_m1 (by omega))
        · rw [hm, e1, nI_eq (by omega) (by omega)] at z
          rw [hm, e3 hd, z]
      · rw [cw_ctn_f z]
    · rw [e]
      by_cases z : q = b
      · rw [z, pk_us, cw_ctn_t (by rw [hl2]; exact e2), hl2]
      · rw [pk_un z, cw_ctn_f (by rw [hm, e2, nI_eq (by omega) (by omega)]; exact fun y => z y.symm)]
  · exact Or.inr ⟨hm, cw_Ev_o h hm⟩
theorem cw_line_p {lb lv ld de de' : Nat → Int32} {b : Nat} (hb : b < 24) (hC : cw_Ca lb lv ld de) (hn : ¬ lb (b % 8) = nI b) (h : cw_Ev lb lv ld de de' (b % 8)) :
    cw_Ca (upd lb (b % 8) (nI b)) (upd lv (b % 8) (de' b)) (upd ld (b % 8) 0) de' ∧
    (∀ q, q < 24 → cw_ctn (upd lb (b % 8) (nI b)) (upd lv (b % 8) (de' b)) de' q = cw_ctn lb lv de q) ∧
    (∀ q, q < 24 → de' q = de q ∨ de' q = cw_ctn lb lv de q) := by
  have hv := fun q (hq : q < 24) => cw_Ev_v hC (by omega) h hq
  refine ⟨fun l hl => ?_, fun q hq => ?_, fun q hq => ?_⟩
  · by_cases e : l = b % 8
    · right
      refine ⟨b, hb, e.symm, by rw [e, pk_us], fun _ => by rw [e, pk_us]⟩
    · rw [pk_un e, pk_un e, pk_un e]
      rcases hC l hl with c | ⟨b1, hb1, hl1, e1, e2⟩
      · exact Or.inl c
      · refine Or.inr ⟨b1, hb1, hl1, e1, fun z => ?_⟩
        rw [e2 z, cw_Ev_o h (by omega)]
  · by_cases e : q % 8 = b % 8
    · rcases hv q hq with c | ⟨c, _⟩
      · by_cases z : q = b
        · subst z
          rw [cw_ctn_t (by rw [pk_us]), pk_us, c]
        · rw [cw_ctn_f (by rw [e, pk_us, nI_eq (by omega) (by omega)]; exact fun y => z y.symm), c]
      · exact absurd e c
    · unfold cw_ctn
      rw [pk_un e, pk_un e, cw_Ev_o h e]
  · rcases hv q hq with c | ⟨_, c⟩
    · exact Or.inr c
    · exact Or.inl c
section
variable {li up pr iu ha nh nu : Int32} {ro no nr nd br lb lv ld de dn sl : Nat → Int32}
theorem cw_line_41 {post : Int32 → SX → Prop} {b : Nat} (hb : b < 24) (H : post (nI (b % 8)) (li, up, pr, iu, ha, nh, nu, ro, no, nr, nd, br, upd lb (b % 8) (nI b), upd lv (b % 8) (de b), upd ld (b % 8) 0, de, dn, sl)) : wX_line_41 post (nI b) (nI (b % 8)) li up pr iu ha nh nu ro no nr nd br lb lv ld de dn sl := by
  have hv : vp_in (nI (b % 8)) 8 := vp_in_nI (by omega) (by decide)
  have cl : (nI (b % 8)).toNatClampNeg = b % 8 := nI_clamp (by omega)
  have cb : (nI b).toNatClampNeg = b := nI_clamp (by omega)
  unfold wX_line_41
  exact ⟨hv, nm_r (e' := upd ld (b % 8) 0) (by rw [cl, cw_bl0]) ⟨hv, nm_r (e' := upd lb (b % 8) (nI b)) (by rw [cl, cw_by (by omega)]) ⟨vp_in_nI hb (by decide), hv, nm_r (e' := upd lv (b % 8) (de b)) (by rw [cl, cb]) H⟩⟩⟩
theorem cw_line {post : Int32 → SX → Prop} {b : Nat} (hb : b < 24) (hC : cw_Ca lb lv ld de)
    (H : ∀ lb' lv' ld' de', cw_Ca lb' lv' ld' de' → (∀ q, q < 24 → cw_ctn lb' lv' de' q = cw_ctn lb lv de q) → (∀ q, q < 24 → de' q = de q ∨ de' q = cw_ctn lb lv de q) → lb' (b % 8) = nI b → post (nI (b % 8)) (li, up, pr, iu, ha, nh, nu, ro, no, nr, nd, br, lb', lv', ld', de', dn, sl)) : wpX_line post (li, up, pr, iu, ha, nh, nu, ro, no, nr, nd, br, lb, lv, ld, de, dn, sl) (nI b) := by
  have hv : vp_in (nI (b % 8)) 8 := vp_in_nI (by omega) (by decide)
  have cl : (nI (b % 8)).toNatClampNeg = b % 8 := nI_clamp (by omega)
  refine nm_r (e' := nI (b % 8)) (pk_andN (n := b) (by omega) 3 (by decide)) ⟨hv, ?_⟩
  rw [cl]
  by_cases z : lb (b % 8) = nI b
  · exact br_t z (H lb lv ld de hC (fun _ _ => rfl) (fun _ _ => Or.inl rfl) z)
  · refine br_f z ⟨hv, ?_⟩
    by_cases y : ld (b % 8) = 0
    · have p := cw_line_p hb hC z (Or.inl ⟨rfl, y⟩)
      exact br_t y (cw_line_41 hb (H _ _ _ _ p.1 p.2.1 p.2.2 pk_us))
    · rcases hC (b % 8) (by omega) with ⟨_, c⟩ | ⟨b0, hb0, hl0, e0, _⟩
      · exact absurd c y
      · have p := cw_line_p hb hC z (Or.inr ⟨b0, hb0, hl0, e0, rfl⟩)
        refine br_f y ⟨hv, hv, by rw [e0]; exact vp_in_nI hb0 (by decide), nm_r (e' := upd de b0 (lv (b % 8))) (by rw [e0, nI_clamp (by omega)]) ?_⟩
        exact cw_line_41 hb (H _ _ _ _ p.1 p.2.1 p.2.2 pk_us)
theorem cw_load {post : Int32 → SX → Prop} {b : Nat} (hb : b < 24) (hC : cw_Ca lb lv ld de)
    (H : ∀ lb' lv' ld' de', cw_Ca lb' lv' ld' de' → (∀ q, q < 24 → cw_ctn lb' lv' de' q = cw_ctn lb lv de q) → (∀ q, q < 24 → de' q = de q ∨ de' q = cw_ctn lb lv de q) → post (cw_ctn lb lv de b) (li, up, pr, iu, ha, nh, nu, ro, no, nr, nd, br, lb', lv', ld', de', dn, sl)) : wpX_load post (li, up, pr, iu, ha, nh, nu, ro, no, nr, nd, br, lb, lv, ld, de, dn, sl) (nI b) := by
  unfold wpX_load
  refine cw_line hb hC (fun lb' lv' ld' de' h1 h2 h3 h4 => ?_)
  refine ⟨vp_in_nI (by omega) (by decide), ?_⟩
  rw [nI_clamp (by omega), ← cw_ctn_t (lv := lv') (de := de') h4, h2 b hb]
  exact H _ _ _ _ h1 h2 h3
theorem cw_store {post : SX → Prop} {b : Nat} {v : Int32} (hb : b < 24) (hC : cw_Ca lb lv ld de)
    (H : ∀ lb' lv' ld' de', cw_Ca lb' lv' ld' de' → (∀ q, q < 24 → cw_ctn lb' lv' de' q = if q = b then v else cw_ctn lb lv de q) → (∀ q, q < 24 → de' q = de q ∨ de' q = cw_ctn lb lv de q) → post (li, up, pr, iu, ha, nh, nu, ro, no, nr, nd, br, lb', lv', ld', de', dn, sl)) : wpX_store post (li, up, pr, iu, ha, nh, nu, ro, no, nr, nd, br, lb, lv, ld, de, dn, sl) (nI b) v := by
  unfold wpX_store
  refine cw_line hb hC (fun lb' lv' ld' de' h1 h2 h3 h4 => ?_)
  have hv : vp_in (nI (b % 8)) 8 := vp_in_nI (by omega) (by decide)
  have cl : (nI (b % 8)).toNatClampNeg = b % 8 := nI_clamp (by omega)
  refine ⟨hv, nm_r (e' := upd lv' (b % 8) v) (by rw [cl]) ⟨hv, nm_r (e' := upd ld' (b % 8) 1) (by rw [cl, cw_bl1]) (H _ _ _ _ ?_ (fun q hq => ?_) h3)⟩⟩
  · intro l hl
    by_cases e : l = b % 8
    · subst e
      exact Or.inr ⟨b, hb, rfl, h4, fun z => by rw [pk_us] at z; exact absurd z (by decide)⟩
    · rw [pk_un e, pk_un e]
      exact h1 l hl
  · by_cases z : q = b
    · subst z
      rw [if_pos rfl, cw_ctn_t h4, pk_us]
    · rw [if_neg z, ← h2 q hq]
      by_cases y : lb' (q % 8) = nI q
      · rw [cw_ctn_t y, cw_ctn_t y, pk_un]
        intro e
        rw [e, h4, nI_eq (by omega) (by omega)] at y
        exact z y.symm
      · rw [cw_ctn_f y, cw_ctn_f y]
theorem cw_writeNode {post : SX → Prop} {m : Nat} (hm : m < 72) (hno : ∀ k, k < 288 → cw_o 24 (no k))
    (H : ∀ dn', (∀ k, dn' k = if 4 * m ≤ k ∧ k < 4 * m + 4 then no k else dn k) → post (li, up, pr, iu, ha, nh, nu, ro, no, nr, nd, br, lb, lv, ld, de, dn', sl)) : wpX_writeNode post (li, up, pr, iu, ha, nh, nu, ro, no, nr, nd, br, lb, lv, ld, de, dn, sl) (nI m) := by
  unfold wpX_writeNode
  refine nm_r (cw_x4' m) ⟨5, ?_⟩
  have key : ∀ d j n dn', j + d = 4 → d < n → (∀ k, dn' k = if 4 * m ≤ k ∧ k < 4 * m + j then no k else dn k) → wX_writeNode_4 post (nI m) li up pr iu ha nh nu n (nI (4 * m + j)) ro no nr nd br lb lv ld de dn' sl := by
    intro d
    induction d with
    | zero =>
      intro j n dn' hj hn h
      obtain ⟨n, rfl⟩ : ∃ q, n = q + 1 := ⟨n - 1, by omega⟩
      have e : j = 4 := by omega
      subst e
      exact br_t (by rw [cw_x4]; exact nI_le (by omega) (by omega)) (H dn' h)
    | succ d ih =>
      intro j n dn' hj hn h
      obtain ⟨n, rfl⟩ : ∃ q, n = q + 1 := ⟨n - 1, by omega⟩
      have hv : vp_in (nI (4 * m + j)) 288 := vp_in_nI (by omega) (by decide)
      have cl : (nI (4 * m + j)).toNatClampNeg = 4 * m + j := nI_clamp (by omega)
      refine br_f (by rw [cw_x4]; exact nI_ge (by omega) (by omega)) ⟨hv, hv, nm_r (e' := upd dn' (4 * m + j) (no (4 * m + j))) (by rw [cl, cw_o_by (hno _ (by omega)) (by omega)]) (nm_r (nI_1 _) ?_)⟩
      refine ih (j + 1) n _ (by omega) (by omega) (fun k => ?_)
      by_cases z : k = 4 * m + j
      · subst z
        rw [pk_us, if_pos (by omega)]
      · rw [pk_un z, h k]
        by_cases y : 4 * m ≤ k ∧ k < 4 * m + j
        · rw [if_pos y, if_pos (by omega)]
        · rw [if_neg y, if_neg (by omega)]
  exact key 4 0 5 dn (by omega) (by omega) (fun k => by rw [if_neg (by omega)])
theorem cw_flush_49 {post : SX → Prop} (hno : ∀ k, k < 288 → cw_o 24 (no k))
    (H : ∀ nd' dn', (∀ n, n < 72 → nd' n = 0) → (∀ k, k < 288 → dn' k = if nd (k / 4) = 0 then dn k else no k) → post (li, up, pr, iu, ha, nh, nu, ro, no, nr, nd', br, lb, lv, ld, de, dn', sl)) :
    ∀ d j n nd' dn', j + d = 72 → d < n → (∀ n, n < 72 → nd' n = if n < j then 0 else nd n) → (∀ k, k < 288 → dn' k = if k / 4 < j then (if nd (k / 4) = 0 then dn k else no k) else dn k) →
      wX_flush_49 post n (nI j) li up pr iu ha nh nu ro no nr nd' br lb lv ld de dn' sl := by
  intro d
  induction d with
  | zero =>
    intro j n nd' dn' hj hn h1 h2
    obtain ⟨n, rfl⟩ : ∃ q, n = q + 1 := ⟨n - 1, by omega⟩
    have e : j = 72 := by omega
    subst e
    exact br_t (nI_le (a := 72) (by omega) (by omega)) (H nd' dn' (fun n hn => by rw [h1 n hn, if_pos hn]) (fun k hk => by rw [h2 k hk, if_pos (by omega)]))
  | succ d ih =>
    intro j n nd' dn' hj hn h1 h2
    obtain ⟨n, rfl⟩ : ∃ q, n = q + 1 := ⟨n - 1, by omega⟩
    have hv : vp_in (nI j) 72 := vp_in_nI (by omega) (by decide)
    have cl : (nI j).toNatClampNeg = j := nI_clamp (by omega)
    have g1 : ∀ n, n < 72 → upd nd' j 0 n = if n < j + 1 then 0 else nd n := fun n hn => by
      by_cases z : n = j
      · subst z; rw [pk_us, if_pos (by omega)]
      · rw [pk_un z, h1 n hn]
        by_cases y : n < j
        · rw [if_pos y, if_pos (by omega)]
        · rw [if_neg y, if_neg (by omega)]
    have ej : nd' j = nd j := by rw [h1 j (by omega), if_neg (by omega)]
    refine br_f (nI_ge (b := 72) (by omega) (by omega)) ⟨hv, ?_⟩
    rw [cl]
    by_cases z : nd' j = 0
    · refine br_t z ⟨hv, nm_r (e' := upd nd' j 0) (by rw [cw_bl0]) (nm_r (nI_1 _) (ih (j + 1) n _ dn' (by omega) (by omega) g1 (fun k hk => ?_)))⟩
      rw [h2 k hk]
      by_cases y : k / 4 < j
      · rw [if_pos y, if_pos (show k / 4 < j + 1 by omega)]
      · rw [if_neg y]
        by_cases x : k / 4 = j
        · rw [if_pos (by omega), x, if_pos (ej.symm.trans z)]
        · rw [if_neg (by omega)]
    · refine br_f z (cw_writeNode (by omega) hno (fun dn2 hd => ?_))
      refine ⟨hv, nm_r (e' := upd nd' j 0) (by rw [cw_bl0]) (nm_r (nI_1 _) (ih (j + 1) n _ dn2 (by omega) (by omega) g1 (fun k hk => ?_)))⟩
      rw [hd k, h2 k hk]
      by_cases y : k / 4 < j
      · rw [if_neg (show ¬ (4 * j ≤ k ∧ k < 4 * j + 4) by omega), if_pos y, if_pos (show k / 4 < j + 1 by omega)]
      · by_cases x : k / 4 = j
        · rw [if_pos (by omega), if_pos (by omega), x, if_neg (by rw [← ej]; exact z)]
        · rw [if_neg (by omega), if_neg y, if_neg (by omega)]
theorem cw_flush {post : SX → Prop} (hno : ∀ k, k < 288 → cw_o 24 (no k)) (hC : cw_Ca lb lv ld de)
    (H : ∀ nd' ld' de' dn', cw_Ca lb lv ld' de' → (∀ q, q < 24 → de' q = cw_ctn lb lv de q) → (∀ n, n < 72 → nd' n = 0) → (∀ k, k < 288 → dn' k = if nd (k / 4) = 0 then dn k else no k) → post (li, up, pr, iu, ha, nh, nu, ro, no, nr, nd', br, lb, lv, ld', de', dn', sl)) : wpX_flush post (li, up, pr, iu, ha, nh, nu, ro, no, nr, nd, br, lb, lv, ld, de, dn, sl) := by
  unfold wpX_flush
  refine ⟨9, ?_⟩
  have key : ∀ d j n ld' de', j + d = 8 → d < n → cw_Ca lb lv ld' de' → (∀ q, q < 24 → cw_ctn lb lv de' q = cw_ctn lb lv de q) → (∀ l, l < j → ld' l = 0) → wX_flush_2 post li up pr iu ha nh nu n (nI j) ro no nr nd br lb lv ld' de' dn sl := by
    intro d
    induction d with
    | zero =>
      intro j n ld' de' hj hn h1 h2 h3
      obtain ⟨n, rfl⟩ : ∃ q, n = q + 1 := ⟨n - 1, by omega⟩
      have e : j = 8 := by omega
      subst e
      refine br_t (nI_le (a := 8) (by omega) (by omega)) ⟨73, ?_⟩
      refine cw_flush_49 hno (fun nd' dn' g1 g2 => H nd' ld' de' dn' h1 (fun q hq => ?_) g1 g2) 72 0 73 nd dn (by omega) (by omega) (fun n _ => by rw [if_neg (by omega)]) (fun k _ => by rw [if_neg (by omega)])
      rw [← h2 q hq]
      by_cases z : lb (q % 8) = nI q
      · rw [cw_ctn_t z]
        rcases h1 (q % 8) (by omega) with ⟨c, _⟩ | ⟨b, hb, _, e1, e2⟩
        · rw [z] at c; exact absurd c (cw_m1' (by omega))
        · rw [e2 (h3 _ (by omega))]
          rw [e1, nI_eq (by omega) (by omega)] at z
          rw [z]
      · rw [cw_ctn_f z]
    | succ d ih =>
      intro j n ld' de' hj hn h1 h2 h3
      obtain ⟨n, rfl⟩ : ∃ q, n = q + 1 := ⟨n - 1, by omega⟩
      have hv : vp_in (nI j) 8 := vp_in_nI (by omega) (by decide)
      have cl : (nI j).toNatClampNeg = j := nI_clamp (by omega)
      have g3 : ∀ l, l < j + 1 → upd ld' j 0 l = 0 := fun l hl => by
        by_cases z : l = j
        · rw [z, pk_us]
        · rw [pk_un z]; exact h3 l (by omega)
      refine br_f (nI_ge (b := 8) (by omega) (by omega)) ⟨hv, ?_⟩
      rw [cl]
      by_cases z : ld' j = 0
      · refine br_t z ⟨hv, nm_r (e' := upd ld' j 0) (by rw [cw_bl0]) (nm_r (nI_1 _) (ih (j + 1) n _ de' (by omega) (by omega) (fun l hl => ?_) h2 g3))⟩
        by_cases y : l = j
        · subst y
          rw [pk_us]
          rcases h1 l hl with ⟨c, _⟩ | ⟨b, hb, hl1, e1, e2⟩
          · exact Or.inl ⟨c, rfl⟩
          · exact Or.inr ⟨b, hb, hl1, e1, fun _ => e2 z⟩
        · rw [pk_un y]; exact h1 l hl
      · rcases h1 j (by omega) with ⟨_, c⟩ | ⟨b, hb, hl1, e1, e2⟩
        · exact absurd c z
        · refine br_f z ⟨hv, hv, by rw [e1]; exact vp_in_nI hb (by decide), nm_r (e' := upd de' b (lv j)) (by rw [e1, nI_clamp (by omega)]) ⟨hv, nm_r (e' := upd ld' j 0) (by rw [cw_bl0]) (nm_r (nI_1 _) (ih (j + 1) n _ _ (by omega) (by omega) (fun l hl => ?_) (fun q hq => ?_) g3))⟩⟩
          · by_cases y : l = j
            · subst y
              exact Or.inr ⟨b, hb, hl1, e1, fun _ => by rw [pk_us]⟩
            · rw [pk_un y]
              rcases h1 l hl with c | ⟨b', hb', hl', e1', e2'⟩
              · exact Or.inl c
              · exact Or.inr ⟨b', hb', hl', e1', fun w => by rw [e2' w, pk_un (fun e => by rw [e] at hl'; omega)]⟩
          · rw [← h2 q hq]
            by_cases y : lb (q % 8) = nI q
            · rw [cw_ctn_t y, cw_ctn_t y]
            · rw [cw_ctn_f y, cw_ctn_f y, pk_un (fun e => y (by rw [e, hl1]; exact e1))]
  exact key 8 0 9 ld de (by omega) (by omega) hC (fun _ _ => rfl) (fun l hl => absurd hl (Nat.not_lt_zero l))
end
end
section
section
variable {li up pr iu ha nh nu : Int32} {ro no nr nd br lb lv ld de dn sl : Nat → Int32}
theorem cw_freeBlock {post : Int32 → SX → Prop} {L h : Nat} {w : Nat → Nat} (hL : L ≤ 24) (eli : li = nI L) (hh : h < L) (eha : ha = nI h) (hw : ∀ b, b < 24 → br b = nI (w b) ∧ w b ≤ 1000)
    (H1 : ∀ b, b < L → w b = 0 → post (nI b) (li, up, pr, iu, nI b, nh, nu, ro, no, nr, nd, br, lb, lv, ld, de, dn, sl)) (H2 : (∀ b, b < L → w b ≠ 0) → ∀ h', h' < L → post (-1) (li, up, pr, iu, nI h', nh, nu, ro, no, nr, nd, br, lb, lv, ld, de, dn, sl)) : wpX_freeBlock post (li, up, pr, iu, ha, nh, nu, ro, no, nr, nd, br, lb, lv, ld, de, dn, sl) := by
  have fin : ∀ z, z < L → (w z ≠ 0 → ∀ b, b < L → w b ≠ 0) → wX_freeBlock_51 post li up pr iu (nI z) nh nu ro no nr nd br lb lv ld de dn sl := by
    intro z hz hb
    have cz : (nI z).toNatClampNeg = z := nI_clamp (by omega)
    have e := hw z (by omega)
    unfold wX_freeBlock_51
    refine ⟨vp_in_nI (by omega) (by decide), ?_⟩
    rw [cz, e.1]
    by_cases y : w z = 0
    · exact br_t (by rw [y]; rfl) (H1 z hz y)
    · exact br_f (nI_ne0 (by omega) (by omega)) (H2 (hb y) z hz)
  have key : ∀ d h n, d < n → d < 24 → h < L → (∀ b, b < L → w b = 0 → (h < b → b ≤ h + (d + 1)) ∧ (b ≤ h → b + L ≤ h + (d + 1))) → wX_freeBlock_5 post li up pr iu nh nu ro no nr nd br lb lv ld de dn sl n (nI (d + 1)) (nI h) := by
    intro d
    induction d with
    | zero =>
      intro h n hn hd hh hb
      obtain ⟨n, rfl⟩ : ∃ q, n = q + 1 := ⟨n - 1, by omega⟩
      have step : ∀ z, z < L → (h + 1 < L → z = h + 1) → (¬ h + 1 < L → z = 0) → ∀ J, wX_freeBlock_29 post J (nI (0 + 1)) (nI z) li up pr iu (nI h) nh nu ro no nr nd br lb lv ld de dn sl := by
        intro z hz z1 z2 J
        have cz : (nI z).toNatClampNeg = z := nI_clamp (by omega)
        have e := hw z (by omega)
        unfold wX_freeBlock_29
        refine nm_r (pk_m1 0) ⟨vp_in_nI (by omega) (by decide), ?_⟩
        rw [cz, e.1]
        have hf : w z ≠ 0 → ∀ b, b < L → w b ≠ 0 := fun y b hbL wb => by
          have := hb b hbL wb
          rcases Nat.lt_or_ge (h + 1) L with x | x
          · have := z1 x
            by_cases bz : b = z
            · rw [bz] at wb; exact y wb
            · omega
          · have := z2 (by omega)
            by_cases bz : b = z
            · rw [bz] at wb; exact y wb
            · omega
        by_cases y : w z = 0
        · exact br_t (by rw [y]; rfl) (fin z hz hf)
        · exact br_f (nI_ne0 (by omega) (by omega)) (br_f (by decide) (fin z hz hf))
      by_cases c : h + 1 < L
      · refine br_f (by rw [eli, nI_1]; exact nI_ge c (by omega)) ?_
        rw [nI_1]
        exact step (h + 1) c (fun _ => rfl) (fun z => absurd c z) _
      · refine br_t (by rw [eli, nI_1]; exact nI_le (by omega) (by omega)) ?_
        exact step 0 (by omega) (fun z => absurd z c) (fun _ => rfl) _
    | succ d ih =>
      intro h n hn hd hh hb
      obtain ⟨n, rfl⟩ : ∃ q, n = q + 1 := ⟨n - 1, by omega⟩
      have step : ∀ z, z < L → (h + 1 < L → z = h + 1) → (¬ h + 1 < L → z = 0) → wX_freeBlock_29 post (wX_freeBlock_5 post li up pr iu nh nu ro no nr nd br lb lv ld de dn sl n) (nI (d + 1 + 1)) (nI z) li up pr iu (nI h) nh nu ro no nr nd br lb lv ld de dn sl := by
        intro z hz z1 z2
        have cz : (nI z).toNatClampNeg = z := nI_clamp (by omega)
        have e := hw z (by omega)
        unfold wX_freeBlock_29
        refine nm_r (pk_m1 (d + 1)) ⟨vp_in_nI (by omega) (by decide), ?_⟩
        rw [cz, e.1]
        by_cases y : w z = 0
        · exact br_t (by rw [y]; rfl) (fin z hz (fun x => absurd y x))
        · refine br_f (nI_ne0 (by omega) (by omega)) ?_
          refine br_t (nI_lt (a := 0) (by omega) (by omega)) (ih z n (by omega) (by omega) hz (fun b hbL wb => ?_))
          have := hb b hbL wb
          have bz : b ≠ z := fun x => by rw [x] at wb; exact y wb
          rcases Nat.lt_or_ge (h + 1) L with x | x
          · have := z1 x
            omega
          · have := z2 (by omega)
            omega
      by_cases c : h + 1 < L
      · refine br_f (by rw [eli, nI_1]; exact nI_ge c (by omega)) ?_
        rw [nI_1]
        exact step (h + 1) c (fun _ => rfl) (fun z => absurd c z)
      · refine br_t (by rw [eli, nI_1]; exact nI_le (by omega) (by omega)) ?_
        exact step 0 (by omega) (fun z => absurd z c) (fun _ => rfl)
  obtain ⟨l, rfl⟩ : ∃ l, L = l + 1 := ⟨L - 1, by omega⟩
  refine ⟨l + 1, ?_⟩
  rw [eha]
  have k := key l h (l + 1) (by omega) (by omega) hh (fun b hb _ => by omega)
  rw [eli] at k ⊢
  exact k
theorem cw_mod72 (h : Nat) (hh : h < 72) : nI h + 1 - (nI h + 1) / 72 * 72 = nI ((h + 1) % 72) := by
  rw [nI_1, show (72 : Int32) = nI 72 from rfl, pk_rem (by omega) (by omega) (by omega)]
theorem cw_freeNode {post : Int32 → SX → Prop} {h m : Nat} {c : Nat → Nat} (hh : h < 72) (enh : nh = nI h) (hc : ∀ n, n < 72 → nr n = nI (c n) ∧ c n ≤ 1000) (hm : m < 72) (cm : c m = 0)
    (H : ∀ n, n < 72 → c n = 0 → post (nI n) (li, up, pr, iu, ha, nI n, nu, ro, no, nr, nd, br, lb, lv, ld, de, dn, sl)) : wpX_freeNode post (li, up, pr, iu, ha, nh, nu, ro, no, nr, nd, br, lb, lv, ld, de, dn, sl) := by
  have key : ∀ d h n, d < n → h < 72 → d < 72 → ((h < m → m ≤ h + (d + 1)) ∧ (m ≤ h → m + 72 ≤ h + (d + 1))) → wX_freeNode_3 post li up pr iu ha nu ro no nr nd br lb lv ld de dn sl n (nI (d + 1)) (nI h) := by
    intro d
    induction d with
    | zero =>
      intro h n hn hh hd hb
      obtain ⟨n, rfl⟩ : ∃ q, n = q + 1 := ⟨n - 1, by omega⟩
      have ez : (h + 1) % 72 = m := by omega
      refine ⟨by decide, nm_r (cw_mod72 h hh) (nm_r (pk_m1 0) ⟨vp_in_nI (by omega) (by decide), ?_⟩)⟩
      rw [nI_clamp (by omega), ez]
      exact br_t (by rw [(hc m hm).1, cm]; rfl) (H m hm cm)
    | succ d ih =>
      intro h n hn hh hd hb
      obtain ⟨n, rfl⟩ : ∃ q, n = q + 1 := ⟨n - 1, by omega⟩
      refine ⟨by decide, nm_r (cw_mod72 h hh) (nm_r (pk_m1 (d + 1)) ⟨vp_in_nI (by omega) (by decide), ?_⟩)⟩
      rw [nI_clamp (by omega)]
      have e := hc ((h + 1) % 72) (by omega)
      rw [e.1]
      by_cases y : c ((h + 1) % 72) = 0
      · exact br_t (by rw [y]; rfl) (H _ (by omega) y)
      · have ne : (h + 1) % 72 ≠ m := fun x => by rw [x] at y; exact y cm
        exact br_f (nI_ne0 (by omega) (by omega)) (br_t (nI_lt (a := 0) (by omega) (by omega)) (ih _ n (by omega) (by omega) (by omega) (by omega)))
  refine ⟨72, ?_⟩
  rw [enh]
  exact key 71 h 72 (by omega) hh (by omega) (by omega)
end
end
section
/-! the cells: what block stands at cell c = 4 * root + place -/
def cw_B (R no : Nat → Int32) (c : Nat) : Int32 := if R (c / 4) = -1 then -1 else no (4 * (R (c / 4)).toNatClampNeg + c % 4)
theorem cw_B_n {R no : Nat → Int32} {c n : Nat} (h : R (c / 4) = nI n) (hn : n < 72) : cw_B R no c = no (4 * n + c % 4) := by
  unfold cw_B
  rw [h, if_neg (cw_m1' (by omega)), nI_clamp (by omega)]
theorem cw_B_m {R no : Nat → Int32} {c : Nat} (h : R (c / 4) = -1) : cw_B R no c = -1 := if_pos h
theorem cw_B_np {R no : Nat → Int32} {g p n : Nat} (h : R g = nI n) (hn : n < 72) (hp : p < 4) : cw_B R no (4 * g + p) = no (4 * n + p) := by
  have e1 : (4 * g + p) / 4 = g := by omega
  have e2 : (4 * g + p) % 4 = p := by omega
  rw [cw_B_n (n := n) (by rw [e1]; exact h) hn, e2]
theorem cw_B_o {R no : Nat → Int32} {M : Nat} (hR : ∀ g, cw_o 72 (R g)) (hno : ∀ k, k < 288 → cw_o M (no k)) (c : Nat) : cw_o M (cw_B R no c) := by
  rcases hR (c / 4) with h | ⟨n, hn, h⟩
  · rw [cw_B_m h]; exact Or.inl rfl
  · rw [cw_B_n h hn]; exact hno _ (by omega)
/-- reindexed roots -/
theorem cw_B_re {R R' no : Nat → Int32} {ψ : Nat → Nat} (h : ∀ g, R' g = R (ψ g)) (c : Nat) : cw_B R' no c = cw_B R no (4 * ψ (c / 4) + c % 4) := by
  have e1 : (4 * ψ (c / 4) + c % 4) / 4 = ψ (c / 4) := by omega
  have e2 : (4 * ψ (c / 4) + c % 4) % 4 = c % 4 := by omega
  unfold cw_B
  rw [e1, e2, h]
def cw_ND (R no nd dn : Nat → Int32) : Prop := ∀ n, n < 72 → cw_cn R n ≠ 0 → nd n = 0 → ∀ p, p < 4 → dn (4 * n + p) = no (4 * n + p)
def cw_CK (R no dn : Nat → Int32) : Prop := ∀ g, 24 ≤ g → ∀ n, n < 72 → R g = nI n → ∀ p, p < 4 → dn (4 * n + p) = no (4 * n + p)
/-- the live part of the component -/
def cw_Iv (L : Nat) (R : Nat → Int32) (iu : Int32) (ro no nr nd br dn : Nat → Int32) : Prop :=
  (∀ g, cw_o 72 (R g)) ∧ (∀ g, 72 ≤ g → R g = -1) ∧ (∀ k, k < 24 → ro k = R k) ∧ (∀ k, k < 288 → cw_o L (no k)) ∧ cw_Cnt (cw_cn R) no nr br iu ∧ cw_ND R no nd dn ∧ cw_CK R no dn
theorem cw_cn_R {R : Nat → Int32} {n : Nat} (h72 : ∀ g, 72 ≤ g → R g = -1) (hn : n < 72) (h : cw_cn R n ≠ 0) : ∃ g, g < 72 ∧ R g = nI n := by
  obtain ⟨g, hg, e⟩ := cw_ct_ex h
  refine ⟨g, ?_, e⟩
  rcases Nat.lt_or_ge g 72 with z | z
  · exact z
  · rw [h72 g z] at e; exact absurd e (cw_m1 (by omega))
theorem cw_upd2 {R : Nat → Int32} {t g : Nat} {x : Int32} (ne : t ≠ g) (hg : R g = -1) : ∀ q, upd R t x q = upd (upd (upd (upd R g x) t (-1)) t x) g (-1) q := by
  intro q
  by_cases a : q = g
  · subst a; rw [pk_us, pk_un (fun e => ne e.symm), hg]
  · rw [pk_un a]
    by_cases b : q = t
    · subst b; rw [pk_us, pk_us]
    · rw [pk_un b, pk_un b, pk_un b, pk_un a]
/-- hold x at a spare place, release the root t, put x there: the counts -/
theorem cw_cn_move {R : Nat → Int32} {t : Nat} {x : Int32} (ht : t < 72) (hR : R 95 = -1) {n : Nat} (hn : n < 72) : cw_cn (upd (upd R 95 x) t (-1)) n = cw_cn (upd R t x) n := by
  have a := cw_cn_upd (upd R 95 x) (g := t) (-1) (by omega) n
  have b := cw_cn_upd R (g := 95) x (by omega) n
  have c := cw_cn_upd R (g := t) x (by omega) n
  rw [pk_un (by omega), cw_b_f (P := (-1 : Int32) = nI n) (cw_m1 (by omega))] at a
  rw [hR, cw_b_f (P := (-1 : Int32) = nI n) (cw_m1 (by omega))] at b
  omega
section
variable {li up pr iu ha nh nu : Int32} {ro no nr nd br lb lv ld de dn sl : Nat → Int32}
theorem cw_setRoot {post : SX → Prop} {L : Nat} {R : Nat → Int32} {t : Nat} {x : Int32} (h : cw_Iv L R iu ro no nr nd br dn) (ht : t < 24) (hx : x = -1 ∨ ∃ g, g < 72 ∧ x = R g)
    (H : ∀ iu' nr' nd' br', cw_Iv L (upd R t x) iu' (upd ro t x) no nr' nd' br' dn → post (li, up, pr, iu', ha, nh, nu, upd ro t x, no, nr', nd', br', lb, lv, ld, de, dn, sl)) : wpX_setRoot post (li, up, pr, iu, ha, nh, nu, ro, no, nr, nd, br, lb, lv, ld, de, dn, sl) (nI t) x := by
  obtain ⟨h1, h2, h3, h4, h5, h6, h7⟩ := h
  have ox : cw_o 72 x := by
    rcases hx with rfl | ⟨g, _, e⟩
    · exact Or.inl rfl
    · rw [e]; exact h1 g
  have hv : vp_in (nI t) 24 := vp_in_nI ht (by decide)
  have cl : (nI t).toNatClampNeg = t := nI_clamp (by omega)
  have hR95 := h2 95 (by omega)
  unfold wpX_setRoot
  refine cw_hold h5 (g := 95) (by omega) hR95 ox (fun iu1 nr1 br1 g1 => ?_)
  refine ⟨hv, ?_⟩
  rw [cl]
  refine cw_release (R := upd R 95 x) (g := t) g1 (by omega) (by rw [pk_un (by omega), h3 t ht]) (by rw [h3 t ht]; exact h1 t) (fun iu2 nr2 nd2 br2 g2 g3 => ?_)
  refine ⟨hv, nm_r (e' := upd ro t x) (by rw [cw_o_by8 ox (by omega)]) (H iu2 nr2 nd2 br2 ⟨fun g => ?_, fun g hg => ?_, fun k hk => ?_, h4, cw_Cnt_ext g2 (fun n hn => cw_cn_move (by omega) hR95 hn), ?_, ?_⟩)⟩
  · by_cases e : g = t
    · rw [e, pk_us]; exact ox
    · rw [pk_un e]; exact h1 g
  · rw [pk_un (by omega)]; exact h2 g hg
  · by_cases e : k = t
    · rw [e, pk_us, pk_us]
    · rw [pk_un e, pk_un e]; exact h3 k hk
  · intro n hn hc hd p hp
    have hc' := hc
    rw [← cw_cn_move (by omega) hR95 hn] at hc'
    have ed : nd n = 0 := by
      rcases g3 n hn with e | ⟨_, e⟩
      · rw [← e]; exact hd
      · exact absurd e hc'
    refine h6 n hn ?_ ed p hp
    obtain ⟨g, hg, e⟩ := cw_ct_ex hc
    by_cases gt : g = t
    · rw [gt, pk_us] at e
      rcases hx with ex | ⟨g', hg', ex⟩
      · rw [ex] at e; exact absurd e (cw_m1 (by omega))
      · exact cw_cn_at (g := g') (by omega) (ex.symm.trans e)
    · rw [pk_un gt] at e
      exact cw_cn_at hg e
  · intro g hg n hn e
    rw [pk_un (by omega)] at e
    exact h7 g hg n hn e
theorem cw_filled {post : Int32 → Prop} {R : Nat → Int32} {r : Nat} (hR : ∀ g, cw_o 72 (R g)) (hro : ∀ k, k < 24 → ro k = R k) (hno : ∀ k, k < 288 → cw_o 24 (no k)) (hr : r < 24)
    (H : post (nI (cw_ct (fun p => cw_B R no (4 * r + p) ≠ -1) 4))) : wpX_filled post (li, up, pr, iu, ha, nh, nu, ro, no, nr, nd, br, lb, lv, ld, de, dn, sl) (nI r) := by
  have cl : (nI r).toNatClampNeg = r := nI_clamp (by omega)
  unfold wpX_filled
  refine ⟨vp_in_nI hr (by decide), nm_r (e' := R r) (by rw [cl]; exact hro r hr) ?_⟩
  rcases hR r with e | ⟨n, hn, e⟩
  · rw [e]
    refine br_t cw_m1neg ?_
    rw [cw_ct_0.mpr (fun k hk z => z (cw_B_m (by rw [show (4 * r + k) / 4 = r by omega]; exact e)))] at H
    exact H
  · rw [e]
    have eB : ∀ p, p < 4 → cw_B R no (4 * r + p) = no (4 * n + p) := fun p hp => cw_B_np e hn hp
    refine br_f (nI_pos (by omega)) (nm_r (cw_x4' n) ⟨5, ?_⟩)
    have key : ∀ d j q, j + d = 4 → d < q → wX_filled_18 post (nI n) li up pr iu ha nh nu ro no nr nd br lb lv ld de dn sl q (nI (cw_ct (fun p => cw_B R no (4 * r + p) ≠ -1) j)) (nI (4 * n + j)) := by
      intro d
      induction d with
      | zero =>
        intro j q hj hq
        obtain ⟨q, rfl⟩ : ∃ s, q = s + 1 := ⟨q - 1, by omega⟩
        have ej : j = 4 := by omega
        subst ej
        exact br_t (by rw [cw_x4]; exact nI_le (by omega) (by omega)) H
      | succ d ih =>
        intro j q hj hq
        obtain ⟨q, rfl⟩ : ∃ s, q = s + 1 := ⟨q - 1, by omega⟩
        refine br_f (by rw [cw_x4]; exact nI_ge (by omega) (by omega)) ⟨vp_in_nI (by omega) (by decide), ?_⟩
        rw [nI_clamp (by omega)]
        have i := ih (j + 1) q (by omega) (by omega)
        rw [cw_ct_s] at i
        by_cases z : no (4 * n + j) = -1
        · refine br_t ((cw_o_neg (hno _ (by omega)) (by omega)).mpr z) (nm_r (nI_1 _) ?_)
          rw [cw_b_f (fun y => y ((eB j (by omega)).trans z)), Nat.add_zero] at i
          exact i
        · refine br_f (fun y => z ((cw_o_neg (hno _ (by omega)) (by omega)).mp y)) (nm_r (nI_1 _) (nm_r (nI_1 _) ?_))
          rw [cw_b_t (fun y => z ((eB j (by omega)).symm.trans y))] at i
          exact i
    exact key 4 0 5 (by omega) (by omega)
theorem cw_ownNode {post : Int32 → SX → Prop} {L h : Nat} {R : Nat → Int32} {r : Nat} (hI : cw_Iv L R iu ro no nr nd br dn) (hL : L ≤ 24) (hr : r < 24) (hh : h < 72) (enh : nh = nI h)
    (H : ∀ n R' iu' nh' ro' no' nr' nd' br', n < 72 → R' r = nI n → cw_cn R' n = 1 → nd' n = 1 → cw_Iv L R' iu' ro' no' nr' nd' br' dn → (∀ g, g ≠ r → R' g = R g) → (∀ c, cw_B R' no' c = cw_B R no c) → (∃ h', h' < 72 ∧ nh' = nI h') → (∀ b, b < 24 → cw_bw (cw_cn R') no' b ≠ 0 → cw_bw (cw_cn R) no b ≠ 0) →
      post (nI n) (li, up, pr, iu', ha, nh', nu, ro', no', nr', nd', br', lb, lv, ld, de, dn, sl)) : wpX_ownNode post (li, up, pr, iu, ha, nh, nu, ro, no, nr, nd, br, lb, lv, ld, de, dn, sl) (nI r) := by
  obtain ⟨h1, h2, h3, h4, h5, h6, h7⟩ := hI
  have clr : (nI r).toNatClampNeg = r := nI_clamp (by omega)
  have hvr : vp_in (nI r) 24 := vp_in_nI hr (by decide)
  have fresh : ∀ x, R r = x → (R r = -1 ∨ ∃ n, n < 72 ∧ R r = nI n ∧ cw_cn R n ≠ 1) → wX_ownNode_30 post (nI r) x li up pr iu ha nh nu ro no nr nd br lb lv ld de dn sl := by
    intro x ex hne
    obtain ⟨m, hm, cm⟩ := cw_free h2 (by omega) hne
    have ox : cw_o 72 x := ex ▸ h1 r
    unfold wX_ownNode_30
    refine cw_freeNode hh enh (c := cw_cn R) (fun n hn => ⟨h5.1 n hn, by have := cw_cn_le R n; omega⟩) hm cm (fun n hn cn => ?_)
    have cln : (nI n).toNatClampNeg = n := nI_clamp (by omega)
    have hvn : vp_in (nI n) 72 := vp_in_nI hn (by decide)
    refine ⟨5, ?_⟩
    have key : ∀ d j q no', j + d = 4 → d < q → (∀ k, k < 288 → k / 4 ≠ n → no' k = no k) → (∀ k, k < 288 → cw_o L (no' k)) → (∀ p, p < j → no' (4 * n + p) = cw_B R no (4 * r + p)) → wX_ownNode_38 post (nI r) x (nI n) li up pr iu ha (nI n) nu q (nI j) ro no' nr nd br lb lv ld de dn sl := by
      intro d
      induction d with
      | zero =>
        intro j q no' hj hq k1 k2 k3
        obtain ⟨q, rfl⟩ : ∃ s, q = s + 1 := ⟨q - 1, by omega⟩
        have ej : j = 4 := by omega
        subst ej
        have ne : ∀ k, k < 288 → cw_cn R (k / 4) ≠ 0 → k / 4 ≠ n := fun k _ z y => z (by rw [y]; exact cn)
        have g0 : cw_Cnt (cw_cn R) no' nr br iu := cw_Cnt_no h5 (fun k hk z => (k1 k hk (ne k hk z)).symm) (fun k hk => cw_o_up (k2 k hk) hL)
        refine br_t (nI_le (a := 4) (by omega) (by omega)) ?_
        refine cw_hold g0 (g := 95) (by omega) (h2 95 (by omega)) (Or.inr ⟨n, hn, rfl⟩) (fun iu1 nr1 br1 g1 => ?_)
        refine cw_release (R := upd R 95 (nI n)) (g := r) g1 (by omega) (by rw [pk_un (by omega)]; exact ex) ox (fun iu2 nr2 nd2 br2 g2 g3 => ?_)
        have g4 : cw_Cnt (cw_cn (upd R r (nI n))) no' nr2 br2 iu2 := cw_Cnt_ext g2 (fun q hq => cw_cn_move (by omega) (h2 95 (by omega)) hq)
        have c1 := cw_cn_upd R (g := r) (nI n) (by omega) n
        rw [cn, cw_b_t rfl, ex, cw_b_f (P := x = nI n) (fun z => cw_cn_at (R := R) (g := r) (by omega) (ex.trans z) cn)] at c1
        refine ⟨hvn, nm_r (e' := upd nd2 n 1) (by rw [cln, cw_bl1]) ⟨hvr, nm_r (e' := upd ro r (nI n)) (by rw [clr, cw_by (by omega)]) (H n (upd R r (nI n)) iu2 (nI n) (upd ro r (nI n)) no' nr2 (upd nd2 n 1) br2 hn pk_us c1 pk_us ⟨fun g => ?_, fun g hg => ?_, fun k hk => ?_, k2, g4, ?_, ?_⟩ (fun g hg => pk_un hg) (fun c => ?_) ⟨n, hn, rfl⟩ (fun b hb hw => ?_))⟩⟩
        · by_cases e : g = r
          · rw [e, pk_us]; exact Or.inr ⟨n, hn, rfl⟩
          · rw [pk_un e]; exact h1 g
        · rw [pk_un (by omega)]; exact h2 g hg
        · by_cases e : k = r
          · rw [e, pk_us, pk_us]
          · rw [pk_un e, pk_un e]; exact h3 k hk
        · intro m' hm' hc hd p hp
          have nm : m' ≠ n := fun e => by rw [e, pk_us] at hd; exact absurd hd (by decide)
          rw [pk_un nm] at hd
          have hc' := hc
          rw [← cw_cn_move (by omega) (h2 95 (by omega)) hm'] at hc'
          have ed : nd m' = 0 := by
            rcases g3 m' hm' with e | ⟨_, e⟩
            · rw [← e]; exact hd
            · exact absurd e hc'
          rw [k1 (4 * m' + p) (by omega) (by omega)]
          refine h6 m' hm' ?_ ed p hp
          obtain ⟨g, hg, e⟩ := cw_ct_ex hc
          by_cases gt : g = r
          · rw [gt, pk_us, nI_eq (by omega) (by omega)] at e
            exact absurd e.symm nm
          · rw [pk_un gt] at e
            exact cw_cn_at hg e
        · intro g hg m' hm' e p hp
          rw [pk_un (by omega)] at e
          have nm : m' ≠ n := fun y => by
            rw [y] at e
            rcases Nat.lt_or_ge g 96 with z | z
            · exact cw_cn_at z e cn
            · rw [h2 g (by omega)] at e; exact absurd e (cw_m1 (by omega))
          rw [k1 (4 * m' + p) (by omega) (by omega)]
          exact h7 g hg m' hm' e p hp
        · by_cases e : c / 4 = r
          · rw [cw_B_n (n := n) (by rw [e, pk_us]) hn, k3 _ (by omega), show 4 * r + c % 4 = c by omega]
          · rcases h1 (c / 4) with y | ⟨m', hm', y⟩
            · rw [cw_B_m y, cw_B_m (by rw [pk_un e]; exact y)]
            · rw [cw_B_n y hm', cw_B_n (by rw [pk_un e]; exact y) hm']
              refine k1 _ (by omega) (fun z => ?_)
              have z' : m' = n := by omega
              rw [z'] at y
              rcases Nat.lt_or_ge (c / 4) 96 with w | w
              · exact cw_cn_at w y cn
              · rw [h2 _ (by omega)] at y; exact absurd y (cw_m1 (by omega))
        · obtain ⟨k, hk, z, e⟩ := cw_ct_ex hw
          by_cases kn : k / 4 = n
          · have e2 := k3 (k % 4) (by omega)
            rw [show 4 * n + k % 4 = k by omega, e] at e2
            rcases h1 r with y | ⟨m', hm', y⟩
            · rw [cw_B_m (by rw [show (4 * r + k % 4) / 4 = r by omega]; exact y)] at e2
              exact absurd e2.symm (cw_m1 (by omega))
            · rw [cw_B_np y hm' (by omega)] at e2
              refine cw_ct_pos (k := 4 * m' + k % 4) (by omega) ⟨?_, e2.symm⟩
              rw [show (4 * m' + k % 4) / 4 = m' by omega]
              exact cw_cn_at (g := r) (by omega) y
          · rw [k1 k hk kn] at e
            refine cw_ct_pos (k := k) hk ⟨?_, e⟩
            obtain ⟨g, hg, y⟩ := cw_ct_ex z
            by_cases gt : g = r
            · rw [gt, pk_us, nI_eq (by omega) (by omega)] at y
              exact absurd y.symm kn
            · rw [pk_un gt] at y
              exact cw_cn_at hg y
      | succ d ih =>
        intro j q no' hj hq k1 k2 k3
        obtain ⟨q, rfl⟩ : ∃ s, q = s + 1 := ⟨q - 1, by omega⟩
        refine br_f (nI_ge (b := 4) (by omega) (by omega)) ?_
        have hv : vp_in (nI n * 4 + nI j) 288 := by rw [cw_x4p]; exact vp_in_nI (by omega) (by decide)
        have st : ∀ y, y = cw_B R no (4 * r + j) → wX_ownNode_38 post (nI r) x (nI n) li up pr iu ha (nI n) nu q (nI (j + 1)) ro (upd no' (4 * n + j) y) nr nd br lb lv ld de dn sl := by
          intro y ey
          refine ih (j + 1) q _ (by omega) (by omega) (fun k hk hn' => ?_) (fun k hk => ?_) (fun p hp => ?_)
          · rw [pk_un (fun z => hn' (by omega))]; exact k1 k hk hn'
          · by_cases z : k = 4 * n + j
            · rw [z, pk_us, ey]; exact cw_B_o h1 h4 _
            · rw [pk_un z]; exact k2 k hk
          · by_cases z : p = j
            · rw [z, pk_us]; exact ey
            · rw [pk_un (by omega)]; exact k3 p (by omega)
        rcases ox with rfl | ⟨m', hm', rfl⟩
        · refine br_f cw_m1n0 ⟨hv, nm_r (e' := upd no' (4 * n + j) (-1)) (by rw [cw_x4p, nI_clamp (by omega), cw_bym]) (nm_r (nI_1 _) (st _ ?_))⟩
          rw [cw_B_m (by rw [show (4 * r + j) / 4 = r by omega]; exact ex)]
        · have nm : m' ≠ n := fun e => by rw [e] at ex; exact cw_cn_at (g := r) (by omega) ex cn
          refine br_t (nI_pos' (by omega)) ⟨by rw [cw_x4p]; exact vp_in_nI (by omega) (by decide), hv, nm_r (e' := upd no' (4 * n + j) (no (4 * m' + j))) ?_ (nm_r (nI_1 _) (st _ ?_))⟩
          · rw [cw_x4p, cw_x4p, nI_clamp (by omega), nI_clamp (by omega), k1 _ (by omega) (by omega), cw_o_by (h4 _ (by omega)) (by omega)]
          · rw [cw_B_np ex hm' (by omega)]
    exact key 4 0 5 no (by omega) (by omega) (fun _ _ _ => rfl) h4 (fun p hp => absurd hp (Nat.not_lt_zero p))
  unfold wpX_ownNode
  refine ⟨hvr, nm_r (e' := R r) (by rw [clr]; exact h3 r hr) ?_⟩
  rcases h1 r with e | ⟨n, hn, e⟩
  · rw [e]
    exact br_t cw_m1neg (fresh _ e (Or.inl e))
  · rw [e]
    have cln : (nI n).toNatClampNeg = n := nI_clamp (by omega)
    have hvn : vp_in (nI n) 72 := vp_in_nI hn (by decide)
    refine br_f (nI_pos (by omega)) ⟨hvn, ?_⟩
    rw [cln, h5.1 n hn]
    have hle := cw_cn_le R n
    by_cases z : cw_cn R n = 1
    · refine br_t (by rw [z]; rfl) ⟨hvn, nm_r (e' := upd nd n 1) (by rw [cw_bl1]) (H n R iu nh ro no nr (upd nd n 1) br hn e z pk_us ⟨h1, h2, h3, h4, h5, fun m' hm' hc hd => ?_, h7⟩ (fun _ _ => rfl) (fun _ => rfl) ⟨h, hh, enh⟩ (fun _ _ y => y))⟩
      have nm : m' ≠ n := fun e => by rw [e, pk_us] at hd; exact absurd hd (by decide)
      rw [pk_un nm] at hd
      exact h6 m' hm' hc hd
    · refine br_f ?_ (fresh _ e (Or.inr ⟨n, hn, e, z⟩))
      intro y
      exact z ((nI_eq (b := 1) (by omega) (by omega)).mp y)
end
end
section
/-! the two slots -/
def cw_s1 (sl : Nat → Int32) (a : Nat) : Nat → Int32
  | 0 => 0
  | k + 1 => cw_s1 sl a k + sl (a + k)
def cw_s2 (sl : Nat → Int32) (a : Nat) : Nat → Int32
  | 0 => 0
  | k + 1 => cw_s2 sl a k + cw_s1 sl a (k + 1)
theorem cw_s1_c {sl sl' : Nat → Int32} {a : Nat} : ∀ {k : Nat}, (∀ j, j < k → sl' (a + j) = sl (a + j)) → cw_s1 sl' a k = cw_s1 sl a k
  | 0, _ => rfl
  | k + 1, h => by
    show cw_s1 sl' a k + sl' (a + k) = cw_s1 sl a k + sl (a + k)
    rw [cw_s1_c (k := k) (fun j hj => h j (by omega)), h k (by omega)]
theorem cw_s2_c {sl sl' : Nat → Int32} {a : Nat} : ∀ {k : Nat}, (∀ j, j < k → sl' (a + j) = sl (a + j)) → cw_s2 sl' a k = cw_s2 sl a k
  | 0, _ => rfl
  | k + 1, h => by
    show cw_s2 sl' a k + cw_s1 sl' a (k + 1) = cw_s2 sl a k + cw_s1 sl a (k + 1)
    rw [cw_s2_c (k := k) (fun j hj => h j (by omega)), cw_s1_c (k := k + 1) h]
theorem cw_s1_u {sl : Nat → Int32} {a i : Nat} {x : Int32} : ∀ {k : Nat}, i < k → cw_s1 (upd sl (a + i) x) a k + sl (a + i) = cw_s1 sl a k + x
  | 0, h => by omega
  | k + 1, h => by
    show cw_s1 (upd sl (a + i) x) a k + upd sl (a + i) x (a + k) + sl (a + i) = cw_s1 sl a k + sl (a + k) + x
    by_cases e : i = k
    · subst e
      rw [pk_us, cw_s1_c (k := i) (fun j hj => pk_un (by omega))]
      rw [Int32.add_assoc, Int32.add_assoc, Int32.add_comm x]
    · have ih := cw_s1_u (sl := sl) (a := a) (i := i) (x := x) (k := k) (by omega)
      rw [pk_un (by omega), Int32.add_assoc, Int32.add_comm (sl (a + k)), ← Int32.add_assoc, ih, Int32.add_assoc, Int32.add_comm x, ← Int32.add_assoc]
def cw_vl (sl : Nat → Int32) (s : Nat) : Prop :=
  ¬ sl (29 * s) ≤ 0 ∧ sl (29 * s) = sl (29 * s + 28) ∧ sl (29 * s + 26) = cw_s1 sl (29 * s) 26 ∧ sl (29 * s + 27) = cw_s2 sl (29 * s) 26
theorem cw_vl_c {sl sl' : Nat → Int32} {s : Nat} (h : ∀ j, j < 29 → sl' (29 * s + j) = sl (29 * s + j)) : cw_vl sl' s ↔ cw_vl sl s := by
  unfold cw_vl
  rw [cw_s1_c (sl := sl) (sl' := sl') (fun j hj => h j (by omega)), cw_s2_c (sl := sl) (sl' := sl') (fun j hj => h j (by omega)), h 28 (by omega), h 26 (by omega), h 27 (by omega)]
  have e := h 0 (by omega)
  rw [Nat.add_zero] at e
  rw [e]
/-- one changed word spoils a good slot -/
theorem cw_vl_u {sl : Nat → Int32} {s i : Nat} {x : Int32} (h : cw_vl sl s) (hi : i < 29) (hx : x ≠ sl (29 * s + i)) : ¬ cw_vl (upd sl (29 * s + i) x) s := by
  intro h'
  obtain ⟨_, a2, a3, a4⟩ := h
  obtain ⟨_, b2, b3, b4⟩ := h'
  by_cases e0 : i = 0
  · subst e0
    rw [Nat.add_zero] at hx b2
    rw [pk_us, pk_un (by omega)] at b2
    exact hx (b2.trans a2.symm)
  by_cases e28 : i = 28
  · subst e28
    rw [pk_us, pk_un (by omega)] at b2
    exact hx (b2.symm.trans a2)
  by_cases e26 : i = 26
  · subst e26
    rw [pk_us, cw_s1_c (fun j hj => pk_un (by omega))] at b3
    exact hx (b3.trans a3.symm)
  by_cases e27 : i = 27
  · subst e27
    rw [pk_us, cw_s2_c (fun j hj => pk_un (by omega))] at b4
    exact hx (b4.trans a4.symm)
  have u := cw_s1_u (sl := sl) (a := 29 * s) (i := i) (x := x) (k := 26) (by omega)
  rw [pk_un (by omega)] at b3
  rw [← b3, a3] at u
  exact hx ((Int32.add_right_inj (cw_s1 sl (29 * s) 26)).mp u).symm
section
variable {li up pr iu ha nh nu : Int32} {ro no nr nd br lb lv ld de dn sl : Nat → Int32}
theorem cw_x29 (s : Nat) : nI s * 29 = nI (29 * s) := by
  rw [show (29 : Int32) = nI 29 from rfl, pk_mul, Nat.mul_comm]
theorem cw_valid {post : Int32 → Prop} {s : Nat} (hs : s < 2) (H1 : cw_vl sl s → post 1) (H0 : ¬ cw_vl sl s → post 0) : wpX_valid post (li, up, pr, iu, ha, nh, nu, ro, no, nr, nd, br, lb, lv, ld, de, dn, sl) (nI s) := by
  unfold wpX_valid
  refine nm_r (cw_x29 s) ⟨27, ?_⟩
  have c0 : (nI (29 * s)).toNatClampNeg = 29 * s := nI_clamp (by omega)
  have c28 : (nI (29 * s) + 28).toNatClampNeg = 29 * s + 28 := by rw [show (28 : Int32) = nI 28 from rfl, nI_add]; exact nI_clamp (by omega)
  have c26 : (nI (29 * s) + 26).toNatClampNeg = 29 * s + 26 := by rw [show (26 : Int32) = nI 26 from rfl, nI_add]; exact nI_clamp (by omega)
  have c27 : (nI (29 * s) + 27).toNatClampNeg = 29 * s + 27 := by rw [show (27 : Int32) = nI 27 from rfl, nI_add]; exact nI_clamp (by omega)
  have v0 : vp_in (nI (29 * s)) 58 := vp_in_nI (by omega) (by decide)
  have v28 : vp_in (nI (29 * s) + 28) 58 := by rw [show (28 : Int32) = nI 28 from rfl, nI_add]; exact vp_in_nI (by omega) (by decide)
  have v26 : vp_in (nI (29 * s) + 26) 58 := by rw [show (26 : Int32) = nI 26 from rfl, nI_add]; exact vp_in_nI (by omega) (by decide)
  have v27 : vp_in (nI (29 * s) + 27) 58 := by rw [show (27 : Int32) = nI 27 from rfl, nI_add]; exact vp_in_nI (by omega) (by decide)
  have e26 : nI (29 * s) + 26 = nI (29 * s + 26) := by rw [show (26 : Int32) = nI 26 from rfl, nI_add]
  have key : ∀ d j q, j + d = 26 → d < q → wX_valid_13 post (nI (29 * s)) li up pr iu ha nh nu ro no nr nd br lb lv ld de dn sl q (cw_s1 sl (29 * s) j) (cw_s2 sl (29 * s) j) (nI (29 * s + j)) := by
    intro d
    induction d with
    | zero =>
      intro j q hj hq
      obtain ⟨q, rfl⟩ : ∃ s, q = s + 1 := ⟨q - 1, by omega⟩
      have ej : j = 26 := by omega
      subst ej
      refine br_t (by rw [e26]; exact nI_le (by omega) (by omega)) ⟨v0, ?_⟩
      rw [c0, c28, c26, c27]
      by_cases z1 : sl (29 * s) ≤ 0
      · exact br_t z1 (H0 fun h => h.1 z1)
      · refine br_f z1 ⟨v0, v28, ?_⟩
        by_cases z2 : sl (29 * s) = sl (29 * s + 28)
        · refine br_t z2 ⟨v26, ?_⟩
          by_cases z3 : sl (29 * s + 26) = cw_s1 sl (29 * s) 26
          · refine br_t z3 ⟨v27, ?_⟩
            by_cases z4 : sl (29 * s + 27) = cw_s2 sl (29 * s) 26
            · exact br_t z4 (H1 ⟨z1, z2, z3, z4⟩)
            · exact br_f z4 (H0 fun h => z4 h.2.2.2)
          · exact br_f z3 (H0 fun h => z3 h.2.2.1)
        · exact br_f z2 (H0 fun h => z2 h.2.1)
    | succ d ih =>
      intro j q hj hq
      obtain ⟨q, rfl⟩ : ∃ s, q = s + 1 := ⟨q - 1, by omega⟩
      refine br_f (by rw [e26]; exact nI_ge (by omega) (by omega)) ⟨vp_in_nI (by omega) (by decide), ?_⟩
      rw [nI_clamp (by omega)]
      exact nm_e (nm_e (nm_r (nI_1 _) (ih (j + 1) q (by omega) (by omega))))
  exact key 26 0 27 (by omega) (by omega)
theorem cw_newest {post : Int32 → Prop} (H0 : cw_vl sl 0 → (cw_vl sl 1 → ¬ sl 0 ≤ sl 29) → post 0) (H1 : cw_vl sl 1 → (cw_vl sl 0 → sl 0 ≤ sl 29) → post 1) (Hn : ¬ cw_vl sl 0 → ¬ cw_vl sl 1 → post (-1)) : wpX_newest post (li, up, pr, iu, ha, nh, nu, ro, no, nr, nd, br, lb, lv, ld, de, dn, sl) := by
  unfold wpX_newest
  refine cw_valid (s := 0) (by omega) (fun v0 => ?_) (fun v0 => ?_)
  · refine cw_valid (s := 1) (by omega) (fun v1 => ?_) (fun v1 => ?_)
    · refine br_f (by decide) ?_
      by_cases z : sl 0 ≤ sl 29
      · exact br_t z (H1 v1 fun _ => z)
      · exact br_f z (H0 v0 fun _ => z)
    · exact br_t (by decide) (br_f (by decide) (H0 v0 fun z => absurd z v1))
  · refine cw_valid (s := 1) (by omega) (fun v1 => ?_) (fun v1 => ?_)
    · exact br_t (by decide) (br_t (by decide) (br_f (by decide) (H1 v1 fun z => absurd z v0)))
    · exact br_t (by decide) (br_t (by decide) (br_t (by decide) (Hn v0 v1)))
/-- the newest slot by the relation's words -/
def cw_Nw (a : Nat) (t1 t2 : Prop) (sl : Nat → Int32) : Prop := a < 2 ∧ (t1 ↔ cw_vl sl a) ∧ (t2 ↔ cw_vl sl (1 - a)) ∧ (t2 → t1 ∧ sl (29 * (1 - a)) < sl (29 * a))
theorem cw_newest' {post : Int32 → Prop} {a : Nat} {t1 t2 : Prop} (h : cw_Nw a t1 t2 sl) (H1 : t1 → post (nI a)) (H0 : ¬ t1 → ¬ t2 → post (-1)) : wpX_newest post (li, up, pr, iu, ha, nh, nu, ro, no, nr, nd, br, lb, lv, ld, de, dn, sl) := by
  obtain ⟨ha2, h1, h2, h3⟩ := h
  have e : a = 0 ∨ a = 1 := by omega
  rcases e with rfl | rfl
  · have h2' : t2 ↔ cw_vl sl 1 := h2
    have h3' : t2 → t1 ∧ sl 29 < sl 0 := h3
    refine cw_newest (fun v0 _ => H1 (h1.mpr v0)) (fun v1 z => ?_) (fun v0 v1 => H0 (fun t => v0 (h1.mp t)) (fun t => v1 (h2'.mp t)))
    have t2' := h2'.mpr v1
    exact absurd (z (h1.mp (h3' t2').1)) (Int32.not_le.mpr (h3' t2').2)
  · have h2' : t2 ↔ cw_vl sl 0 := h2
    have h3' : t2 → t1 ∧ sl 0 < sl 29 := h3
    refine cw_newest (fun v0 z => ?_) (fun v1 _ => H1 (h1.mpr v1)) (fun v0 v1 => H0 (fun t => v1 (h1.mp t)) (fun t => v0 (h2'.mp t)))
    have t2' := h2'.mpr v0
    exact absurd (Int32.le_of_lt (h3' t2').2) (z (h1.mp (h3' t2').1))
/-- the words of a checkpoint -/
def cw_wd (nu pr : Int32) (ro : Nat → Int32) (s1 s2 : Int32) (k : Nat) : Int32 := if k = 0 then nu else if k = 25 then pr else if k = 26 then s1 else if k = 27 then s2 else if k = 28 then nu else ro (k - 1)
theorem cw_word {post : Int32 → Prop} {k : Nat} {s1 s2 : Int32} (hk : k < 29) (H : post (cw_wd nu pr ro s1 s2 k)) : wpX_word post (li, up, pr, iu, ha, nh, nu, ro, no, nr, nd, br, lb, lv, ld, de, dn, sl) (nI k) s1 s2 := by
  unfold wpX_word
  unfold cw_wd at H
  have q : ∀ c, c < 29 → (nI k = nI c ↔ k = c) := fun c hc => nI_eq (by omega) (by omega)
  by_cases z0 : k = 0
  · rw [if_pos z0] at H
    exact br_t ((q 0 (by omega)).mpr z0) H
  rw [if_neg z0] at H
  refine br_f (fun e => z0 ((q 0 (by omega)).mp e)) ?_
  by_cases z25 : k = 25
  · rw [if_pos z25] at H
    exact br_t ((q 25 (by omega)).mpr z25) H
  rw [if_neg z25] at H
  refine br_f (fun e => z25 ((q 25 (by omega)).mp e)) ?_
  by_cases z26 : k = 26
  · rw [if_pos z26] at H
    exact br_t ((q 26 (by omega)).mpr z26) H
  rw [if_neg z26] at H
  refine br_f (fun e => z26 ((q 26 (by omega)).mp e)) ?_
  by_cases z27 : k = 27
  · rw [if_pos z27] at H
    exact br_t ((q 27 (by omega)).mpr z27) H
  rw [if_neg z27] at H
  refine br_f (fun e => z27 ((q 27 (by omega)).mp e)) ?_
  by_cases z28 : k = 28
  · rw [if_pos z28] at H
    exact br_t ((q 28 (by omega)).mpr z28) H
  rw [if_neg z28] at H
  refine br_f (fun e => z28 ((q 28 (by omega)).mp e)) ?_
  have e : nI k - 1 = nI (k - 1) := by rw [show (1 : Int32) = nI 1 from rfl, pk_sub (by omega)]
  rw [e]
  refine ⟨vp_in_nI (by omega) (by decide), ?_⟩
  rw [nI_clamp (by omega)]
  exact H
/-- what the first w words of a checkpoint leave in slot s -/
def cw_Ws (s w : Nat) (nu pr : Int32) (ro sl sl' : Nat → Int32) : Prop :=
  (∀ q, (q < 29 * s ∨ 29 * s + w ≤ q) → sl' q = sl q) ∧ ∀ k, k < w → sl' (29 * s + k) = cw_wd nu pr ro (cw_s1 sl' (29 * s) (min k 26)) (cw_s2 sl' (29 * s) (min k 26)) k
theorem cw_writeSlot {post : SX → Prop} {s w : Nat} (hs : s < 2) (hw : w ≤ 29) (H : ∀ sl', cw_Ws s w nu pr ro sl sl' → post (li, up, pr, iu, ha, nh, nu, ro, no, nr, nd, br, lb, lv, ld, de, dn, sl')) : wpX_writeSlot post (li, up, pr, iu, ha, nh, nu, ro, no, nr, nd, br, lb, lv, ld, de, dn, sl) (nI s) (nI w) := by
  unfold wpX_writeSlot
  refine ⟨w + 1, ?_⟩
  have key : ∀ d j q sl', j + d = w → d < q → cw_Ws s j nu pr ro sl sl' → wX_writeSlot_8 post (nI s) (nI w) li up pr iu ha nh nu q (cw_s1 sl' (29 * s) (min j 26)) (cw_s2 sl' (29 * s) (min j 26)) (nI j) ro no nr nd br lb lv ld de dn sl' := by
    intro d
    induction d with
    | zero =>
      intro j q sl' hj hq h
      obtain ⟨q, rfl⟩ : ∃ s, q = s + 1 := ⟨q - 1, by omega⟩
      have ej : j = w := by omega
      subst ej
      exact br_t (nI_le (by omega) (by omega)) (H sl' h)
    | succ d ih =>
      intro j q sl' hj hq h
      obtain ⟨q, rfl⟩ : ∃ s, q = s + 1 := ⟨q - 1, by omega⟩
      refine br_f (nI_ge (by omega) (by omega)) (cw_word (by omega) ?_)
      have ei : nI s * 29 + nI j = nI (29 * s + j) := by rw [cw_x29, nI_add]
      rw [ei]
      generalize ew : cw_wd nu pr ro (cw_s1 sl' (29 * s) (min j 26)) (cw_s2 sl' (29 * s) (min j 26)) j = x
      refine ⟨vp_in_nI (by omega) (by decide), nm_r (e' := upd sl' (29 * s + j) x) (by rw [nI_clamp (by omega)]) ?_⟩
      have c1 : ∀ k, k ≤ j → k ≤ 26 → cw_s1 (upd sl' (29 * s + j) x) (29 * s) k = cw_s1 sl' (29 * s) k := fun k hk _ => cw_s1_c (fun i hi => pk_un (by omega))
      have c2 : ∀ k, k ≤ j → k ≤ 26 → cw_s2 (upd sl' (29 * s + j) x) (29 * s) k = cw_s2 sl' (29 * s) k := fun k hk _ => cw_s2_c (fun i hi => pk_un (by omega))
      have h' : cw_Ws s (j + 1) nu pr ro sl (upd sl' (29 * s + j) x) := by
        refine ⟨fun p hp => ?_, fun k hk => ?_⟩
        · rw [pk_un (by omega)]; exact h.1 p (by omega)
        · rw [c1 _ (by omega) (by omega), c2 _ (by omega) (by omega)]
          by_cases e : k = j
          · rw [e, pk_us]; exact ew.symm
          · rw [pk_un (by omega)]; exact h.2 k (by omega)
      have i := ih (j + 1) q _ (by omega) (by omega) h'
      by_cases z : 26 ≤ j
      · refine br_t (nI_le (a := 26) z (by omega)) (nm_r (nI_1 _) ?_)
        rw [show min (j + 1) 26 = 26 by omega, c1 26 z (by omega), c2 26 z (by omega)] at i
        rw [show min j 26 = 26 by omega]
        exact i
      · refine br_f (nI_ge (b := 26) (by omega) (by omega)) (nm_e (nm_e (nm_r (nI_1 _) ?_)))
        have m1 : min (j + 1) 26 = j + 1 := by omega
        have m2 : min j 26 = j := by omega
        have e1 : cw_s1 (upd sl' (29 * s + j) x) (29 * s) (j + 1) = cw_s1 sl' (29 * s) j + x := by
          show cw_s1 (upd sl' (29 * s + j) x) (29 * s) j + upd sl' (29 * s + j) x (29 * s + j) = _
          rw [c1 j (by omega) (by omega), pk_us]
        have e2 : cw_s2 (upd sl' (29 * s + j) x) (29 * s) (j + 1) = cw_s2 sl' (29 * s) j + (cw_s1 sl' (29 * s) j + x) := by
          show cw_s2 (upd sl' (29 * s + j) x) (29 * s) j + cw_s1 (upd sl' (29 * s + j) x) (29 * s) (j + 1) = _
          rw [c2 j (by omega) (by omega), e1]
        rw [m1, e1, e2] at i
        rw [m2]
        exact i
  exact key w 0 (w + 1) sl (by omega) (by omega) ⟨fun _ _ => rfl, fun k hk => absurd hk (Nat.not_lt_zero k)⟩
end
theorem cw_Ws_full {s : Nat} {nu pr : Int32} {ro sl sl' : Nat → Int32} (h : cw_Ws s 29 nu pr ro sl sl') (hn : ¬ nu ≤ 0) :
    cw_vl sl' s ∧ sl' (29 * s) = nu ∧ sl' (29 * s + 28) = nu ∧ sl' (29 * s + 25) = pr ∧ (∀ k, k < 24 → sl' (29 * s + 1 + k) = ro k) := by
  have e0 : sl' (29 * s) = nu := (h.2 0 (by omega)).trans (by unfold cw_wd; rw [if_pos rfl])
  have e28 : sl' (29 * s + 28) = nu := (h.2 28 (by omega)).trans (by unfold cw_wd; rfl)
  have e26 : sl' (29 * s + 26) = cw_s1 sl' (29 * s) 26 := (h.2 26 (by omega)).trans (by unfold cw_wd; rfl)
  have e27 : sl' (29 * s + 27) = cw_s2 sl' (29 * s) 26 := (h.2 27 (by omega)).trans (by unfold cw_wd; rfl)
  have e25 : sl' (29 * s + 25) = pr := (h.2 25 (by omega)).trans (by unfold cw_wd; rfl)
  refine ⟨⟨by rw [e0]; exact hn, by rw [e0, e28], e26, e27⟩, e0, e28, e25, fun k hk => ?_⟩
  have e := h.2 (k + 1) (by omega)
  rw [show 29 * s + 1 + k = 29 * s + (k + 1) by omega, e]
  unfold cw_wd
  rw [if_neg (by omega), if_neg (by omega), if_neg (by omega), if_neg (by omega), if_neg (by omega), Nat.add_sub_cancel]
theorem cw_Ws_torn {s w : Nat} {nu pr : Int32} {ro sl sl' : Nat → Int32} (h : cw_Ws s w nu pr ro sl sl') (hw : 0 < w) (hw2 : w < 29) (hn : sl (29 * s + 28) ≠ nu) : ¬ cw_vl sl' s := by
  intro v
  have e0 : sl' (29 * s) = nu := (h.2 0 hw).trans (by unfold cw_wd; rw [if_pos rfl])
  have e28 := h.1 (29 * s + 28) (Or.inr (by omega))
  exact hn (e28.symm.trans (v.2.1.symm.trans e0))
end
section
/-! the reference's own methods -/
def cw_S (sp : Nat → Int64) (c : Nat) : Int64 := if c < 288 then sp c else 0
theorem cw_S_t {sp : Nat → Int64} {c : Nat} (h : c < 288) : cw_S sp c = sp c := if_pos h
theorem cw_S_f {sp : Nat → Int64} {c : Nat} (h : 288 ≤ c) : cw_S sp c = 0 := if_neg (by omega)
theorem cw_small_t {post : Int32 → Prop} {j N : Nat} (hj : j < N) (hN : N < 2 ^ 31) (H : post 1) : wpX_small post (nI j) (nI N) := by
  unfold wpX_small
  refine br_f (nI_pos (by omega)) ?_
  unfold wX_small_9
  exact br_f (nI_ge hj hN) ⟨rfl, H⟩
theorem cw_small_f {post : Int32 → Prop} {x : Int32} {N : Nat} (hN : N < 2 ^ 31) (h : ¬ ∃ j, j < N ∧ x = nI j) (H : post 0) : wpX_small post x (nI N) := by
  unfold wpX_small
  rcases pk_ix x hN with z | z | z
  · refine br_t z ?_
    unfold wX_small_9
    exact br_c (fun _ => ⟨rfl, H⟩) (fun _ => ⟨rfl, H⟩)
  · have hx : ¬ x < 0 := fun y => absurd (Int32.lt_of_le_of_lt z y) (nI_pos (by omega))
    refine br_f hx ?_
    unfold wX_small_9
    exact br_t z ⟨rfl, H⟩
  · exact absurd z h
theorem cw_out_t {post : Int32 → Prop} {j N : Nat} (hj : j < N) (hN : N < 2 ^ 31) (H : post 0) : wpY_out post (nI j) (nI N) := by
  unfold wpY_out
  exact br_f (nI_pos (by omega)) (br_t (nI_lt hj hN) H)
theorem cw_out_f {post : Int32 → Prop} {x : Int32} {N : Nat} (hN : N < 2 ^ 31) (h : ¬ ∃ j, j < N ∧ x = nI j) (H : post 1) : wpY_out post x (nI N) := by
  unfold wpY_out
  refine br_c (fun _ => H) (fun hx => br_c (fun z => ?_) (fun _ => H))
  obtain ⟨j, hj, e⟩ := nI_of hx
  rw [e, nI_ltI hj hN] at z
  exact absurd ⟨j, z, e⟩ h
/-- cells d .. d + l - 1 taken from s .. -/
def cw_mv (d s l : Nat) (c : Nat) : Nat := if d ≤ c ∧ c < d + l then c - d + s else c
theorem cw_mv_i {d s l c : Nat} (h : d ≤ c) (h2 : c < d + l) : cw_mv d s l c = c - d + s := if_pos ⟨h, h2⟩
theorem cw_mv_o {d s l c : Nat} (h : c < d ∨ d + l ≤ c) : cw_mv d s l c = c := if_neg (by omega)
theorem cw_mv_s {α : Type} {f f' : Nat → α} {d s l : Nat} (hd : s + l < d ∨ d ≤ s) (h : ∀ c, f' c = f (cw_mv d s l c)) (x : α) (hx : x = f' (s + l)) (g : Nat → α) (hg : ∀ c, g c = if c = d + l then x else f' c) : ∀ c, g c = f (cw_mv d s (l + 1) c) := by
  intro c
  rw [hg c]
  by_cases e : c = d + l
  · rw [if_pos e, hx, h, cw_mv_o (by omega), cw_mv_i (by omega) (by omega), e]
    exact congrArg f (by omega)
  · rw [if_neg e, h c]
    by_cases y : d ≤ c ∧ c < d + l
    · rw [cw_mv_i y.1 y.2, cw_mv_i y.1 (by omega)]
    · rw [cw_mv_o (by omega), cw_mv_o (by omega)]
theorem cw_mv_0 {d s : Nat} (c : Nat) : cw_mv d s 0 c = c := cw_mv_o (by omega)
section
variable {nx bk : Int32} {st : Int64} {sp : Nat → Int64} {va hs th nm : Nat → Int32}
theorem cw_setPlace {post : SY → Prop} {t f : Nat} (ht : t < 288) (hf : f < 288) (H : post (nx, st, bk, vp_updL sp t (sp f), upd va t (va f), hs, th, nm)) : wpY_setPlace post (nx, st, bk, sp, va, hs, th, nm) (nI t) (nI f) := by
  have ct : (nI t).toNatClampNeg = t := nI_clamp (by omega)
  have cf : (nI f).toNatClampNeg = f := nI_clamp (by omega)
  have vt : vp_in (nI t) 288 := vp_in_nI ht (by decide)
  have vf : vp_in (nI f) 288 := vp_in_nI hf (by decide)
  unfold wpY_setPlace
  exact ⟨vf, vt, nm_r (e' := vp_updL sp t (sp f)) (by rw [ct, cf]) ⟨vf, vt, nm_r (e' := upd va t (va f)) (by rw [ct, cf]) H⟩⟩
theorem cw_yfilled {post : Int32 → Prop} {a l : Nat} (hl : a + l ≤ 288) (H : post (nI (cw_ct (fun p => sp (a + p) ≠ 0) l))) : wpY_filled post (nx, st, bk, sp, va, hs, th, nm) (nI a) (nI l) := by
  unfold wpY_filled
  refine ⟨l + 1, ?_⟩
  have key : ∀ d j q, j + d = l → d < q → wY_filled_5 post (nI a) (nI l) nx st bk sp va hs th nm q (nI (cw_ct (fun p => sp (a + p) ≠ 0) j)) (nI (a + j)) := by
    intro d
    induction d with
    | zero =>
      intro j q hj hq
      obtain ⟨q, rfl⟩ : ∃ s, q = s + 1 := ⟨q - 1, by omega⟩
      have ej : j = l := by omega
      subst ej
      exact br_t (by rw [nI_add]; exact nI_le (by omega) (by omega)) H
    | succ d ih =>
      intro j q hj hq
      obtain ⟨q, rfl⟩ : ∃ s, q = s + 1 := ⟨q - 1, by omega⟩
      refine br_f (by rw [nI_add]; exact nI_ge (by omega) (by omega)) ⟨vp_in_nI (by omega) (by decide), ?_⟩
      rw [nI_clamp (by omega)]
      have i := ih (j + 1) q (by omega) (by omega)
      rw [cw_ct_s] at i
      by_cases z : sp (a + j) = 0
      · rw [cw_b_f (fun y => y z), Nat.add_zero] at i
        exact br_t z (nm_r (Int32.add_zero _) (nm_r (nI_1 _) i))
      · rw [cw_b_t z] at i
        exact br_f z (nm_r (nI_1 _) (nm_r (nI_1 _) i))
  exact key l 0 (l + 1) (by omega) (by omega)
theorem cw_heldIn {post : Int32 → Prop} {s : Int64} {a b : Nat} (hab : a ≤ b) (hb : b ≤ 288) (H1 : (∃ c, a ≤ c ∧ c < b ∧ sp c = s) → post 1) (H0 : (∀ c, a ≤ c → c < b → sp c ≠ s) → post 0) : wpY_heldIn post (nx, st, bk, sp, va, hs, th, nm) s (nI a) (nI b) := by
  unfold wpY_heldIn
  refine ⟨b - a + 1, ?_⟩
  have key : ∀ d j q, j + d = b → d < q → a ≤ j → (∀ c, a ≤ c → c < j → sp c ≠ s) → wY_heldIn_3 post s (nI b) nx st bk sp va hs th nm q (nI j) := by
    intro d
    induction d with
    | zero =>
      intro j q hj hq ha h
      obtain ⟨q, rfl⟩ : ∃ s, q = s + 1 := ⟨q - 1, by omega⟩
      have ej : j = b := by omega
      subst ej
      exact br_t (nI_le (by omega) (by omega)) (H0 h)
    | succ d ih =>
      intro j q hj hq ha h
      obtain ⟨q, rfl⟩ : ∃ s, q = s + 1 := ⟨q - 1, by omega⟩
      refine br_f (nI_ge (by omega) (by omega)) ⟨vp_in_nI (by omega) (by decide), ?_⟩
      rw [nI_clamp (by omega)]
      by_cases z : sp j = s
      · exact br_t z (H1 ⟨j, ha, by omega, z⟩)
      · refine br_f z (nm_r (nI_1 _) (ih (j + 1) q (by omega) (by omega) (by omega) (fun c h1 h2 => ?_)))
        by_cases e : c = j
        · rw [e]; exact z
        · exact h c h1 (by omega)
  exact key (b - a) a (b - a + 1) (by omega) (by omega) (by omega) (fun c h1 h2 => by omega)
theorem cw_yinUse {post : Int32 → Prop} (H : post (nI (cw_ct (fun c => sp c ≠ 0 ∧ (∀ d, d < c → sp d ≠ sp c) ∧ True) 288))) : wpY_inUse post (nx, st, bk, sp, va, hs, th, nm) := by
  unfold wpY_inUse
  refine ⟨289, ?_⟩
  have key : ∀ d j q, j + d = 288 → d < q → wY_inUse_4 post nx st bk sp va hs th nm q (nI (cw_ct (fun c => sp c ≠ 0 ∧ (∀ d, d < c → sp d ≠ sp c) ∧ True) j)) (nI j) := by
    intro d
    induction d with
    | zero =>
      intro j q hj hq
      obtain ⟨q, rfl⟩ : ∃ s, q = s + 1 := ⟨q - 1, by omega⟩
      have ej : j = 288 := by omega
      subst ej
      exact br_t (nI_le (a := 288) (by omega) (by omega)) H
    | succ d ih =>
      intro j q hj hq
      obtain ⟨q, rfl⟩ : ∃ s, q = s + 1 := ⟨q - 1, by omega⟩
      have hv : vp_in (nI j) 288 := vp_in_nI (by omega) (by decide)
      refine br_f (nI_ge (b := 288) (by omega) (by omega)) ⟨hv, ?_⟩
      rw [nI_clamp (by omega)]
      have i := ih (j + 1) q (by omega) (by omega)
      rw [cw_ct_s] at i
      by_cases z : sp j = 0
      · rw [cw_b_f (fun y => y.1 z), Nat.add_zero] at i
        exact br_t z (nm_r (nI_1 _) i)
      · refine br_f z ⟨hv, cw_heldIn (a := 0) (b := j) (by omega) (by omega) (fun ⟨c, _, h1, h2⟩ => ?_) (fun h => ?_)⟩
        · rw [cw_b_f (fun y => y.2.1 c h1 h2), Nat.add_zero] at i
          exact br_f (by decide) (nm_r (nI_1 _) i)
        · rw [cw_b_t ⟨z, fun c hc => h c (by omega) hc, trivial⟩] at i
          exact br_t rfl (nm_r (nI_1 _) (nm_r (nI_1 _) i))
  exact key 288 0 289 (by omega) (by omega)
theorem cw_ycopyTree {post : SY → Prop} {v f t : Nat} (hv : v < 2) (hf : f < 3) (ht : t < 3)
    (H : ∀ sp' va', (∀ c, sp' c = sp (cw_mv (48 * v + 16 * t) (48 * v + 16 * f) 16 c)) → (∀ c, va' c = va (cw_mv (48 * v + 16 * t) (48 * v + 16 * f) 16 c)) → post (nx, st, bk, sp', va', hs, th, nm)) : wpY_copyTree post (nx, st, bk, sp, va, hs, th, nm) (nI v) (nI f) (nI t) := by
  unfold wpY_copyTree
  have e48 : (48 : Int32) * nI v = nI (48 * v) := by rw [show (48 : Int32) = nI 48 from rfl, pk_mul]
  refine nm_r e48 ⟨17, ?_⟩
  have ex : ∀ j q, nI (48 * v) + 16 * nI q + nI j = nI (48 * v + 16 * q + j) := fun j q => by
    rw [show (16 : Int32) = nI 16 from rfl, pk_mul, nI_add, nI_add]
  have key : ∀ d j q sp' va', j + d = 16 → d < q → (∀ c, sp' c = sp (cw_mv (48 * v + 16 * t) (48 * v + 16 * f) j c)) → (∀ c, va' c = va (cw_mv (48 * v + 16 * t) (48 * v + 16 * f) j c)) → wY_copyTree_9 post (nI f) (nI t) (nI (48 * v)) q (nI j) nx st bk sp' va' hs th nm := by
    intro d
    induction d with
    | zero =>
      intro j q sp' va' hj hq h1 h2
      obtain ⟨q, rfl⟩ : ∃ s, q = s + 1 := ⟨q - 1, by omega⟩
      have ej : j = 16 := by omega
      subst ej
      exact br_t (nI_le (a := 16) (by omega) (by omega)) (H sp' va' h1 h2)
    | succ d ih =>
      intro j q sp' va' hj hq h1 h2
      obtain ⟨q, rfl⟩ : ∃ s, q = s + 1 := ⟨q - 1, by omega⟩
      refine br_f (nI_ge (b := 16) (by omega) (by omega)) ?_
      rw [ex, ex]
      refine cw_setPlace (by omega) (by omega) (nm_r (nI_1 _) (ih (j + 1) q _ _ (by omega) (by omega) ?_ ?_))
      · exact cw_mv_s (by omega) h1 _ rfl _ (fun c => rfl)
      · exact cw_mv_s (by omega) h2 _ rfl _ (fun c => rfl)
  exact key 16 0 17 sp va (by omega) (by omega) (fun c => by rw [cw_mv_0]) (fun c => by rw [cw_mv_0])
/-- copies state f over state t -/
theorem cw_copyState {post : SY → Prop} {f t : Nat} (hf : f < 3) (ht : t < 3) (hn : f ≠ t) (hh : ∀ j, j < 18 → hs j = 0 ∨ hs j = 1) (ht2 : ∀ j, j < 3 → th j = 0 ∨ th j = 1)
    (H : ∀ sp' va' hs', (∀ c, sp' c = sp (cw_mv (96 * t) (96 * f) 96 c)) → (∀ c, va' c = va (cw_mv (96 * t) (96 * f) 96 c)) → (∀ c, hs' c = hs (cw_mv (6 * t) (6 * f) 6 c)) → post (nx, st, bk, sp', va', hs', upd th t (th f), upd nm t (nm f))) : wpY_copyState post (nx, st, bk, sp, va, hs, th, nm) (nI f) (nI t) := by
  unfold wpY_copyState
  refine ⟨97, ?_⟩
  have vf : vp_in (nI f) 3 := vp_in_nI hf (by decide)
  have vt : vp_in (nI t) 3 := vp_in_nI ht (by decide)
  have cf : (nI f).toNatClampNeg = f := nI_clamp (by omega)
  have ct : (nI t).toNatClampNeg = t := nI_clamp (by omega)
  have b01 : ∀ x : Int32, x = 0 ∨ x = 1 → vp_nar .boolean x = x := fun x hx => by
    rcases hx with rfl | rfl
    · exact cw_bl0
    · exact cw_bl1
  have e96 : ∀ q j, (96 : Int32) * nI q + nI j = nI (96 * q + j) := fun q j => by rw [show (96 : Int32) = nI 96 from rfl, pk_mul, nI_add]
  have e6 : ∀ q j, (6 : Int32) * nI q + nI j = nI (6 * q + j) := fun q j => by rw [show (6 : Int32) = nI 6 from rfl, pk_mul, nI_add]
  have key6 : ∀ sp' va', (∀ c, sp' c = sp (cw_mv (96 * t) (96 * f) 96 c)) → (∀ c, va' c = va (cw_mv (96 * t) (96 * f) 96 c)) → ∀ d j q hs', j + d = 6 → d < q → (∀ c, hs' c = hs (cw_mv (6 * t) (6 * f) j c)) → wY_copyState_60 post (nI f) (nI t) nx st bk q (nI j) sp' va' hs' th nm := by
    intro sp' va' g1 g2 d
    induction d with
    | zero =>
      intro j q hs' hj hq h1
      obtain ⟨q, rfl⟩ : ∃ s, q = s + 1 := ⟨q - 1, by omega⟩
      have ej : j = 6 := by omega
      subst ej
      exact br_t (nI_le (a := 6) (by omega) (by omega)) ⟨vf, vt, nm_r (e' := upd th t (th f)) (by rw [cf, ct, b01 _ (ht2 f hf)]) ⟨vf, vt, nm_r (e' := upd nm t (nm f)) (by rw [cf, ct]) (H sp' va' hs' g1 g2 h1)⟩⟩
    | succ d ih =>
      intro j q hs' hj hq h1
      obtain ⟨q, rfl⟩ : ∃ s, q = s + 1 := ⟨q - 1, by omega⟩
      refine br_f (nI_ge (b := 6) (by omega) (by omega)) ?_
      rw [e6, e6]
      have ef : hs' (6 * f + j) = hs (6 * f + j) := by rw [h1, cw_mv_o (by omega)]
      refine ⟨vp_in_nI (by omega) (by decide), vp_in_nI (by omega) (by decide), nm_r (e' := upd hs' (6 * t + j) (hs' (6 * f + j))) ?_ (nm_r (nI_1 _) (ih (j + 1) q _ (by omega) (by omega) ?_))⟩
      · rw [nI_clamp (by omega), nI_clamp (by omega), b01 _ (by rw [ef]; exact hh _ (by omega))]
      · exact cw_mv_s (by omega) h1 _ rfl _ (fun c => rfl)
  have key : ∀ d j q sp' va', j + d = 96 → d < q → (∀ c, sp' c = sp (cw_mv (96 * t) (96 * f) j c)) → (∀ c, va' c = va (cw_mv (96 * t) (96 * f) j c)) → wY_copyState_2 post (nI f) (nI t) nx st bk q (nI j) sp' va' hs th nm := by
    intro d
    induction d with
    | zero =>
      intro j q sp' va' hj hq h1 h2
      obtain ⟨q, rfl⟩ : ∃ s, q = s + 1 := ⟨q - 1, by omega⟩
      have ej : j = 96 := by omega
      subst ej
      exact br_t (nI_le (a := 96) (by omega) (by omega)) ⟨7, key6 sp' va' h1 h2 6 0 7 hs (by omega) (by omega) (fun c => by rw [cw_mv_0])⟩
    | succ d ih =>
      intro j q sp' va' hj hq h1 h2
      obtain ⟨q, rfl⟩ : ∃ s, q = s + 1 := ⟨q - 1, by omega⟩
      refine br_f (nI_ge (b := 96) (by omega) (by omega)) ?_
      rw [e96, e96]
      have c1 : (nI (96 * f + j)).toNatClampNeg = 96 * f + j := nI_clamp (by omega)
      have c2 : (nI (96 * t + j)).toNatClampNeg = 96 * t + j := nI_clamp (by omega)
      have v1 : vp_in (nI (96 * f + j)) 288 := vp_in_nI (by omega) (by decide)
      have v2 : vp_in (nI (96 * t + j)) 288 := vp_in_nI (by omega) (by decide)
      refine ⟨v1, v2, nm_r (e' := vp_updL sp' (96 * t + j) (sp' (96 * f + j))) (by rw [c1, c2]) ⟨v1, v2, nm_r (e' := upd va' (96 * t + j) (va' (96 * f + j))) (by rw [c1, c2]) (nm_r (nI_1 _) (ih (j + 1) q _ _ (by omega) (by omega) ?_ ?_))⟩⟩
      · exact cw_mv_s (by omega) h1 _ rfl _ (fun c => rfl)
      · exact cw_mv_s (by omega) h2 _ rfl _ (fun c => rfl)
  exact key 96 0 97 sp va (by omega) (by omega) (fun c => by rw [cw_mv_0]) (fun c => by rw [cw_mv_0])
theorem cw_clearState {post : SY → Prop} {s : Nat} (hs3 : s < 3)
    (H : ∀ sp' hs', (∀ c, sp' c = if 96 * s ≤ c ∧ c < 96 * s + 96 then 0 else sp c) → (∀ c, hs' c = if 6 * s ≤ c ∧ c < 6 * s + 6 then 0 else hs c) → post (nx, st, bk, sp', va, hs', upd th s 0, upd nm s 0)) : wpY_clearState post (nx, st, bk, sp, va, hs, th, nm) (nI s) := by
  unfold wpY_clearState
  have v3 : vp_in (nI s) 3 := vp_in_nI hs3 (by decide)
  have c3 : (nI s).toNatClampNeg = s := nI_clamp (by omega)
  have e96 : (96 : Int32) * nI s = nI (96 * s) := by rw [show (96 : Int32) = nI 96 from rfl, pk_mul]
  have e6 : (6 : Int32) * nI s = nI (6 * s) := by rw [show (6 : Int32) = nI 6 from rfl, pk_mul]
  have e96' : (96 : Int32) * nI s + 96 = nI (96 * s + 96) := by rw [e96, show (96 : Int32) = nI 96 from rfl, nI_add]
  have e6' : (6 : Int32) * nI s + 6 = nI (6 * s + 6) := by rw [e6, show (6 : Int32) = nI 6 from rfl, nI_add]
  have key6 : ∀ sp', (∀ c, sp' c = if 96 * s ≤ c ∧ c < 96 * s + 96 then 0 else sp c) → ∀ d j q hs', j + d = 6 → d < q → (∀ c, hs' c = if 6 * s ≤ c ∧ c < 6 * s + j then 0 else hs c) → wY_clearState_34 post (nI s) nx st bk q (nI (6 * s + j)) sp' va hs' th nm := by
    intro sp' g1 d
    induction d with
    | zero =>
      intro j q hs' hj hq h1
      obtain ⟨q, rfl⟩ : ∃ s, q = s + 1 := ⟨q - 1, by omega⟩
      have ej : j = 6 := by omega
      subst ej
      exact br_t (by rw [e6']; exact nI_le (by omega) (by omega)) ⟨v3, nm_r (e' := upd th s 0) (by rw [c3, cw_bl0]) ⟨v3, nm_r (e' := upd nm s 0) (by rw [c3]) (H sp' hs' g1 h1)⟩⟩
    | succ d ih =>
      intro j q hs' hj hq h1
      obtain ⟨q, rfl⟩ : ∃ s, q = s + 1 := ⟨q - 1, by omega⟩
      refine br_f (by rw [e6']; exact nI_ge (by omega) (by omega)) ⟨vp_in_nI (by omega) (by decide), nm_r (e' := upd hs' (6 * s + j) 0) (by rw [nI_clamp (by omega), cw_bl0]) (nm_r (nI_1 _) (ih (j + 1) q _ (by omega) (by omega) (fun c => ?_)))⟩
      by_cases z : c = 6 * s + j
      · rw [z, pk_us, if_pos (by omega)]
      · rw [pk_un z, h1 c]
        by_cases y : 6 * s ≤ c ∧ c < 6 * s + j
        · rw [if_pos y, if_pos (by omega)]
        · rw [if_neg y, if_neg (by omega)]
  have key : ∀ d j q sp', j + d = 96 → d < q → (∀ c, sp' c = if 96 * s ≤ c ∧ c < 96 * s + j then 0 else sp c) → wY_clearState_5 post (nI s) nx st bk q (nI (96 * s + j)) sp' va hs th nm := by
    intro d
    induction d with
    | zero =>
      intro j q sp' hj hq h1
      obtain ⟨q, rfl⟩ : ∃ s, q = s + 1 := ⟨q - 1, by omega⟩
      have ej : j = 96 := by omega
      subst ej
      exact br_t (by rw [e96']; exact nI_le (by omega) (by omega)) (nm_r e6 ⟨7, key6 sp' h1 6 0 7 hs (by omega) (by omega) (fun c => by rw [if_neg (by omega)])⟩)
    | succ d ih =>
      intro j q sp' hj hq h1
      obtain ⟨q, rfl⟩ : ∃ s, q = s + 1 := ⟨q - 1, by omega⟩
      refine br_f (by rw [e96']; exact nI_ge (by omega) (by omega)) ⟨vp_in_nI (by omega) (by decide), nm_r (e' := vp_updL sp' (96 * s + j) 0) (by rw [nI_clamp (by omega)]) (nm_r (nI_1 _) (ih (j + 1) q _ (by omega) (by omega) (fun c => ?_)))⟩
      by_cases z : c = 96 * s + j
      · rw [z, pk_uLs, if_pos (by omega)]
      · rw [pk_uLn z, h1 c]
        by_cases y : 96 * s ≤ c ∧ c < 96 * s + j
        · rw [if_pos y, if_pos (by omega)]
        · rw [if_neg y, if_neg (by omega)]
  exact nm_r e96 ⟨97, key 96 0 97 sp (by omega) (by omega) (fun c => by rw [if_neg (by omega)])⟩
end
end
section
/-! the relation -/
def cw_pb (x : Int32) (i : Nat) : Int32 := (x >>> (nI i &&& 31)) &&& 1
theorem cw_pb_01 (x : Int32) (i : Nat) : cw_pb x i = 0 ∨ cw_pb x i = 1 := by
  obtain ⟨j, hj, e⟩ := pk_andE (x >>> (nI i &&& 31)) (m := 1) 1 (by decide)
  unfold cw_pb
  rw [e]
  have : j = 0 ∨ j = 1 := by omega
  rcases this with rfl | rfl
  · exact Or.inl rfl
  · exact Or.inr rfl
def cw_Hs (hs : Nat → Int32) (o : Nat) (pw : Int32) : Prop := hs o = 1 ∧ hs (o + 3) = 1 ∧ ∀ v t, v < 2 → t = 1 ∨ t = 2 → hs (o + 3 * v + t) = cw_pb pw (2 * v + t - 1)
def cw_Ck (f : Int32) (s : Nat) (sl hs nm R : Nat → Int32) (e : Nat) : Prop :=
  (f = 1 ∧ cw_vl sl s ∧ nm e = sl (29 * s) ∧ cw_Hs hs (6 * e) (sl (29 * s + 25)) ∧ ∀ k, k < 24 → R (24 * e + k) = sl (29 * s + 1 + k)) ∨
  (f = 0 ∧ ¬ cw_vl sl s ∧ nm e = 0 ∧ (∀ j, j < 6 → hs (6 * e + j) = 0) ∧ ∀ k, k < 24 → R (24 * e + k) = -1)
def cw_Lm (L : Nat) (li bk : Int32) : Prop := li = nI L ∧ bk = nI L ∧ 4 ≤ L ∧ L ≤ 24
def cw_Tb (L : Nat) (R T dn : Nat → Int32) : Prop := (∀ q, q < 288 → cw_o L (T q)) ∧ (∀ q, q < 288 → cw_o L (dn q)) ∧ (∀ g, cw_o 72 (R g)) ∧ (∀ g, 72 ≤ g → R g = -1)
def cw_Cs (k a : Nat) (R sl hs th nm : Nat → Int32) : Prop :=
  a < 2 ∧ cw_Ck (th 1) a sl hs nm R 1 ∧ cw_Ck (th 2) (1 - a) sl hs nm R 2 ∧ (th 2 = 1 → th 1 = 1 ∧ sl (29 * (1 - a)) < sl (29 * a)) ∧ (th 1 = 1 → ∃ q, q + 1 ≤ k ∧ sl (29 * a) = nI q)
def cw_Sm (sp : Nat → Int64) (R T : Nat → Int32) : Prop := ∀ c d, cw_S sp c = cw_S sp d ↔ cw_B R T c = cw_B R T d
def cw_VD (R T va de : Nat → Int32) : Prop := ∀ c b, 96 ≤ c → b < 24 → cw_B R T c = nI b → va c = de b
def cw_VC (R T va : Nat → Int32) (ctn : Nat → Int32) : Prop := ∀ c b, b < 24 → cw_B R T c = nI b → va c = ctn b
def cw_St (k : Nat) (st : Int64) (sp : Nat → Int64) : Prop := ∃ s, s ≤ k ∧ st = lN s ∧ ∀ c, c < 288 → ∃ q, q ≤ s ∧ sp c = lN q
def cw_Nu (k : Nat) (nu nx : Int32) (sl : Nat → Int32) : Prop := nu = nx ∧ ∃ q, 1 ≤ q ∧ q ≤ k ∧ nu = nI q ∧ ∀ s, s < 2 → sl (29 * s + 28) < nI q
section
variable {li up pr iu ha nh nu : Int32} {ro no nr nd br lb lv ld de dn sl : Nat → Int32}
variable {nx bk : Int32} {st : Int64} {sp : Nat → Int64} {va hs th nm : Nat → Int32}
def cw_Up (k L : Nat) (R : Nat → Int32) (up pr iu ha nh nu : Int32) (ro no nr nd br lb lv ld de dn sl : Nat → Int32) (nx : Int32) (va hs th : Nat → Int32) : Prop :=
  up = 1 ∧ th 0 = 1 ∧ cw_Hs hs 0 pr ∧ cw_Iv L R iu ro no nr nd br dn ∧ (∃ h, h < L ∧ ha = nI h) ∧ (∃ h, h < 72 ∧ nh = nI h) ∧ cw_Ca lb lv ld de ∧ cw_VC R no va (cw_ctn lb lv de) ∧ cw_Nu k nu nx sl
def cw_Dn (R : Nat → Int32) (up : Int32) (hs th : Nat → Int32) : Prop := up = 0 ∧ th 0 = 0 ∧ (∀ j, j < 6 → hs j = 0) ∧ ∀ k, k < 24 → R k = -1
def cw_Rel (k : Nat) (li up pr iu ha nh nu : Int32) (ro no nr nd br lb lv ld de dn sl : Nat → Int32) (nx : Int32) (st : Int64) (bk : Int32) (sp : Nat → Int64) (va hs th nm : Nat → Int32) : Prop :=
  ∃ (L a : Nat) (R T : Nat → Int32), cw_Lm L li bk ∧ cw_Tb L R T dn ∧ cw_Cs k a R sl hs th nm ∧ cw_Sm sp R T ∧ cw_VD R T va de ∧ cw_St k st sp ∧
    ((T = no ∧ cw_Up k L R up pr iu ha nh nu ro no nr nd br lb lv ld de dn sl nx va hs th) ∨ (T = dn ∧ cw_Dn R up hs th))
end
def i_Rel (k : Nat) (u : SX) (v : SY) : Prop := match u, v with
  | (li, up, pr, iu, ha, nh, nu, ro, no, nr, nd, br, lb, lv, ld, de, dn, sl), (nx, st, bk, sp, va, hs, th, nm) => cw_Rel k li up pr iu ha nh nu ro no nr nd br lb lv ld de dn sl nx st bk sp va hs th nm
theorem cw_Cs_up {k k' a : Nat} {R sl hs th nm : Nat → Int32} (h : cw_Cs k a R sl hs th nm) (hk : k ≤ k') : cw_Cs k' a R sl hs th nm :=
  ⟨h.1, h.2.1, h.2.2.1, h.2.2.2.1, fun t => by obtain ⟨q, h1, h2⟩ := h.2.2.2.2 t; exact ⟨q, by omega, h2⟩⟩
theorem cw_St_up {k k' : Nat} {st : Int64} {sp : Nat → Int64} (h : cw_St k st sp) (hk : k ≤ k') : cw_St k' st sp := by
  obtain ⟨s, h1, h2, h3⟩ := h
  exact ⟨s, by omega, h2, h3⟩
theorem cw_Nu_up {k k' : Nat} {nu nx : Int32} {sl : Nat → Int32} (h : cw_Nu k nu nx sl) (hk : k ≤ k') : cw_Nu k' nu nx sl := by
  obtain ⟨e, q, h1, h2, h3⟩ := h
  exact ⟨e, q, h1, by omega, h3⟩
section
variable {li up pr iu ha nh nu : Int32} {ro no nr nd br lb lv ld de dn sl : Nat → Int32}
variable {nx bk : Int32} {st : Int64} {sp : Nat → Int64} {va hs th nm : Nat → Int32}
theorem cw_up {k k' : Nat} (hk : k ≤ k') (h : cw_Rel k li up pr iu ha nh nu ro no nr nd br lb lv ld de dn sl nx st bk sp va hs th nm) : cw_Rel k' li up pr iu ha nh nu ro no nr nd br lb lv ld de dn sl nx st bk sp va hs th nm := by
  obtain ⟨L, a, R, T, h1, h2, h3, h4, h5, h6, h7⟩ := h
  refine ⟨L, a, R, T, h1, h2, cw_Cs_up h3 hk, h4, h5, cw_St_up h6 hk, ?_⟩
  rcases h7 with ⟨e, u1, u2, u3, u4, u5, u6, u7, u8, u9⟩ | h7
  · exact Or.inl ⟨e, u1, u2, u3, u4, u5, u6, u7, u8, cw_Nu_up u9 hk⟩
  · exact Or.inr h7
end
theorem i_up {k : Nat} {u : SX} {v : SY} (h : i_Rel k u v) : i_Rel (k + 5) u v :=
  match u, v, h with
  | (li, up, pr, iu, ha, nh, nu, ro, no, nr, nd, br, lb, lv, ld, de, dn, sl), (nx, st, bk, sp, va, hs, th, nm), h => cw_up (Nat.le_add_right k 5) h
/-! pure laws -/
theorem cw_Sm_re {sp sp' : Nat → Int64} {R T R' T' : Nat → Int32} (φ : Nat → Nat) (h : cw_Sm sp R T) (hS : ∀ c, cw_S sp' c = cw_S sp (φ c)) (hB : ∀ c, cw_B R' T' c = cw_B R T (φ c)) : cw_Sm sp' R' T' := fun c d => by
  rw [hS, hS, hB, hB]; exact h _ _
theorem cw_Sm_0 {sp : Nat → Int64} {R T : Nat → Int32} (h : cw_Sm sp R T) (h72 : ∀ g, 72 ≤ g → R g = -1) (c : Nat) : cw_S sp c = 0 ↔ cw_B R T c = -1 := by
  have e := h c 288
  rw [cw_S_f (c := 288) (by omega), cw_B_m (c := 288) (h72 _ (by omega))] at e
  exact e
theorem cw_use {sp : Nat → Int64} {R T : Nat → Int32} {M : Nat} (h : cw_Sm sp R T) (h72 : ∀ g, 72 ≤ g → R g = -1) (hM : M ≤ 2 ^ 31) (hB : ∀ c, c < 288 → cw_o M (cw_B R T c)) :
    cw_ct (fun c => sp c ≠ 0 ∧ (∀ d, d < c → sp d ≠ sp c) ∧ True) 288 = cw_ct (fun b => ∃ c, c < 288 ∧ cw_B R T c = nI b) M := by
  have e := cw_dist (cw_B R T) (fun _ => True) M hM 288 hB
  have e2 : cw_ct (fun b => (∃ c, c < 288 ∧ cw_B R T c = nI b) ∧ True) M = cw_ct (fun b => ∃ c, c < 288 ∧ cw_B R T c = nI b) M := cw_ct_eq fun b _ => ⟨fun z => z.1, fun z => ⟨z, trivial⟩⟩
  rw [← e2, ← e]
  apply cw_ct_eq
  intro c hc
  have z := cw_Sm_0 h h72 c
  rw [cw_S_t hc] at z
  have q : ∀ d, d < c → (sp d = sp c ↔ cw_B R T d = cw_B R T c) := fun d hd => by
    have y := h d c
    rw [cw_S_t hc, cw_S_t (by omega)] at y
    exact y
  exact ⟨fun ⟨a, b, _⟩ => ⟨fun y => a (z.mpr y), fun d hd y => b d hd ((q d hd).mpr y), trivial⟩, fun ⟨a, b, _⟩ => ⟨fun y => a (z.mp y), fun d hd y => b d hd ((q d hd).mp y), trivial⟩⟩
theorem cw_bw_iff {R no : Nat → Int32} {b : Nat} (hR : ∀ g, cw_o 72 (R g)) (h72 : ∀ g, 72 ≤ g → R g = -1) (hb : b < 24) : cw_bw (cw_cn R) no b ≠ 0 ↔ ∃ c, c < 288 ∧ cw_B R no c = nI b := by
  constructor
  · intro h
    obtain ⟨k, hk, z, e⟩ := cw_ct_ex h
    obtain ⟨g, hg, y⟩ := cw_cn_R h72 (by omega) z
    refine ⟨4 * g + k % 4, by omega, ?_⟩
    rw [cw_B_np y (by omega) (by omega), show 4 * (k / 4) + k % 4 = k by omega]
    exact e
  · intro ⟨c, hc, e⟩
    rcases hR (c / 4) with y | ⟨n, hn, y⟩
    · rw [cw_B_m y] at e; exact absurd e (cw_m1 (by omega))
    · rw [cw_B_n y hn] at e
      refine cw_ct_pos (k := 4 * n + c % 4) (by omega) ⟨?_, e⟩
      rw [show (4 * n + c % 4) / 4 = n by omega]
      exact cw_cn_at (g := c / 4) (by omega) y
theorem cw_iu {L : Nat} {R : Nat → Int32} {iu : Int32} {ro no nr nd br dn : Nat → Int32} (h : cw_Iv L R iu ro no nr nd br dn) : iu = nI (cw_ct (fun b => ∃ c, c < 288 ∧ cw_B R no c = nI b) 24) := by
  obtain ⟨h1, h2, h3, h4, h5, h6, h7⟩ := h
  rw [h5.2.1.2]
  exact congrArg nI (cw_ct_eq fun b hb => cw_bw_iff h1 h2 hb)
/-- in use, on both sides -/
theorem cw_iu2 {L : Nat} {R : Nat → Int32} {iu : Int32} {ro no nr nd br dn : Nat → Int32} {sp : Nat → Int64} (h : cw_Iv L R iu ro no nr nd br dn) (hL : L ≤ 24) (hS : cw_Sm sp R no) :
    nI (cw_ct (fun c => sp c ≠ 0 ∧ (∀ d, d < c → sp d ≠ sp c) ∧ True) 288) = iu := by
  rw [cw_iu h, cw_use hS h.2.1 (M := 24) (by omega) (fun c _ => cw_o_up (cw_B_o h.1 h.2.2.2.1 c) hL)]
theorem cw_use_le {L : Nat} {R T : Nat → Int32} (hL : L ≤ 24) (hB : ∀ c, cw_o L (cw_B R T c)) : cw_ct (fun b => ∃ c, c < 288 ∧ cw_B R T c = nI b) 24 ≤ L := by
  obtain ⟨r, hr⟩ : ∃ r, 24 = L + r := ⟨24 - L, by omega⟩
  rw [hr, cw_ct_add]
  have a := cw_ct_le (fun b => ∃ c, c < 288 ∧ cw_B R T c = nI b) L
  have b : cw_ct (fun i => ∃ c, c < 288 ∧ cw_B R T c = nI (L + i)) r = 0 := cw_ct_0.mpr fun k hk ⟨c, hc, e⟩ => by
    rcases hB c with y | ⟨n, hn, y⟩
    · rw [y] at e; exact cw_m1 (by omega) e
    · rw [y, nI_eq (by omega) (by omega)] at e
      omega
  omega
theorem cw_mv4 (d s l c : Nat) : 4 * cw_mv d s l (c / 4) + c % 4 = cw_mv (4 * d) (4 * s) (4 * l) c := by
  by_cases h : d ≤ c / 4 ∧ c / 4 < d + l
  · rw [cw_mv_i h.1 h.2, cw_mv_i (by omega) (by omega)]; omega
  · rw [cw_mv_o (by omega), cw_mv_o (by omega)]; omega
theorem cw_St_re {k : Nat} {st : Int64} {sp sp' : Nat → Int64} {φ : Nat → Nat} (h : cw_St k st sp) (hS : ∀ c, c < 288 → sp' c = cw_S sp (φ c)) : cw_St k st sp' := by
  obtain ⟨s, h1, h2, h3⟩ := h
  refine ⟨s, h1, h2, fun c hc => ?_⟩
  rw [hS c hc]
  rcases Nat.lt_or_ge (φ c) 288 with z | z
  · rw [cw_S_t z]; exact h3 _ z
  · rw [cw_S_f z]; exact ⟨0, by omega, rfl⟩
theorem cw_Ck_c {f : Int32} {s e : Nat} {sl sl' hs hs' nm nm' R R' : Nat → Int32} (h : cw_Ck f s sl hs nm R e) (h1 : ∀ j, j < 29 → sl' (29 * s + j) = sl (29 * s + j)) (h2 : ∀ j, j < 6 → hs' (6 * e + j) = hs (6 * e + j)) (h3 : nm' e = nm e) (h4 : ∀ k, k < 24 → R' (24 * e + k) = R (24 * e + k)) : cw_Ck f s sl' hs' nm' R' e := by
  have z := h1 0 (by omega)
  rw [Nat.add_zero] at z
  rcases h with ⟨a1, a2, a3, a4, a5⟩ | ⟨a1, a2, a3, a4, a5⟩
  · refine Or.inl ⟨a1, (cw_vl_c h1).mpr a2, by rw [h3, a3, z], ⟨?_, ?_, fun v t hv ht => ?_⟩, fun k hk => ?_⟩
    · have y := h2 0 (by omega)
      rw [Nat.add_zero] at y
      rw [y]; exact a4.1
    · rw [h2 3 (by omega)]; exact a4.2.1
    · rw [h1 25 (by omega), Nat.add_assoc, h2 _ (by omega), ← Nat.add_assoc]; exact a4.2.2 v t hv ht
    · rw [h4 k hk, a5 k hk, Nat.add_assoc, h1 _ (by omega)]
  · exact Or.inr ⟨a1, fun y => a2 ((cw_vl_c h1).mp y), by rw [h3, a3], fun j hj => by rw [h2 j hj]; exact a4 j hj, fun k hk => by rw [h4 k hk]; exact a5 k hk⟩
section
variable {li up pr iu ha nh nu : Int32} {ro no nr nd br lb lv ld de dn sl : Nat → Int32}
variable {nx bk : Int32} {st : Int64} {sp : Nat → Int64} {va hs th nm : Nat → Int32}
/-- a call that moves cells of the live state about -/
theorem cw_Rel_gen {k L a : Nat} {R R' : Nat → Int32} {iu' nh' pr' : Int32} {ro' no' nr' nd' br' : Nat → Int32} {sp' : Nat → Int64} {va' hs' : Nat → Int32} (φ : Nat → Nat)
    (h1 : cw_Lm L li bk) (h2 : cw_Tb L R no dn) (h3 : cw_Cs k a R sl hs th nm) (h4 : cw_Sm sp R no) (h5 : cw_VD R no va de) (h6 : cw_St k st sp)
    (h7 : cw_Up k L R up pr iu ha nh nu ro no nr nd br lb lv ld de dn sl nx va hs th)
    (g1 : ∀ c, cw_B R' no' c = cw_B R no (φ c)) (g2 : ∀ c, 96 ≤ c → φ c = c) (g3 : ∀ c, c < 288 → sp' c = cw_S sp (φ c)) (g4 : ∀ c, c < 288 → φ c < 288 → va' c = va (φ c))
    (g5 : ∀ g, 24 ≤ g → R' g = R g) (g6 : cw_Iv L R' iu' ro' no' nr' nd' br' dn) (g7 : ∃ h, h < 72 ∧ nh' = nI h) (g8 : cw_Hs hs' 0 pr') (g9 : ∀ j, 6 ≤ j → hs' j = hs j) :
    cw_Rel (k + 5) li up pr' iu' ha nh' nu ro' no' nr' nd' br' lb lv ld de dn sl nx st bk sp' va' hs' th nm := by
  obtain ⟨u1, u2, u3, u4, u5, u6, u7, u8, u9⟩ := h7
  have hS : ∀ c, cw_S sp' c = cw_S sp (φ c) := fun c => by
    rcases Nat.lt_or_ge c 288 with z | z
    · rw [cw_S_t z, g3 c z]
    · rw [g2 c (by omega), cw_S_f z, cw_S_f z]
  have big : ∀ c b, b < 24 → cw_B R no c = nI b → c < 288 := fun c b hb e => by
    rcases Nat.lt_or_ge c 288 with z | z
    · exact z
    · rw [cw_B_m (h2.2.2.2 _ (by omega))] at e; exact absurd e (cw_m1 (by omega))
  refine ⟨L, a, R', no', h1, ⟨g6.2.2.2.1, h2.2.1, g6.1, g6.2.1⟩, ?_, cw_Sm_re φ h4 hS g1, ?_, cw_St_up (cw_St_re h6 g3) (by omega), Or.inl ⟨rfl, u1, u2, g8, g6, u5, g7, u7, ?_, cw_Nu_up u9 (by omega)⟩⟩
  · obtain ⟨c1, c2, c3, c4, c5⟩ := cw_Cs_up h3 (Nat.le_add_right k 5)
    exact ⟨c1, cw_Ck_c c2 (fun _ _ => rfl) (fun j _ => g9 _ (by omega)) rfl (fun k _ => g5 _ (by omega)), cw_Ck_c c3 (fun _ _ => rfl) (fun j _ => g9 _ (by omega)) rfl (fun k _ => g5 _ (by omega)), c4, c5⟩
  · intro c b hc hb e
    rw [g1, g2 c hc] at e
    have z := big c b hb e
    rw [g4 c z (by rw [g2 c hc]; exact z), g2 c hc]
    exact h5 c b hc hb e
  · intro c b hb e
    rw [g1] at e
    have z := big _ b hb e
    have y : c < 288 := by
      rcases Nat.lt_or_ge c 288 with y | y
      · exact y
      · rw [g2 c (by omega)] at z; exact z
    rw [g4 c y z]
    exact u8 _ b hb e
end
end
section
theorem cw_12 {x : Int32} (a : ¬ x < 1) (b : ¬ 2 < x) : x = nI 1 ∨ x = nI 2 := by
  have e1 : (1 : Int32).toInt = 1 := by decide
  have e2 : (2 : Int32).toInt = 2 := by decide
  rw [Int32.lt_iff_toInt_lt, e1] at a
  rw [Int32.lt_iff_toInt_lt, e2] at b
  have h : x.toInt = 1 ∨ x.toInt = 2 := by omega
  rcases h with h | h
  · exact Or.inl (Int32.toInt_inj.mp (h.trans (nI_toInt (n := 1) (by decide)).symm))
  · exact Or.inr (Int32.toInt_inj.mp (h.trans (nI_toInt (n := 2) (by decide)).symm))
theorem cw_12' {x : Int32} (a : ¬ x = 0) (b : ∃ j, j < 3 ∧ x = nI j) : x = nI 1 ∨ x = nI 2 := by
  obtain ⟨j, hj, e⟩ := b
  have h : j = 0 ∨ j = 1 ∨ j = 2 := by omega
  rcases h with rfl | rfl | rfl
  · exact absurd e a
  · exact Or.inl e
  · exact Or.inr e
/-! refusals -/
section
variable {li up pr iu ha nh nu : Int32} {ro no nr nd br lb lv ld de dn sl : Nat → Int32}
variable {nx bk : Int32} {st : Int64} {sp : Nat → Int64} {va hs th nm : Nat → Int32}
theorem cw_xno_write {post : Int32 → SX → Prop} {x1 x2 x3 x4 : Int32} (h : ¬ ((∃ j, j < 2 ∧ x1 = nI j) ∧ (∃ j, j < 4 ∧ x2 = nI j) ∧ (∃ j, j < 4 ∧ x3 = nI j) ∧ up ≠ 0)) (H : post (-1) (li, up, pr, iu, ha, nh, nu, ro, no, nr, nd, br, lb, lv, ld, de, dn, sl)) : wpX_write post (li, up, pr, iu, ha, nh, nu, ro, no, nr, nd, br, lb, lv, ld, de, dn, sl) x1 x2 x3 x4 := by
  unfold wpX_write
  by_cases g1 : ∃ j, j < 2 ∧ x1 = nI j
  case neg => exact cw_small_f (by decide) g1 (br_t rfl H)
  obtain ⟨j1, hj1, rfl⟩ := g1
  refine cw_small_t hj1 (by decide) (br_f (by decide) ?_)
  by_cases g2 : ∃ j, j < 4 ∧ x2 = nI j
  case neg => exact cw_small_f (by decide) g2 (br_t rfl H)
  obtain ⟨j2, hj2, rfl⟩ := g2
  refine cw_small_t hj2 (by decide) (br_f (by decide) ?_)
  by_cases g3 : ∃ j, j < 4 ∧ x3 = nI j
  case neg => exact cw_small_f (by decide) g3 (br_t rfl H)
  obtain ⟨j3, hj3, rfl⟩ := g3
  refine cw_small_t hj3 (by decide) (br_f (by decide) ?_)
  exact br_t (Classical.byContradiction fun z => h ⟨⟨j1, hj1, rfl⟩, ⟨j2, hj2, rfl⟩, ⟨j3, hj3, rfl⟩, z⟩) H
theorem cw_yno_write {post : Int32 → SY → Prop} {x1 x2 x3 x4 : Int32} (h : ¬ ((∃ j, j < 2 ∧ x1 = nI j) ∧ (∃ j, j < 4 ∧ x2 = nI j) ∧ (∃ j, j < 4 ∧ x3 = nI j) ∧ th 0 ≠ 0)) (H : post (-1) (nx, st, bk, sp, va, hs, th, nm)) : wpY_write post (nx, st, bk, sp, va, hs, th, nm) x1 x2 x3 x4 := by
  unfold wpY_write
  by_cases g1 : ∃ j, j < 2 ∧ x1 = nI j
  case neg => exact cw_out_f (by decide) g1 (br_f (by decide) H)
  obtain ⟨j1, hj1, rfl⟩ := g1
  refine cw_out_t hj1 (by decide) (br_t rfl ?_)
  by_cases g2 : ∃ j, j < 4 ∧ x2 = nI j
  case neg => exact cw_out_f (by decide) g2 (br_f (by decide) H)
  obtain ⟨j2, hj2, rfl⟩ := g2
  refine cw_out_t hj2 (by decide) (br_t rfl ?_)
  by_cases g3 : ∃ j, j < 4 ∧ x3 = nI j
  case neg => exact cw_out_f (by decide) g3 (br_f (by decide) H)
  obtain ⟨j3, hj3, rfl⟩ := g3
  refine cw_out_t hj3 (by decide) (br_t rfl ?_)
  exact br_t (Classical.byContradiction fun z => h ⟨⟨j1, hj1, rfl⟩, ⟨j2, hj2, rfl⟩, ⟨j3, hj3, rfl⟩, z⟩) H
theorem cw_xno_cut {post : Int32 → SX → Prop} {x1 x2 x3 : Int32} (h : ¬ ((∃ j, j < 2 ∧ x1 = nI j) ∧ (∃ j, j < 4 ∧ x2 = nI j) ∧ (∃ j, j < 5 ∧ x3 = nI j) ∧ up ≠ 0)) (H : post (-1) (li, up, pr, iu, ha, nh, nu, ro, no, nr, nd, br, lb, lv, ld, de, dn, sl)) : wpX_cut post (li, up, pr, iu, ha, nh, nu, ro, no, nr, nd, br, lb, lv, ld, de, dn, sl) x1 x2 x3 := by
  unfold wpX_cut
  by_cases g1 : ∃ j, j < 2 ∧ x1 = nI j
  case neg => exact cw_small_f (by decide) g1 (br_t rfl H)
  obtain ⟨j1, hj1, rfl⟩ := g1
  refine cw_small_t hj1 (by decide) (br_f (by decide) ?_)
  by_cases g2 : ∃ j, j < 4 ∧ x2 = nI j
  case neg => exact cw_small_f (by decide) g2 (br_t rfl H)
  obtain ⟨j2, hj2, rfl⟩ := g2
  refine cw_small_t hj2 (by decide) (br_f (by decide) ?_)
  by_cases g3 : ∃ j, j < 5 ∧ x3 = nI j
  case neg => exact cw_small_f (by decide) g3 (br_t rfl H)
  obtain ⟨j3, hj3, rfl⟩ := g3
  refine cw_small_t hj3 (by decide) (br_f (by decide) ?_)
  exact br_t (Classical.byContradiction fun z => h ⟨⟨j1, hj1, rfl⟩, ⟨j2, hj2, rfl⟩, ⟨j3, hj3, rfl⟩, z⟩) H
theorem cw_yno_cut {post : Int32 → SY → Prop} {x1 x2 x3 : Int32} (h : ¬ ((∃ j, j < 2 ∧ x1 = nI j) ∧ (∃ j, j < 4 ∧ x2 = nI j) ∧ (∃ j, j < 5 ∧ x3 = nI j) ∧ th 0 ≠ 0)) (H : post (-1) (nx, st, bk, sp, va, hs, th, nm)) : wpY_cut post (nx, st, bk, sp, va, hs, th, nm) x1 x2 x3 := by
  unfold wpY_cut
  by_cases g1 : ∃ j, j < 2 ∧ x1 = nI j
  case neg => exact cw_out_f (by decide) g1 (br_f (by decide) H)
  obtain ⟨j1, hj1, rfl⟩ := g1
  refine cw_out_t hj1 (by decide) (br_t rfl ?_)
  by_cases g2 : ∃ j, j < 4 ∧ x2 = nI j
  case neg => exact cw_out_f (by decide) g2 (br_f (by decide) H)
  obtain ⟨j2, hj2, rfl⟩ := g2
  refine cw_out_t hj2 (by decide) (br_t rfl ?_)
  by_cases g3 : ∃ j, j < 5 ∧ x3 = nI j
  case neg => exact cw_out_f (by decide) g3 (br_f (by decide) H)
  obtain ⟨j3, hj3, rfl⟩ := g3
  refine cw_out_t hj3 (by decide) (br_t rfl ?_)
  exact br_t (Classical.byContradiction fun z => h ⟨⟨j1, hj1, rfl⟩, ⟨j2, hj2, rfl⟩, ⟨j3, hj3, rfl⟩, z⟩) H
theorem cw_xno_copy {post : Int32 → SX → Prop} {x1 x2 x3 : Int32} (h : ¬ ((∃ j, j < 2 ∧ x1 = nI j) ∧ (∃ j, j < 4 ∧ x2 = nI j) ∧ (∃ j, j < 4 ∧ x3 = nI j) ∧ up ≠ 0)) (H : post (-1) (li, up, pr, iu, ha, nh, nu, ro, no, nr, nd, br, lb, lv, ld, de, dn, sl)) : wpX_copy post (li, up, pr, iu, ha, nh, nu, ro, no, nr, nd, br, lb, lv, ld, de, dn, sl) x1 x2 x3 := by
  unfold wpX_copy
  by_cases g1 : ∃ j, j < 2 ∧ x1 = nI j
  case neg => exact cw_small_f (by decide) g1 (br_t rfl H)
  obtain ⟨j1, hj1, rfl⟩ := g1
  refine cw_small_t hj1 (by decide) (br_f (by decide) ?_)
  by_cases g2 : ∃ j, j < 4 ∧ x2 = nI j
  case neg => exact cw_small_f (by decide) g2 (br_t rfl H)
  obtain ⟨j2, hj2, rfl⟩ := g2
  refine cw_small_t hj2 (by decide) (br_f (by decide) ?_)
  by_cases g3 : ∃ j, j < 4 ∧ x3 = nI j
  case neg => exact cw_small_f (by decide) g3 (br_t rfl H)
  obtain ⟨j3, hj3, rfl⟩ := g3
  refine cw_small_t hj3 (by decide) (br_f (by decide) ?_)
  exact br_t (Classical.byContradiction fun z => h ⟨⟨j1, hj1, rfl⟩, ⟨j2, hj2, rfl⟩, ⟨j3, hj3, rfl⟩, z⟩) H
theorem cw_yno_copy {post : Int32 → SY → Prop} {x1 x2 x3 : Int32} (h : ¬ ((∃ j, j < 2 ∧ x1 = nI j) ∧ (∃ j, j < 4 ∧ x2 = nI j) ∧ (∃ j, j < 4 ∧ x3 = nI j) ∧ th 0 ≠ 0)) (H : post (-1) (nx, st, bk, sp, va, hs, th, nm)) : wpY_copy post (nx, st, bk, sp, va, hs, th, nm) x1 x2 x3 := by
  unfold wpY_copy
  by_cases g1 : ∃ j, j < 2 ∧ x1 = nI j
  case neg => exact cw_out_f (by decide) g1 (br_f (by decide) H)
  obtain ⟨j1, hj1, rfl⟩ := g1
  refine cw_out_t hj1 (by decide) (br_t rfl ?_)
  by_cases g2 : ∃ j, j < 4 ∧ x2 = nI j
  case neg => exact cw_out_f (by decide) g2 (br_f (by decide) H)
  obtain ⟨j2, hj2, rfl⟩ := g2
  refine cw_out_t hj2 (by decide) (br_t rfl ?_)
  by_cases g3 : ∃ j, j < 4 ∧ x3 = nI j
  case neg => exact cw_out_f (by decide) g3 (br_f (by decide) H)
  obtain ⟨j3, hj3, rfl⟩ := g3
  refine cw_out_t hj3 (by decide) (br_t rfl ?_)
  exact br_t (Classical.byContradiction fun z => h ⟨⟨j1, hj1, rfl⟩, ⟨j2, hj2, rfl⟩, ⟨j3, hj3, rfl⟩, z⟩) H
theorem cw_xno_swap {post : Int32 → SX → Prop} {x1 x2 x3 : Int32} (h : ¬ ((∃ j, j < 2 ∧ x1 = nI j) ∧ (∃ j, j < 4 ∧ x2 = nI j) ∧ (∃ j, j < 4 ∧ x3 = nI j) ∧ up ≠ 0)) (H : post (-1) (li, up, pr, iu, ha, nh, nu, ro, no, nr, nd, br, lb, lv, ld, de, dn, sl)) : wpX_swap post (li, up, pr, iu, ha, nh, nu, ro, no, nr, nd, br, lb, lv, ld, de, dn, sl) x1 x2 x3 := by
  unfold wpX_swap
  by_cases g1 : ∃ j, j < 2 ∧ x1 = nI j
  case neg => exact cw_small_f (by decide) g1 (br_t rfl H)
  obtain ⟨j1, hj1, rfl⟩ := g1
  refine cw_small_t hj1 (by decide) (br_f (by decide) ?_)
  by_cases g2 : ∃ j, j < 4 ∧ x2 = nI j
  case neg => exact cw_small_f (by decide) g2 (br_t rfl H)
  obtain ⟨j2, hj2, rfl⟩ := g2
  refine cw_small_t hj2 (by decide) (br_f (by decide) ?_)
  by_cases g3 : ∃ j, j < 4 ∧ x3 = nI j
  case neg => exact cw_small_f (by decide) g3 (br_t rfl H)
  obtain ⟨j3, hj3, rfl⟩ := g3
  refine cw_small_t hj3 (by decide) (br_f (by decide) ?_)
  exact br_t (Classical.byContradiction fun z => h ⟨⟨j1, hj1, rfl⟩, ⟨j2, hj2, rfl⟩, ⟨j3, hj3, rfl⟩, z⟩) H
theorem cw_yno_swap {post : Int32 → SY → Prop} {x1 x2 x3 : Int32} (h : ¬ ((∃ j, j < 2 ∧ x1 = nI j) ∧ (∃ j, j < 4 ∧ x2 = nI j) ∧ (∃ j, j < 4 ∧ x3 = nI j) ∧ th 0 ≠ 0)) (H : post (-1) (nx, st, bk, sp, va, hs, th, nm)) : wpY_swap post (nx, st, bk, sp, va, hs, th, nm) x1 x2 x3 := by
  unfold wpY_swap
  by_cases g1 : ∃ j, j < 2 ∧ x1 = nI j
  case neg => exact cw_out_f (by decide) g1 (br_f (by decide) H)
  obtain ⟨j1, hj1, rfl⟩ := g1
  refine cw_out_t hj1 (by decide) (br_t rfl ?_)
  by_cases g2 : ∃ j, j < 4 ∧ x2 = nI j
  case neg => exact cw_out_f (by decide) g2 (br_f (by decide) H)
  obtain ⟨j2, hj2, rfl⟩ := g2
  refine cw_out_t hj2 (by decide) (br_t rfl ?_)
  by_cases g3 : ∃ j, j < 4 ∧ x3 = nI j
  case neg => exact cw_out_f (by decide) g3 (br_f (by decide) H)
  obtain ⟨j3, hj3, rfl⟩ := g3
  refine cw_out_t hj3 (by decide) (br_t rfl ?_)
  exact br_t (Classical.byContradiction fun z => h ⟨⟨j1, hj1, rfl⟩, ⟨j2, hj2, rfl⟩, ⟨j3, hj3, rfl⟩, z⟩) H
theorem cw_xno_move {post : Int32 → SX → Prop} {x1 x2 : Int32} (h : ¬ ((∃ j, j < 2 ∧ x1 = nI j) ∧ (∃ j, j < 4 ∧ x2 = nI j) ∧ up ≠ 0)) (H : post (-1) (li, up, pr, iu, ha, nh, nu, ro, no, nr, nd, br, lb, lv, ld, de, dn, sl)) : wpX_move post (li, up, pr, iu, ha, nh, nu, ro, no, nr, nd, br, lb, lv, ld, de, dn, sl) x1 x2 := by
  unfold wpX_move
  by_cases g1 : ∃ j, j < 2 ∧ x1 = nI j
  case neg => exact cw_small_f (by decide) g1 (br_t rfl H)
  obtain ⟨j1, hj1, rfl⟩ := g1
  refine cw_small_t hj1 (by decide) (br_f (by decide) ?_)
  by_cases g2 : ∃ j, j < 4 ∧ x2 = nI j
  case neg => exact cw_small_f (by decide) g2 (br_t rfl H)
  obtain ⟨j2, hj2, rfl⟩ := g2
  refine cw_small_t hj2 (by decide) (br_f (by decide) ?_)
  exact br_t (Classical.byContradiction fun z => h ⟨⟨j1, hj1, rfl⟩, ⟨j2, hj2, rfl⟩, z⟩) H
theorem cw_yno_move {post : Int32 → SY → Prop} {x1 x2 : Int32} (h : ¬ ((∃ j, j < 2 ∧ x1 = nI j) ∧ (∃ j, j < 4 ∧ x2 = nI j) ∧ th 0 ≠ 0)) (H : post (-1) (nx, st, bk, sp, va, hs, th, nm)) : wpY_move post (nx, st, bk, sp, va, hs, th, nm) x1 x2 := by
  unfold wpY_move
  by_cases g1 : ∃ j, j < 2 ∧ x1 = nI j
  case neg => exact cw_out_f (by decide) g1 (br_f (by decide) H)
  obtain ⟨j1, hj1, rfl⟩ := g1
  refine cw_out_t hj1 (by decide) (br_t rfl ?_)
  by_cases g2 : ∃ j, j < 4 ∧ x2 = nI j
  case neg => exact cw_out_f (by decide) g2 (br_f (by decide) H)
  obtain ⟨j2, hj2, rfl⟩ := g2
  refine cw_out_t hj2 (by decide) (br_t rfl ?_)
  exact br_t (Classical.byContradiction fun z => h ⟨⟨j1, hj1, rfl⟩, ⟨j2, hj2, rfl⟩, z⟩) H
theorem cw_xno_read {post : Int64 → SX → Prop} {x1 x2 x3 x4 : Int32} (h : ¬ ((∃ j, j < 2 ∧ x1 = nI j) ∧ (∃ j, j < 3 ∧ x2 = nI j) ∧ (∃ j, j < 4 ∧ x3 = nI j) ∧ (∃ j, j < 4 ∧ x4 = nI j) ∧ up ≠ 0)) (H : post 4294967297 (li, up, pr, iu, ha, nh, nu, ro, no, nr, nd, br, lb, lv, ld, de, dn, sl)) : wpX_read post (li, up, pr, iu, ha, nh, nu, ro, no, nr, nd, br, lb, lv, ld, de, dn, sl) x1 x2 x3 x4 := by
  unfold wpX_read
  by_cases g1 : ∃ j, j < 2 ∧ x1 = nI j
  case neg => exact cw_small_f (by decide) g1 (br_t rfl H)
  obtain ⟨j1, hj1, rfl⟩ := g1
  refine cw_small_t hj1 (by decide) (br_f (by decide) ?_)
  by_cases g2 : ∃ j, j < 3 ∧ x2 = nI j
  case neg => exact cw_small_f (by decide) g2 (br_t rfl H)
  obtain ⟨j2, hj2, rfl⟩ := g2
  refine cw_small_t hj2 (by decide) (br_f (by decide) ?_)
  by_cases g3 : ∃ j, j < 4 ∧ x3 = nI j
  case neg => exact cw_small_f (by decide) g3 (br_t rfl H)
  obtain ⟨j3, hj3, rfl⟩ := g3
  refine cw_small_t hj3 (by decide) (br_f (by decide) ?_)
  by_cases g4 : ∃ j, j < 4 ∧ x4 = nI j
  case neg => exact cw_small_f (by decide) g4 (br_t rfl H)
  obtain ⟨j4, hj4, rfl⟩ := g4
  refine cw_small_t hj4 (by decide) (br_f (by decide) ?_)
  exact br_t (Classical.byContradiction fun z => h ⟨⟨j1, hj1, rfl⟩, ⟨j2, hj2, rfl⟩, ⟨j3, hj3, rfl⟩, ⟨j4, hj4, rfl⟩, z⟩) H
theorem cw_yno_read {post : Int64 → Prop} {x1 x2 x3 x4 : Int32} (h : ¬ ((∃ j, j < 2 ∧ x1 = nI j) ∧ (∃ j, j < 3 ∧ x2 = nI j) ∧ (∃ j, j < 4 ∧ x3 = nI j) ∧ (∃ j, j < 4 ∧ x4 = nI j) ∧ th 0 ≠ 0)) (H : post 4294967297) : wpY_read post (nx, st, bk, sp, va, hs, th, nm) x1 x2 x3 x4 := by
  unfold wpY_read
  by_cases g1 : ∃ j, j < 2 ∧ x1 = nI j
  case neg => exact cw_out_f (by decide) g1 (br_f (by decide) H)
  obtain ⟨j1, hj1, rfl⟩ := g1
  refine cw_out_t hj1 (by decide) (br_t rfl ?_)
  by_cases g2 : ∃ j, j < 3 ∧ x2 = nI j
  case neg => exact cw_out_f (by decide) g2 (br_f (by decide) H)
  obtain ⟨j2, hj2, rfl⟩ := g2
  refine cw_out_t hj2 (by decide) (br_t rfl ?_)
  by_cases g3 : ∃ j, j < 4 ∧ x3 = nI j
  case neg => exact cw_out_f (by decide) g3 (br_f (by decide) H)
  obtain ⟨j3, hj3, rfl⟩ := g3
  refine cw_out_t hj3 (by decide) (br_t rfl ?_)
  by_cases g4 : ∃ j, j < 4 ∧ x4 = nI j
  case neg => exact cw_out_f (by decide) g4 (br_f (by decide) H)
  obtain ⟨j4, hj4, rfl⟩ := g4
  refine cw_out_t hj4 (by decide) (br_t rfl ?_)
  exact br_t (Classical.byContradiction fun z => h ⟨⟨j1, hj1, rfl⟩, ⟨j2, hj2, rfl⟩, ⟨j3, hj3, rfl⟩, ⟨j4, hj4, rfl⟩, z⟩) H
theorem cw_xno_shared {post : Int32 → Prop} {x1 x2 x3 : Int32} (h : ¬ ((∃ j, j < 2 ∧ x1 = nI j) ∧ (∃ j, j < 3 ∧ x2 = nI j) ∧ (∃ j, j < 3 ∧ x3 = nI j) ∧ up ≠ 0)) (H : post (-1)) : wpX_shared post (li, up, pr, iu, ha, nh, nu, ro, no, nr, nd, br, lb, lv, ld, de, dn, sl) x1 x2 x3 := by
  unfold wpX_shared
  by_cases g1 : ∃ j, j < 2 ∧ x1 = nI j
  case neg => exact cw_small_f (by decide) g1 (br_t rfl H)
  obtain ⟨j1, hj1, rfl⟩ := g1
  refine cw_small_t hj1 (by decide) (br_f (by decide) ?_)
  by_cases g2 : ∃ j, j < 3 ∧ x2 = nI j
  case neg => exact cw_small_f (by decide) g2 (br_t rfl H)
  obtain ⟨j2, hj2, rfl⟩ := g2
  refine cw_small_t hj2 (by decide) (br_f (by decide) ?_)
  by_cases g3 : ∃ j, j < 3 ∧ x3 = nI j
  case neg => exact cw_small_f (by decide) g3 (br_t rfl H)
  obtain ⟨j3, hj3, rfl⟩ := g3
  refine cw_small_t hj3 (by decide) (br_f (by decide) ?_)
  exact br_t (Classical.byContradiction fun z => h ⟨⟨j1, hj1, rfl⟩, ⟨j2, hj2, rfl⟩, ⟨j3, hj3, rfl⟩, z⟩) H
theorem cw_yno_shared {post : Int32 → Prop} {x1 x2 x3 : Int32} (h : ¬ ((∃ j, j < 2 ∧ x1 = nI j) ∧ (∃ j, j < 3 ∧ x2 = nI j) ∧ (∃ j, j < 3 ∧ x3 = nI j) ∧ th 0 ≠ 0)) (H : post (-1)) : wpY_shared post (nx, st, bk, sp, va, hs, th, nm) x1 x2 x3 := by
  unfold wpY_shared
  by_cases g1 : ∃ j, j < 2 ∧ x1 = nI j
  case neg => exact cw_out_f (by decide) g1 (br_f (by decide) H)
  obtain ⟨j1, hj1, rfl⟩ := g1
  refine cw_out_t hj1 (by decide) (br_t rfl ?_)
  by_cases g2 : ∃ j, j < 3 ∧ x2 = nI j
  case neg => exact cw_out_f (by decide) g2 (br_f (by decide) H)
  obtain ⟨j2, hj2, rfl⟩ := g2
  refine cw_out_t hj2 (by decide) (br_t rfl ?_)
  by_cases g3 : ∃ j, j < 3 ∧ x3 = nI j
  case neg => exact cw_out_f (by decide) g3 (br_f (by decide) H)
  obtain ⟨j3, hj3, rfl⟩ := g3
  refine cw_out_t hj3 (by decide) (br_t rfl ?_)
  exact br_t (Classical.byContradiction fun z => h ⟨⟨j1, hj1, rfl⟩, ⟨j2, hj2, rfl⟩, ⟨j3, hj3, rfl⟩, z⟩) H
theorem cw_xno_snapshot {post : Int32 → SX → Prop} {x1 x2 : Int32} (h : ¬ ((∃ j, j < 2 ∧ x1 = nI j) ∧ (x2 = nI 1 ∨ x2 = nI 2) ∧ up ≠ 0)) (H : post (-1) (li, up, pr, iu, ha, nh, nu, ro, no, nr, nd, br, lb, lv, ld, de, dn, sl)) : wpX_snapshot post (li, up, pr, iu, ha, nh, nu, ro, no, nr, nd, br, lb, lv, ld, de, dn, sl) x1 x2 := by
  unfold wpX_snapshot
  by_cases g1 : ∃ j, j < 2 ∧ x1 = nI j
  case neg => exact cw_small_f (by decide) g1 (br_t rfl H)
  obtain ⟨j1, hj1, rfl⟩ := g1
  refine cw_small_t hj1 (by decide) (br_f (by decide) ?_)
  refine br_c (fun _ => H) (fun a => br_c (fun _ => H) (fun b => ?_))
  exact br_t (Classical.byContradiction fun z => h ⟨⟨j1, hj1, rfl⟩, cw_12 a b, z⟩) H
theorem cw_yno_snapshot {post : Int32 → SY → Prop} {x1 x2 : Int32} (h : ¬ ((∃ j, j < 2 ∧ x1 = nI j) ∧ (x2 = nI 1 ∨ x2 = nI 2) ∧ th 0 ≠ 0)) (H : post (-1) (nx, st, bk, sp, va, hs, th, nm)) : wpY_snapshot post (nx, st, bk, sp, va, hs, th, nm) x1 x2 := by
  unfold wpY_snapshot
  by_cases g1 : ∃ j, j < 2 ∧ x1 = nI j
  case neg => exact cw_out_f (by decide) g1 (br_f (by decide) H)
  obtain ⟨j1, hj1, rfl⟩ := g1
  refine cw_out_t hj1 (by decide) (br_t rfl ?_)
  refine br_c (fun _ => H) (fun a => ?_)
  by_cases g2 : ∃ j, j < 3 ∧ x2 = nI j
  case neg => exact cw_out_f (by decide) g2 (br_f (by decide) H)
  obtain ⟨j2, hj2, rfl⟩ := g2
  refine cw_out_t hj2 (by decide) (br_t rfl ?_)
  exact br_t (Classical.byContradiction fun z => h ⟨⟨j1, hj1, rfl⟩, cw_12' a ⟨j2, hj2, rfl⟩, z⟩) H
theorem cw_xno_drop {post : Int32 → SX → Prop} {x1 x2 : Int32} (h : ¬ ((∃ j, j < 2 ∧ x1 = nI j) ∧ (x2 = nI 1 ∨ x2 = nI 2) ∧ up ≠ 0)) (H : post (-1) (li, up, pr, iu, ha, nh, nu, ro, no, nr, nd, br, lb, lv, ld, de, dn, sl)) : wpX_drop post (li, up, pr, iu, ha, nh, nu, ro, no, nr, nd, br, lb, lv, ld, de, dn, sl) x1 x2 := by
  unfold wpX_drop
  by_cases g1 : ∃ j, j < 2 ∧ x1 = nI j
  case neg => exact cw_small_f (by decide) g1 (br_t rfl H)
  obtain ⟨j1, hj1, rfl⟩ := g1
  refine cw_small_t hj1 (by decide) (br_f (by decide) ?_)
  refine br_c (fun _ => H) (fun a => br_c (fun _ => H) (fun b => ?_))
  exact br_t (Classical.byContradiction fun z => h ⟨⟨j1, hj1, rfl⟩, cw_12 a b, z⟩) H
theorem cw_yno_drop {post : Int32 → SY → Prop} {x1 x2 : Int32} (h : ¬ ((∃ j, j < 2 ∧ x1 = nI j) ∧ (x2 = nI 1 ∨ x2 = nI 2) ∧ th 0 ≠ 0)) (H : post (-1) (nx, st, bk, sp, va, hs, th, nm)) : wpY_drop post (nx, st, bk, sp, va, hs, th, nm) x1 x2 := by
  unfold wpY_drop
  by_cases g1 : ∃ j, j < 2 ∧ x1 = nI j
  case neg => exact cw_out_f (by decide) g1 (br_f (by decide) H)
  obtain ⟨j1, hj1, rfl⟩ := g1
  refine cw_out_t hj1 (by decide) (br_t rfl ?_)
  refine br_c (fun _ => H) (fun a => ?_)
  by_cases g2 : ∃ j, j < 3 ∧ x2 = nI j
  case neg => exact cw_out_f (by decide) g2 (br_f (by decide) H)
  obtain ⟨j2, hj2, rfl⟩ := g2
  refine cw_out_t hj2 (by decide) (br_t rfl ?_)
  exact br_t (Classical.byContradiction fun z => h ⟨⟨j1, hj1, rfl⟩, cw_12' a ⟨j2, hj2, rfl⟩, z⟩) H
theorem cw_xno_revert {post : Int32 → SX → Prop} {x1 x2 : Int32} (h : ¬ ((∃ j, j < 2 ∧ x1 = nI j) ∧ (x2 = nI 1 ∨ x2 = nI 2) ∧ up ≠ 0)) (H : post (-1) (li, up, pr, iu, ha, nh, nu, ro, no, nr, nd, br, lb, lv, ld, de, dn, sl)) : wpX_revert post (li, up, pr, iu, ha, nh, nu, ro, no, nr, nd, br, lb, lv, ld, de, dn, sl) x1 x2 := by
  unfold wpX_revert
  by_cases g1 : ∃ j, j < 2 ∧ x1 = nI j
  case neg => exact cw_small_f (by decide) g1 (br_t rfl H)
  obtain ⟨j1, hj1, rfl⟩ := g1
  refine cw_small_t hj1 (by decide) (br_f (by decide) ?_)
  refine br_c (fun _ => H) (fun a => br_c (fun _ => H) (fun b => ?_))
  exact br_t (Classical.byContradiction fun z => h ⟨⟨j1, hj1, rfl⟩, cw_12 a b, z⟩) H
theorem cw_yno_revert {post : Int32 → SY → Prop} {x1 x2 : Int32} (h : ¬ ((∃ j, j < 2 ∧ x1 = nI j) ∧ (x2 = nI 1 ∨ x2 = nI 2) ∧ th 0 ≠ 0)) (H : post (-1) (nx, st, bk, sp, va, hs, th, nm)) : wpY_revert post (nx, st, bk, sp, va, hs, th, nm) x1 x2 := by
  unfold wpY_revert
  by_cases g1 : ∃ j, j < 2 ∧ x1 = nI j
  case neg => exact cw_out_f (by decide) g1 (br_f (by decide) H)
  obtain ⟨j1, hj1, rfl⟩ := g1
  refine cw_out_t hj1 (by decide) (br_t rfl ?_)
  refine br_c (fun _ => H) (fun a => ?_)
  by_cases g2 : ∃ j, j < 3 ∧ x2 = nI j
  case neg => exact cw_out_f (by decide) g2 (br_f (by decide) H)
  obtain ⟨j2, hj2, rfl⟩ := g2
  refine cw_out_t hj2 (by decide) (br_t rfl ?_)
  exact br_t (Classical.byContradiction fun z => h ⟨⟨j1, hj1, rfl⟩, cw_12' a ⟨j2, hj2, rfl⟩, z⟩) H
end
end
section
/-! copy, swap, move -/
theorem cw_rootOf {post : Int32 → Prop} {v t f : Nat} (H : post (nI (4 * (3 * v + t) + f))) : wpX_rootOf post (nI v) (nI t) (nI f) := by
  unfold wpX_rootOf
  have e : ((nI v * 3) + nI t) * 4 + nI f = nI (4 * (3 * v + t) + f) := by
    rw [show (3 : Int32) = nI 3 from rfl, pk_mul, nI_add, cw_x4p, Nat.mul_comm v 3]
  rw [e]
  exact H
theorem cw_Sm_g {sp sp' : Nat → Int64} {φ : Nat → Nat} (g2 : ∀ c, 96 ≤ c → φ c = c) (g3 : ∀ c, c < 288 → sp' c = cw_S sp (φ c)) : ∀ c, cw_S sp' c = cw_S sp (φ c) := fun c => by
  rcases Nat.lt_or_ge c 288 with z | z
  · rw [cw_S_t z, g3 c z]
  · rw [g2 c (by omega), cw_S_f z, cw_S_f z]
theorem cw_fill {sp : Nat → Int64} {R T : Nat → Int32} {a l : Nat} (h : cw_Sm sp R T) (h72 : ∀ g, 72 ≤ g → R g = -1) (hl : a + l ≤ 288) : cw_ct (fun p => sp (a + p) ≠ 0) l = cw_ct (fun p => cw_B R T (a + p) ≠ -1) l :=
  cw_ct_eq fun p hp => by
    have z := cw_Sm_0 h h72 (a + p)
    rw [cw_S_t (by omega)] at z
    exact ⟨fun y x => y (z.mpr x), fun y x => y (z.mp x)⟩
def cw_sw (x y l c : Nat) : Nat := if x ≤ c ∧ c < x + l then c - x + y else if y ≤ c ∧ c < y + l then c - y + x else c
theorem cw_sw_k {x y l : Nat} (hd : x = y ∨ x + l < y ∨ y + l < x) (c : Nat) : (if c = y + l then cw_sw x y l (x + l) else if c = x + l then cw_sw x y l (y + l) else cw_sw x y l c) = cw_sw x y (l + 1) c := by
  have e1 : cw_sw x y l (x + l) = x + l := by
    unfold cw_sw
    rw [if_neg (by omega), if_neg (by omega)]
  have e2 : cw_sw x y l (y + l) = y + l := by
    unfold cw_sw
    rw [if_neg (by omega), if_neg (by omega)]
  rw [e1, e2]
  by_cases a : c = y + l
  · rw [if_pos a]
    unfold cw_sw
    by_cases b : x = y
    · rw [if_pos (by omega)]; omega
    · rw [if_neg (by omega), if_pos (by omega)]; omega
  · rw [if_neg a]
    by_cases b : c = x + l
    · rw [if_pos b]
      unfold cw_sw
      rw [if_pos (by omega)]; omega
    · rw [if_neg b]
      unfold cw_sw
      by_cases p : x ≤ c ∧ c < x + l
      · rw [if_pos p, if_pos (by omega)]
      · rw [if_neg p, if_neg (show ¬ (x ≤ c ∧ c < x + (l + 1)) by omega)]
        by_cases q : y ≤ c ∧ c < y + l
        · rw [if_pos q, if_pos (show y ≤ c ∧ c < y + (l + 1) by omega)]
        · rw [if_neg q, if_neg (show ¬ (y ≤ c ∧ c < y + (l + 1)) by omega)]
theorem cw_sw_s {α : Type} {f f' g : Nat → α} {x y l : Nat} (hd : x = y ∨ x + l < y ∨ y + l < x) (h : ∀ c, f' c = f (cw_sw x y l c)) (hg : ∀ c, g c = if c = y + l then f' (x + l) else if c = x + l then f' (y + l) else f' c) : ∀ c, g c = f (cw_sw x y (l + 1) c) := by
  intro c
  rw [← cw_sw_k hd c, hg c]
  by_cases a : c = y + l
  · rw [if_pos a, if_pos a, h]
  · rw [if_neg a, if_neg a]
    by_cases b : c = x + l
    · rw [if_pos b, if_pos b, h]
    · rw [if_neg b, if_neg b, h]
theorem cw_sw_0 {x y : Nat} (c : Nat) : cw_sw x y 0 c = c := by
  unfold cw_sw
  rw [if_neg (by omega), if_neg (by omega)]
theorem cw_sw4 (x y l c : Nat) : 4 * cw_sw x y l (c / 4) + c % 4 = cw_sw (4 * x) (4 * y) (4 * l) c := by
  unfold cw_sw
  by_cases p : x ≤ c / 4 ∧ c / 4 < x + l
  · rw [if_pos p, if_pos (by omega)]; omega
  · rw [if_neg p, if_neg (show ¬ (4 * x ≤ c ∧ c < 4 * x + 4 * l) by omega)]
    by_cases q : y ≤ c / 4 ∧ c / 4 < y + l
    · rw [if_pos q, if_pos (show 4 * y ≤ c ∧ c < 4 * y + 4 * l by omega)]; omega
    · rw [if_neg q, if_neg (show ¬ (4 * y ≤ c ∧ c < 4 * y + 4 * l) by omega)]; omega
section
variable {nx bk : Int32} {st : Int64} {sp : Nat → Int64} {va hs th nm : Nat → Int32}
theorem cw_ycopy {post : Int32 → SY → Prop} {v f t : Nat} (hv : v < 2) (hf : f < 4) (ht : t < 4) (h0 : ¬ th 0 = 0)
    (H : ∀ sp' va', (∀ c, sp' c = sp (cw_mv (48 * v + 4 * t) (48 * v + 4 * f) 4 c)) → (∀ c, va' c = va (cw_mv (48 * v + 4 * t) (48 * v + 4 * f) 4 c)) → post (nI (cw_ct (fun p => sp' (48 * v + 4 * t + p) ≠ 0) 4)) (nx, st, bk, sp', va', hs, th, nm)) : wpY_copy post (nx, st, bk, sp, va, hs, th, nm) (nI v) (nI f) (nI t) := by
  unfold wpY_copy
  refine cw_out_t hv (by decide) (br_t rfl ?_)
  refine cw_out_t hf (by decide) (br_t rfl ?_)
  refine cw_out_t ht (by decide) (br_t rfl ?_)
  have e48 : (48 : Int32) * nI v = nI (48 * v) := by rw [show (48 : Int32) = nI 48 from rfl, pk_mul]
  have e4 : ∀ q, nI (48 * v) + 4 * nI q = nI (48 * v + 4 * q) := fun q => by rw [show (4 : Int32) = nI 4 from rfl, pk_mul, nI_add]
  refine br_f h0 (nm_r e48 ⟨5, ?_⟩)
  have key : ∀ d j q sp' va', j + d = 4 → d < q → (∀ c, sp' c = sp (cw_mv (48 * v + 4 * t) (48 * v + 4 * f) j c)) → (∀ c, va' c = va (cw_mv (48 * v + 4 * t) (48 * v + 4 * f) j c)) → wY_copy_44 post (nI f) (nI t) (nI (48 * v)) q (nI j) nx st bk sp' va' hs th nm := by
    intro d
    induction d with
    | zero =>
      intro j q sp' va' hj hq h1 h2
      obtain ⟨q, rfl⟩ : ∃ s, q = s + 1 := ⟨q - 1, by omega⟩
      have ej : j = 4 := by omega
      subst ej
      refine br_t (nI_le (a := 4) (by omega) (by omega)) ?_
      rw [e4]
      exact cw_yfilled (l := 4) (by omega) (H sp' va' h1 h2)
    | succ d ih =>
      intro j q sp' va' hj hq h1 h2
      obtain ⟨q, rfl⟩ : ∃ s, q = s + 1 := ⟨q - 1, by omega⟩
      refine br_f (nI_ge (b := 4) (by omega) (by omega)) ?_
      rw [e4, e4, nI_add, nI_add]
      refine cw_setPlace (by omega) (by omega) (nm_r (nI_1 _) (ih (j + 1) q _ _ (by omega) (by omega) ?_ ?_))
      · exact cw_mv_s (by omega) h1 _ rfl _ (fun c => rfl)
      · exact cw_mv_s (by omega) h2 _ rfl _ (fun c => rfl)
  exact key 4 0 5 sp va (by omega) (by omega) (fun c => by rw [cw_mv_0]) (fun c => by rw [cw_mv_0])
theorem cw_yswap {post : Int32 → SY → Prop} {v a b : Nat} (hv : v < 2) (hf : a < 4) (ht : b < 4) (h0 : ¬ th 0 = 0)
    (H : ∀ sp' va', (∀ c, sp' c = sp (cw_sw (48 * v + 4 * a) (48 * v + 4 * b) 4 c)) → (∀ c, va' c = va (cw_sw (48 * v + 4 * a) (48 * v + 4 * b) 4 c)) → post (if a = b then 0 else 1) (nx, st, bk, sp', va', hs, th, nm)) : wpY_swap post (nx, st, bk, sp, va, hs, th, nm) (nI v) (nI a) (nI b) := by
  unfold wpY_swap
  refine cw_out_t hv (by decide) (br_t rfl ?_)
  refine cw_out_t hf (by decide) (br_t rfl ?_)
  refine cw_out_t ht (by decide) (br_t rfl ?_)
  have e4 : ∀ q j, (48 : Int32) * nI v + 4 * nI q + nI j = nI (48 * v + 4 * q + j) := fun q j => by rw [show (48 : Int32) = nI 48 from rfl, show (4 : Int32) = nI 4 from rfl, pk_mul, pk_mul, nI_add, nI_add]
  refine br_f h0 ⟨5, ?_⟩
  have key : ∀ d j q sp' va', j + d = 4 → d < q → (∀ c, sp' c = sp (cw_sw (48 * v + 4 * a) (48 * v + 4 * b) j c)) → (∀ c, va' c = va (cw_sw (48 * v + 4 * a) (48 * v + 4 * b) j c)) → wY_swap_38 post (nI v) (nI a) (nI b) q (nI j) nx st bk sp' va' hs th nm := by
    intro d
    induction d with
    | zero =>
      intro j q sp' va' hj hq h1 h2
      obtain ⟨q, rfl⟩ : ∃ s, q = s + 1 := ⟨q - 1, by omega⟩
      have ej : j = 4 := by omega
      subst ej
      refine br_t (nI_le (a := 4) (by omega) (by omega)) ?_
      have h := H sp' va' h1 h2
      by_cases e : a = b
      · rw [if_pos e] at h
        exact br_t (congrArg nI e) h
      · rw [if_neg e] at h
        exact br_f (fun z => e ((nI_eq (by omega) (by omega)).mp z)) h
    | succ d ih =>
      intro j q sp' va' hj hq h1 h2
      obtain ⟨q, rfl⟩ : ∃ s, q = s + 1 := ⟨q - 1, by omega⟩
      have va1 : vp_in (nI (48 * v + 4 * a + j)) 288 := vp_in_nI (by omega) (by decide)
      have vb1 : vp_in (nI (48 * v + 4 * b + j)) 288 := vp_in_nI (by omega) (by decide)
      have ca : (nI (48 * v + 4 * a + j)).toNatClampNeg = 48 * v + 4 * a + j := nI_clamp (by omega)
      have cb : (nI (48 * v + 4 * b + j)).toNatClampNeg = 48 * v + 4 * b + j := nI_clamp (by omega)
      refine br_f (nI_ge (b := 4) (by omega) (by omega)) (nm_r (e4 a j) (nm_r (e4 b j) ⟨va1, nm_r (e' := sp' (48 * v + 4 * a + j)) (by rw [ca]) ⟨va1, nm_r (e' := va' (48 * v + 4 * a + j)) (by rw [ca]) ?_⟩⟩))
      refine cw_setPlace (by omega) (by omega) ?_
      refine ⟨vb1, nm_r (congrArg (fun z => vp_updL _ z _) cb) ⟨vb1, nm_r (congrArg (fun z => upd _ z _) cb) (nm_r (nI_1 _) (ih (j + 1) q _ _ (by omega) (by omega) ?_ ?_))⟩⟩
      · exact cw_sw_s (by omega) h1 (fun c => rfl)
      · exact cw_sw_s (by omega) h2 (fun c => rfl)
  exact key 4 0 5 sp va (by omega) (by omega) (fun c => by rw [cw_sw_0]) (fun c => by rw [cw_sw_0])
theorem cw_ymove {post : Int32 → SY → Prop} {v f : Nat} (hv : v < 2) (hf : f < 4) (h0 : ¬ th 0 = 0)
    (H : ∀ sp' va', (∀ c, sp' c = if 48 * v + 4 * f ≤ c ∧ c < 48 * v + 4 * f + 4 then 0 else sp (cw_mv (48 * (1 - v) + 4 * f) (48 * v + 4 * f) 4 c)) → (∀ c, va' c = va (cw_mv (48 * (1 - v) + 4 * f) (48 * v + 4 * f) 4 c)) → post (nI (cw_ct (fun p => sp' (48 * (1 - v) + 4 * f + p) ≠ 0) 4)) (nx, st, bk, sp', va', hs, th, nm)) : wpY_move post (nx, st, bk, sp, va, hs, th, nm) (nI v) (nI f) := by
  unfold wpY_move
  refine cw_out_t hv (by decide) (br_t rfl ?_)
  refine cw_out_t hf (by decide) (br_t rfl ?_)
  have e4 : (48 : Int32) * nI v + 4 * nI f = nI (48 * v + 4 * f) := by rw [show (48 : Int32) = nI 48 from rfl, show (4 : Int32) = nI 4 from rfl, pk_mul, pk_mul, nI_add]
  have e5 : (48 : Int32) * (1 - nI v) + 4 * nI f = nI (48 * (1 - v) + 4 * f) := by rw [show (1 : Int32) = nI 1 from rfl, pk_sub (by omega), show (48 : Int32) = nI 48 from rfl, show (4 : Int32) = nI 4 from rfl, pk_mul, pk_mul, nI_add]
  refine br_f h0 (nm_r e4 (nm_r e5 ⟨5, ?_⟩))
  have key : ∀ d j q sp' va', j + d = 4 → d < q → (∀ c, sp' c = if 48 * v + 4 * f ≤ c ∧ c < 48 * v + 4 * f + j then 0 else sp (cw_mv (48 * (1 - v) + 4 * f) (48 * v + 4 * f) j c)) → (∀ c, va' c = va (cw_mv (48 * (1 - v) + 4 * f) (48 * v + 4 * f) j c)) → wY_move_51 post (nI (48 * v + 4 * f)) (nI (48 * (1 - v) + 4 * f)) q (nI j) nx st bk sp' va' hs th nm := by
    intro d
    induction d with
    | zero =>
      intro j q sp' va' hj hq h1 h2
      obtain ⟨q, rfl⟩ : ∃ s, q = s + 1 := ⟨q - 1, by omega⟩
      have ej : j = 4 := by omega
      subst ej
      exact br_t (nI_le (a := 4) (by omega) (by omega)) (cw_yfilled (l := 4) (by omega) (H sp' va' h1 h2))
    | succ d ih =>
      intro j q sp' va' hj hq h1 h2
      obtain ⟨q, rfl⟩ : ∃ s, q = s + 1 := ⟨q - 1, by omega⟩
      refine br_f (nI_ge (b := 4) (by omega) (by omega)) ?_
      rw [nI_add, nI_add]
      have cb : (nI (48 * v + 4 * f + j)).toNatClampNeg = 48 * v + 4 * f + j := nI_clamp (by omega)
      refine cw_setPlace (by omega) (by omega) ⟨vp_in_nI (by omega) (by decide), nm_r (congrArg (fun z => vp_updL _ z _) cb) (nm_r (nI_1 _) (ih (j + 1) q _ _ (by omega) (by omega) (fun c => ?_) ?_))⟩
      · by_cases z : c = 48 * v + 4 * f + j
        · rw [z, pk_uLs, if_pos (by omega)]
        · rw [pk_uLn z]
          by_cases y : c = 48 * (1 - v) + 4 * f + j
          · rw [y, pk_uLs, h1, if_neg (by omega), if_neg (by omega), cw_mv_o (by omega), cw_mv_i (by omega) (by omega)]
            exact congrArg sp (by omega)
          · rw [pk_uLn y, h1]
            by_cases w : 48 * v + 4 * f ≤ c ∧ c < 48 * v + 4 * f + j
            · rw [if_pos w, if_pos (by omega)]
            · rw [if_neg w, if_neg (by omega)]
              by_cases x : 48 * (1 - v) + 4 * f ≤ c ∧ c < 48 * (1 - v) + 4 * f + j
              · rw [cw_mv_i x.1 x.2, cw_mv_i x.1 (by omega)]
              · rw [cw_mv_o (by omega), cw_mv_o (by omega)]
      · exact cw_mv_s (by omega) h2 _ rfl _ (fun c => rfl)
  exact key 4 0 5 sp va (by omega) (by omega) (fun c => by rw [if_neg (by omega), cw_mv_0]) (fun c => by rw [cw_mv_0])
end
section
variable {li up pr iu ha nh nu : Int32} {ro no nr nd br lb lv ld de dn sl : Nat → Int32}
theorem cw_xcopy {post : Int32 → SX → Prop} {L v f t : Nat} {R : Nat → Int32} (I : cw_Iv L R iu ro no nr nd br dn) (hL : L ≤ 24) (hu : ¬ up = 0) (hv : v < 2) (hf : f < 4) (ht : t < 4)
    (H : ∀ iu' ro' nr' nd' br', cw_Iv L (upd R (12 * v + t) (R (12 * v + f))) iu' ro' no nr' nd' br' dn → post (nI (cw_ct (fun p => cw_B (upd R (12 * v + t) (R (12 * v + f))) no (48 * v + 4 * t + p) ≠ -1) 4)) (li, up, pr, iu', ha, nh, nu, ro', no, nr', nd', br', lb, lv, ld, de, dn, sl)) : wpX_copy post (li, up, pr, iu, ha, nh, nu, ro, no, nr, nd, br, lb, lv, ld, de, dn, sl) (nI v) (nI f) (nI t) := by
  unfold wpX_copy
  refine cw_small_t hv (by decide) (br_f (by decide) ?_)
  refine cw_small_t hf (by decide) (br_f (by decide) ?_)
  refine cw_small_t ht (by decide) (br_f (by decide) ?_)
  refine br_f hu (cw_rootOf (t := 0) (cw_rootOf (t := 0) ?_))
  rw [show 4 * (3 * v + 0) + f = 12 * v + f by omega, show 4 * (3 * v + 0) + t = 12 * v + t by omega]
  refine ⟨vp_in_nI (by omega) (by decide), ?_⟩
  rw [nI_clamp (by omega), I.2.2.1 _ (by omega)]
  refine cw_setRoot I (by omega) (Or.inr ⟨12 * v + f, by omega, rfl⟩) (fun iu' nr' nd' br' I' => ?_)
  refine cw_filled I'.1 I'.2.2.1 (fun k hk => cw_o_up (I'.2.2.2.1 k hk) hL) (by omega) ?_
  rw [show 4 * (12 * v + t) = 48 * v + 4 * t by omega]
  exact H _ _ _ _ _ I'
theorem cw_xmove {post : Int32 → SX → Prop} {L v f : Nat} {R : Nat → Int32} (I : cw_Iv L R iu ro no nr nd br dn) (hL : L ≤ 24) (hu : ¬ up = 0) (hv : v < 2) (hf : f < 4)
    (H : ∀ iu' ro' nr' nd' br', cw_Iv L (upd (upd R (12 * (1 - v) + f) (R (12 * v + f))) (12 * v + f) (-1)) iu' ro' no nr' nd' br' dn → post (nI (cw_ct (fun p => cw_B (upd (upd R (12 * (1 - v) + f) (R (12 * v + f))) (12 * v + f) (-1)) no (48 * (1 - v) + 4 * f + p) ≠ -1) 4)) (li, up, pr, iu', ha, nh, nu, ro', no, nr', nd', br', lb, lv, ld, de, dn, sl)) : wpX_move post (li, up, pr, iu, ha, nh, nu, ro, no, nr, nd, br, lb, lv, ld, de, dn, sl) (nI v) (nI f) := by
  unfold wpX_move
  refine cw_small_t hv (by decide) (br_f (by decide) ?_)
  refine cw_small_t hf (by decide) (br_f (by decide) ?_)
  refine br_f hu (cw_rootOf (t := 0) ?_)
  rw [show (1 : Int32) - nI v = nI (1 - v) from by rw [show (1 : Int32) = nI 1 from rfl, pk_sub (by omega)]]
  refine cw_rootOf (t := 0) ?_
  rw [show 4 * (3 * v + 0) + f = 12 * v + f by omega, show 4 * (3 * (1 - v) + 0) + f = 12 * (1 - v) + f by omega]
  refine ⟨vp_in_nI (by omega) (by decide), ?_⟩
  rw [nI_clamp (by omega), I.2.2.1 _ (by omega)]
  refine cw_setRoot I (by omega) (Or.inr ⟨12 * v + f, by omega, rfl⟩) (fun iu1 nr1 nd1 br1 I1 => ?_)
  refine cw_setRoot I1 (by omega) (Or.inl rfl) (fun iu' nr' nd' br' I' => ?_)
  refine cw_filled I'.1 I'.2.2.1 (fun k hk => cw_o_up (I'.2.2.2.1 k hk) hL) (by omega) ?_
  rw [show 4 * (12 * (1 - v) + f) = 48 * (1 - v) + 4 * f by omega]
  exact H _ _ _ _ _ I'
theorem cw_xswap {post : Int32 → SX → Prop} {L v a b : Nat} {R : Nat → Int32} (I : cw_Iv L R iu ro no nr nd br dn) (hu : ¬ up = 0) (hv : v < 2) (hf : a < 4) (ht : b < 4)
    (H : ∀ ro', cw_Iv L (upd (upd R (12 * v + a) (R (12 * v + b))) (12 * v + b) (R (12 * v + a))) iu ro' no nr nd br dn → post (if a = b then 0 else 1) (li, up, pr, iu, ha, nh, nu, ro', no, nr, nd, br, lb, lv, ld, de, dn, sl)) : wpX_swap post (li, up, pr, iu, ha, nh, nu, ro, no, nr, nd, br, lb, lv, ld, de, dn, sl) (nI v) (nI a) (nI b) := by
  obtain ⟨h1, h2, h3, h4, h5, h6, h7⟩ := I
  unfold wpX_swap
  refine cw_small_t hv (by decide) (br_f (by decide) ?_)
  refine cw_small_t hf (by decide) (br_f (by decide) ?_)
  refine cw_small_t ht (by decide) (br_f (by decide) ?_)
  refine br_f hu (cw_rootOf (t := 0) (cw_rootOf (t := 0) ?_))
  rw [show 4 * (3 * v + 0) + a = 12 * v + a by omega, show 4 * (3 * v + 0) + b = 12 * v + b by omega]
  have xa : vp_in (nI (12 * v + a)) 24 := vp_in_nI (by omega) (by decide)
  have xb : vp_in (nI (12 * v + b)) 24 := vp_in_nI (by omega) (by decide)
  have ca : (nI (12 * v + a)).toNatClampNeg = 12 * v + a := nI_clamp (by omega)
  have cb : (nI (12 * v + b)).toNatClampNeg = 12 * v + b := nI_clamp (by omega)
  have ea := h3 (12 * v + a) (by omega)
  have eb := h3 (12 * v + b) (by omega)
  refine ⟨xa, nm_r (e' := R (12 * v + a)) (by rw [ca, ea]) ⟨xb, xa, nm_r (e' := upd ro (12 * v + a) (R (12 * v + b))) (by rw [ca, cb, eb, cw_o_by (h1 _) (by omega)]) ⟨xb, nm_r (e' := upd (upd ro (12 * v + a) (R (12 * v + b))) (12 * v + b) (R (12 * v + a))) (by rw [cb, cw_o_by (h1 _) (by omega)]) ?_⟩⟩⟩
  have hc : ∀ n, cw_cn (upd (upd R (12 * v + a) (R (12 * v + b))) (12 * v + b) (R (12 * v + a))) n = cw_cn R n := fun n => by
    have p := cw_cn_upd R (g := 12 * v + a) (R (12 * v + b)) (by omega) n
    have q := cw_cn_upd (upd R (12 * v + a) (R (12 * v + b))) (g := 12 * v + b) (R (12 * v + a)) (by omega) n
    by_cases e : a = b
    · subst e
      rw [pk_us] at q
      omega
    · rw [pk_un (by omega)] at q
      omega
  have h := H (upd (upd ro (12 * v + a) (R (12 * v + b))) (12 * v + b) (R (12 * v + a))) ⟨fun g => ?_, fun g hg => ?_, fun k hk => ?_, h4, cw_Cnt_ext h5 (fun n _ => (hc n).symm), fun n hn z => h6 n hn (by rw [← hc n]; exact z), fun g hg n hn e => ?_⟩
  · by_cases e : a = b
    · rw [if_pos e] at h
      exact br_t (congrArg nI e) h
    · rw [if_neg e] at h
      exact br_f (fun z => e ((nI_eq (by omega) (by omega)).mp z)) h
  · by_cases z : g = 12 * v + b
    · rw [z, pk_us]; exact h1 _
    · rw [pk_un z]
      by_cases y : g = 12 * v + a
      · rw [y, pk_us]; exact h1 _
      · rw [pk_un y]; exact h1 _
  · rw [pk_un (by omega), pk_un (by omega)]; exact h2 g hg
  · by_cases z : k = 12 * v + b
    · rw [z, pk_us, pk_us]
    · rw [pk_un z, pk_un z]
      by_cases y : k = 12 * v + a
      · rw [y, pk_us, pk_us]
      · rw [pk_un y, pk_un y]; exact h3 k hk
  · rw [pk_un (by omega), pk_un (by omega)] at e
    exact h7 g hg n hn e
end
end
section
/-! copy, swap, move: the owed pair of walks -/
theorem cw_upd_mv {R : Nat → Int32} {d s : Nat} (g : Nat) : upd R d (R s) g = R (cw_mv d s 1 g) := by
  by_cases e : g = d
  · rw [e, pk_us, cw_mv_i (by omega) (by omega)]
    exact congrArg R (by omega)
  · rw [pk_un e, cw_mv_o (by omega)]
theorem cw_mv_lt {d s l c : Nat} (hc : c < 288) (hs : s + l ≤ 288) : cw_mv d s l c < 288 := by
  by_cases h : d ≤ c ∧ c < d + l
  · rw [cw_mv_i h.1 h.2]; omega
  · rw [cw_mv_o (by omega)]; exact hc
theorem cw_sw_lt {x y l c : Nat} (hc : c < 288) (hx : x + l ≤ 288) (hy : y + l ≤ 288) : cw_sw x y l c < 288 := by
  unfold cw_sw
  by_cases p : x ≤ c ∧ c < x + l
  · rw [if_pos p]; omega
  · rw [if_neg p]
    by_cases q : y ≤ c ∧ c < y + l
    · rw [if_pos q]; omega
    · rw [if_neg q]; exact hc
theorem cw_upd_sw {R : Nat → Int32} {x y : Nat} (g : Nat) : upd (upd R x (R y)) y (R x) g = R (cw_sw x y 1 g) := by
  unfold cw_sw
  by_cases e : g = x
  · rw [if_pos (by omega)]
    by_cases b : g = y
    · rw [b, pk_us]; exact congrArg R (by omega)
    · rw [pk_un b, e, pk_us]; exact congrArg R (by omega)
  · rw [if_neg (by omega)]
    by_cases b : g = y
    · rw [if_pos (by omega), b, pk_us]; exact congrArg R (by omega)
    · rw [if_neg (by omega), pk_un b, pk_un e]
section
variable {li up pr iu ha nh nu : Int32} {ro no nr nd br lb lv ld de dn sl : Nat → Int32}
variable {nx bk : Int32} {st : Int64} {sp : Nat → Int64} {va hs th nm : Nat → Int32}
theorem cw_upth {k : Nat} (I : cw_Rel k li up pr iu ha nh nu ro no nr nd br lb lv ld de dn sl nx st bk sp va hs th nm) : up ≠ 0 ↔ th 0 ≠ 0 := by
  obtain ⟨L, a, R, T, h1, h2, h3, h4, h5, h6, h7⟩ := I
  rcases h7 with ⟨_, U⟩ | ⟨_, D⟩
  · rw [U.1, U.2.1]
  · rw [D.1, D.2.1]
theorem cw_vc_copy {k : Nat} (I : cw_Rel k li up pr iu ha nh nu ro no nr nd br lb lv ld de dn sl nx st bk sp va hs th nm) (v1 v2 v3 : Int32) : wpX_copy (fun r u' => wpY_copy (fun r' v' => r' = r ∧ i_Rel (k + 5) u' v') (nx, st, bk, sp, va, hs, th, nm) v1 v2 v3) (li, up, pr, iu, ha, nh, nu, ro, no, nr, nd, br, lb, lv, ld, de, dn, sl) v1 v2 v3 := by
  have I0 := I
  obtain ⟨L, a, R, T, h1, h2, h3, h4, h5, h6, h7⟩ := I
  by_cases g : (∃ j, j < 2 ∧ v1 = nI j) ∧ (∃ j, j < 4 ∧ v2 = nI j) ∧ (∃ j, j < 4 ∧ v3 = nI j) ∧ up ≠ 0
  · obtain ⟨⟨v, hv, rfl⟩, ⟨f, hf, rfl⟩, ⟨t, ht, rfl⟩, hu⟩ := g
    rcases h7 with ⟨eT, U⟩ | ⟨_, D⟩
    · rw [eT] at h2 h4 h5
      refine cw_xcopy U.2.2.2.1 h1.2.2.2 hu hv hf ht (fun iu' ro' nr' nd' br' I' => ?_)
      refine cw_ycopy hv hf ht (by rw [U.2.1]; decide) (fun sp' va' e1 e2 => ?_)
      have hB : ∀ c, cw_B (upd R (12 * v + t) (R (12 * v + f))) no c = cw_B R no (cw_mv (48 * v + 4 * t) (48 * v + 4 * f) 4 c) := fun c => by
        rw [cw_B_re (ψ := cw_mv (12 * v + t) (12 * v + f) 1) cw_upd_mv c, cw_mv4, show 4 * (12 * v + t) = 48 * v + 4 * t by omega, show 4 * (12 * v + f) = 48 * v + 4 * f by omega]
      have g2 : ∀ c, 96 ≤ c → cw_mv (48 * v + 4 * t) (48 * v + 4 * f) 4 c = c := fun c hc => cw_mv_o (by omega)
      have g3 : ∀ c, c < 288 → sp' c = cw_S sp (cw_mv (48 * v + 4 * t) (48 * v + 4 * f) 4 c) := fun c hc => by rw [e1, cw_S_t (cw_mv_lt hc (by omega))]
      have S' := cw_Sm_re _ h4 (cw_Sm_g g2 g3) hB
      exact ⟨congrArg nI (cw_fill S' I'.2.1 (by omega)), cw_Rel_gen _ h1 h2 h3 h4 h5 h6 U hB g2 g3 (fun c _ _ => e2 c) (fun g hg => pk_un (by omega)) I' U.2.2.2.2.2.1 U.2.2.1 (fun _ _ => rfl)⟩
    · exact absurd D.1 hu
  · exact cw_xno_copy g (cw_yno_copy (fun z => g ⟨z.1, z.2.1, z.2.2.1, (cw_upth I0).mpr z.2.2.2⟩) ⟨rfl, cw_up (Nat.le_add_right k 5) I0⟩)
theorem cw_vc_swap {k : Nat} (I : cw_Rel k li up pr iu ha nh nu ro no nr nd br lb lv ld de dn sl nx st bk sp va hs th nm) (v1 v2 v3 : Int32) : wpX_swap (fun r u' => wpY_swap (fun r' v' => r' = r ∧ i_Rel (k + 5) u' v') (nx, st, bk, sp, va, hs, th, nm) v1 v2 v3) (li, up, pr, iu, ha, nh, nu, ro, no, nr, nd, br, lb, lv, ld, de, dn, sl) v1 v2 v3 := by
  have I0 := I
  obtain ⟨L, a, R, T, h1, h2, h3, h4, h5, h6, h7⟩ := I
  by_cases g : (∃ j, j < 2 ∧ v1 = nI j) ∧ (∃ j, j < 4 ∧ v2 = nI j) ∧ (∃ j, j < 4 ∧ v3 = nI j) ∧ up ≠ 0
  · obtain ⟨⟨v, hv, rfl⟩, ⟨f, hf, rfl⟩, ⟨t, ht, rfl⟩, hu⟩ := g
    rcases h7 with ⟨eT, U⟩ | ⟨_, D⟩
    · rw [eT] at h2 h4 h5
      refine cw_xswap U.2.2.2.1 hu hv hf ht (fun ro' I' => ?_)
      refine cw_yswap hv hf ht (by rw [U.2.1]; decide) (fun sp' va' e1 e2 => ?_)
      have hB : ∀ c, cw_B (upd (upd R (12 * v + f) (R (12 * v + t))) (12 * v + t) (R (12 * v + f))) no c = cw_B R no (cw_sw (48 * v + 4 * f) (48 * v + 4 * t) 4 c) := fun c => by
        rw [cw_B_re (ψ := cw_sw (12 * v + f) (12 * v + t) 1) cw_upd_sw c, cw_sw4, show 4 * (12 * v + t) = 48 * v + 4 * t by omega, show 4 * (12 * v + f) = 48 * v + 4 * f by omega]
      have g2 : ∀ c, 96 ≤ c → cw_sw (48 * v + 4 * f) (48 * v + 4 * t) 4 c = c := fun c hc => by
        unfold cw_sw
        rw [if_neg (by omega), if_neg (by omega)]
      have g3 : ∀ c, c < 288 → sp' c = cw_S sp (cw_sw (48 * v + 4 * f) (48 * v + 4 * t) 4 c) := fun c hc => by rw [e1, cw_S_t (cw_sw_lt hc (by omega) (by omega))]
      exact ⟨rfl, cw_Rel_gen _ h1 h2 h3 h4 h5 h6 U hB g2 g3 (fun c _ _ => e2 c) (fun g hg => by rw [pk_un (by omega), pk_un (by omega)]) I' U.2.2.2.2.2.1 U.2.2.1 (fun _ _ => rfl)⟩
    · exact absurd D.1 hu
  · exact cw_xno_swap g (cw_yno_swap (fun z => g ⟨z.1, z.2.1, z.2.2.1, (cw_upth I0).mpr z.2.2.2⟩) ⟨rfl, cw_up (Nat.le_add_right k 5) I0⟩)
theorem cw_vc_move {k : Nat} (I : cw_Rel k li up pr iu ha nh nu ro no nr nd br lb lv ld de dn sl nx st bk sp va hs th nm) (v1 v2 : Int32) : wpX_move (fun r u' => wpY_move (fun r' v' => r' = r ∧ i_Rel (k + 5) u' v') (nx, st, bk, sp, va, hs, th, nm) v1 v2) (li, up, pr, iu, ha, nh, nu, ro, no, nr, nd, br, lb, lv, ld, de, dn, sl) v1 v2 := by
  have I0 := I
  obtain ⟨L, a, R, T, h1, h2, h3, h4, h5, h6, h7⟩ := I
  by_cases g : (∃ j, j < 2 ∧ v1 = nI j) ∧ (∃ j, j < 4 ∧ v2 = nI j) ∧ up ≠ 0
  · obtain ⟨⟨v, hv, rfl⟩, ⟨f, hf, rfl⟩, hu⟩ := g
    rcases h7 with ⟨eT, U⟩ | ⟨_, D⟩
    · rw [eT] at h2 h4 h5
      refine cw_xmove U.2.2.2.1 h1.2.2.2 hu hv hf (fun iu' ro' nr' nd' br' I' => ?_)
      refine cw_ymove hv hf (by rw [U.2.1]; decide) (fun sp' va' e1 e2 => ?_)
      have hR : ∀ g, upd (upd R (12 * (1 - v) + f) (R (12 * v + f))) (12 * v + f) (-1) g = R (if g = 12 * v + f then 72 else cw_mv (12 * (1 - v) + f) (12 * v + f) 1 g) := fun g => by
        by_cases z : g = 12 * v + f
        · rw [if_pos z, z, pk_us, h2.2.2.2 72 (by omega)]
        · rw [if_neg z, pk_un z]; exact cw_upd_mv g
      have hB : ∀ c, cw_B (upd (upd R (12 * (1 - v) + f) (R (12 * v + f))) (12 * v + f) (-1)) no c = cw_B R no (if 48 * v + 4 * f ≤ c ∧ c < 48 * v + 4 * f + 4 then 288 + c % 4 else cw_mv (48 * (1 - v) + 4 * f) (48 * v + 4 * f) 4 c) := fun c => by
        rw [cw_B_re hR c]
        by_cases z : c / 4 = 12 * v + f
        · rw [if_pos z, if_pos (by omega)]
        · rw [if_neg z, if_neg (by omega), cw_mv4, show 4 * (12 * (1 - v) + f) = 48 * (1 - v) + 4 * f by omega, show 4 * (12 * v + f) = 48 * v + 4 * f by omega]
      have g2 : ∀ c, 96 ≤ c → (if 48 * v + 4 * f ≤ c ∧ c < 48 * v + 4 * f + 4 then 288 + c % 4 else cw_mv (48 * (1 - v) + 4 * f) (48 * v + 4 * f) 4 c) = c := fun c hc => by
        rw [if_neg (by omega), cw_mv_o (by omega)]
      have g3 : ∀ c, c < 288 → sp' c = cw_S sp (if 48 * v + 4 * f ≤ c ∧ c < 48 * v + 4 * f + 4 then 288 + c % 4 else cw_mv (48 * (1 - v) + 4 * f) (48 * v + 4 * f) 4 c) := fun c hc => by
        rw [e1]
        by_cases z : 48 * v + 4 * f ≤ c ∧ c < 48 * v + 4 * f + 4
        · rw [if_pos z, if_pos z, cw_S_f (by omega)]
        · rw [if_neg z, if_neg z, cw_S_t (cw_mv_lt hc (by omega))]
      have g4 : ∀ c, c < 288 → (if 48 * v + 4 * f ≤ c ∧ c < 48 * v + 4 * f + 4 then 288 + c % 4 else cw_mv (48 * (1 - v) + 4 * f) (48 * v + 4 * f) 4 c) < 288 → va' c = va (if 48 * v + 4 * f ≤ c ∧ c < 48 * v + 4 * f + 4 then 288 + c % 4 else cw_mv (48 * (1 - v) + 4 * f) (48 * v + 4 * f) 4 c) := fun c _ z => by
        by_cases y : 48 * v + 4 * f ≤ c ∧ c < 48 * v + 4 * f + 4
        · rw [if_pos y] at z; omega
        · rw [if_neg y]; exact e2 c
      have S' := cw_Sm_re _ h4 (cw_Sm_g g2 g3) hB
      exact ⟨congrArg nI (cw_fill S' I'.2.1 (by omega)), cw_Rel_gen _ h1 h2 h3 h4 h5 h6 U hB g2 g3 g4 (fun g hg => by rw [pk_un (by omega), pk_un (by omega)]) I' U.2.2.2.2.2.1 U.2.2.1 (fun _ _ => rfl)⟩
    · exact absurd D.1 hu
  · exact cw_xno_move g (cw_yno_move (fun z => g ⟨z.1, z.2.1, (cw_upth I0).mpr z.2.2⟩) ⟨rfl, cw_up (Nat.le_add_right k 5) I0⟩)
theorem cw_vc_used {k : Nat} (I : cw_Rel k li up pr iu ha nh nu ro no nr nd br lb lv ld de dn sl nx st bk sp va hs th nm) : wpX_used (fun r => wpY_used (fun r' => r' = r ∧ i_Rel (k + 5) (li, up, pr, iu, ha, nh, nu, ro, no, nr, nd, br, lb, lv, ld, de, dn, sl) (nx, st, bk, sp, va, hs, th, nm)) (nx, st, bk, sp, va, hs, th, nm)) (li, up, pr, iu, ha, nh, nu, ro, no, nr, nd, br, lb, lv, ld, de, dn, sl) := by
  have I0 := I
  obtain ⟨L, a, R, T, h1, h2, h3, h4, h5, h6, h7⟩ := I
  have I5 := cw_up (Nat.le_add_right k 5) I0
  unfold wpX_used wpY_used
  rcases h7 with ⟨eT, U⟩ | ⟨_, D⟩
  · rw [eT] at h4
    refine br_f (by rw [U.1]; decide) (br_f (by rw [U.2.1]; decide) (cw_yinUse ⟨?_, I5⟩))
    exact cw_iu2 U.2.2.2.1 h1.2.2.2 h4
  · exact br_t D.1 (br_t D.2.1 ⟨rfl, I5⟩)
end
end
section
/-! snapshot, drop, revert -/
theorem cw_bt1 (q : Nat) : bt 1 q = decide (q = 0) := by
  rcases Nat.lt_or_ge q 32 with h | h
  · exact (by decide +kernel : ∀ q, q < 32 → bt 1 q = decide (q = 0)) q h
  · rw [b_big h, decide_eq_false (by omega)]
theorem cw_pb_bt {i : Nat} (hi : i < 32) (x : Int32) : cw_pb x i = if bt x i = true then 1 else 0 := by
  unfold cw_pb
  apply b_ext
  intro q hq
  rw [b_and, b_sshr i hi x hq, cw_bt1]
  by_cases z : q = 0
  · subst z
    rw [Nat.add_zero, if_pos hi]
    by_cases y : bt x i = true
    · rw [if_pos y, y, cw_bt1]; rfl
    · rw [if_neg y, Bool.eq_false_iff.mpr y, b_0]; rfl
  · rw [decide_eq_false z, Bool.and_false]
    by_cases y : bt x i = true
    · rw [if_pos y, cw_bt1, decide_eq_false z]
    · rw [if_neg y, b_0]
theorem cw_bit1 {i : Nat} (hi : i < 32) {q : Nat} (hq : q < 32) : bt ((1 : Int32) <<< (nI i &&& 31)) q = decide (q = i) := by
  rw [b_shl i hi 1 hq, cw_bt1]
  by_cases z : q = i
  · rw [decide_eq_true (show i ≤ q by omega), decide_eq_true (show q - i = 0 by omega), decide_eq_true z]; rfl
  · rw [decide_eq_false z]
    by_cases y : i ≤ q
    · rw [decide_eq_false (show ¬ q - i = 0 by omega), Bool.and_false]
    · rw [decide_eq_false y, Bool.false_and]
theorem cw_pb_set {i j : Nat} (hi : i < 32) (hj : j < 32) (x : Int32) : cw_pb (x ||| ((1 : Int32) <<< (nI i &&& 31))) j = if j = i then 1 else cw_pb x j := by
  rw [cw_pb_bt hj, cw_pb_bt hj, b_or, cw_bit1 hi hj]
  by_cases z : j = i
  · rw [if_pos z, decide_eq_true z, Bool.or_true, if_pos rfl]
  · rw [if_neg z, decide_eq_false z, Bool.or_false]
theorem cw_pb_clr {i j : Nat} (hi : i < 32) (hj : j < 32) (x : Int32) : cw_pb (x &&& (((1 : Int32) <<< (nI i &&& 31)) ^^^ (-1))) j = if j = i then 0 else cw_pb x j := by
  rw [cw_pb_bt hj, cw_pb_bt hj, b_and, b_xor, cw_bit1 hi hj, b_m1 j hj]
  by_cases z : j = i
  · rw [if_pos z, decide_eq_true z]
    rw [show (true ^^ true) = false from rfl, Bool.and_false, if_neg (by decide)]
  · rw [if_neg z, decide_eq_false z]
    rw [show (false ^^ true) = true from rfl, Bool.and_true]
theorem cw_Hs_at {hs : Nat → Int32} {pr : Int32} {v t : Nat} (h : cw_Hs hs 0 pr) (hv : v < 2) (ht : t < 3) : hs (3 * v + t) = if t = 0 then 1 else cw_pb pr (2 * v + t - 1) := by
  by_cases z : t = 0
  · rw [if_pos z, z]
    have e : v = 0 ∨ v = 1 := by omega
    rcases e with rfl | rfl
    · exact h.1
    · exact h.2.1
  · rw [if_neg z]
    have e := h.2.2 v t hv (by omega)
    rw [Nat.zero_add] at e
    exact e
theorem cw_sh1 {v t : Nat} (ht : 1 ≤ t) : nI v * 2 + nI t - 1 = nI (2 * v + t - 1) := by
  rw [show (2 : Int32) = nI 2 from rfl, pk_mul, nI_add, show (1 : Int32) = nI 1 from rfl, pk_sub (by omega), Nat.mul_comm v 2]
theorem cw_Hs_set {hs : Nat → Int32} {pr : Int32} {v t : Nat} (h : cw_Hs hs 0 pr) (hv : v < 2) (h1 : 1 ≤ t) (ht : t < 3) : cw_Hs (upd hs (3 * v + t) 1) 0 (pr ||| ((1 : Int32) <<< (nI (2 * v + t - 1) &&& 31))) := by
  refine ⟨by rw [pk_un (by omega)]; exact h.1, by rw [pk_un (by omega)]; exact h.2.1, fun v' t' hv' ht' => ?_⟩
  rw [cw_pb_set (by omega) (by omega)]
  by_cases z : v' = v ∧ t' = t
  · rw [z.1, z.2, Nat.zero_add, pk_us, if_pos rfl]
  · rw [pk_un (by omega), if_neg (by omega)]
    exact h.2.2 v' t' hv' ht'
theorem cw_Hs_clr {hs : Nat → Int32} {pr : Int32} {v t : Nat} (h : cw_Hs hs 0 pr) (hv : v < 2) (h1 : 1 ≤ t) (ht : t < 3) : cw_Hs (upd hs (3 * v + t) 0) 0 (pr &&& (((1 : Int32) <<< (nI (2 * v + t - 1) &&& 31)) ^^^ (-1))) := by
  refine ⟨by rw [pk_un (by omega)]; exact h.1, by rw [pk_un (by omega)]; exact h.2.1, fun v' t' hv' ht' => ?_⟩
  rw [cw_pb_clr (by omega) (by omega)]
  by_cases z : v' = v ∧ t' = t
  · rw [z.1, z.2, Nat.zero_add, pk_us, if_pos rfl]
  · rw [pk_un (by omega), if_neg (by omega)]
    exact h.2.2 v' t' hv' ht'
section
variable {li up pr iu ha nh nu : Int32} {ro no nr nd br lb lv ld de dn sl : Nat → Int32}
theorem cw_there {post : Int32 → Prop} {v t : Nat} (hv : v < 2) (ht : t < 3) (H1 : (t ≠ 0 → cw_pb pr (2 * v + t - 1) = 1) → post 1) (H0 : t ≠ 0 → cw_pb pr (2 * v + t - 1) = 0 → post 0) : wpX_there post (li, up, pr, iu, ha, nh, nu, ro, no, nr, nd, br, lb, lv, ld, de, dn, sl) (nI v) (nI t) := by
  unfold wpX_there
  by_cases z : t = 0
  · exact br_t (congrArg nI z) (H1 fun y => absurd z y)
  · refine br_f (nI_ne0 (by omega) (by omega)) ?_
    rw [cw_sh1 (by omega)]
    by_cases y : cw_pb pr (2 * v + t - 1) = 0
    · exact br_t y (H0 z y)
    · refine br_f y (H1 fun _ => ?_)
      rcases cw_pb_01 pr (2 * v + t - 1) with e | e
      · exact absurd e y
      · exact e
theorem cw_xcopyTree {post : SX → Prop} {L v f t : Nat} {R : Nat → Int32} (I : cw_Iv L R iu ro no nr nd br dn) (hv : v < 2) (hf : f < 3) (ht : t < 3)
    (H : ∀ R' iu' ro' nr' nd' br', (∀ g, R' g = R (cw_mv (4 * (3 * v + t)) (4 * (3 * v + f)) 4 g)) → cw_Iv L R' iu' ro' no nr' nd' br' dn → post (li, up, pr, iu', ha, nh, nu, ro', no, nr', nd', br', lb, lv, ld, de, dn, sl)) : wpX_copyTree post (li, up, pr, iu, ha, nh, nu, ro, no, nr, nd, br, lb, lv, ld, de, dn, sl) (nI v) (nI f) (nI t) := by
  unfold wpX_copyTree
  refine ⟨5, ?_⟩
  have key : ∀ d j q R' iu' ro' nr' nd' br', j + d = 4 → d < q → (∀ g, R' g = R (cw_mv (4 * (3 * v + t)) (4 * (3 * v + f)) j g)) → cw_Iv L R' iu' ro' no nr' nd' br' dn → wX_copyTree_3 post (nI v) (nI f) (nI t) q (nI j) li up pr iu' ha nh nu ro' no nr' nd' br' lb lv ld de dn sl := by
    intro d
    induction d with
    | zero =>
      intro j q R' iu' ro' nr' nd' br' hj hq h1 h2
      obtain ⟨q, rfl⟩ : ∃ s, q = s + 1 := ⟨q - 1, by omega⟩
      have ej : j = 4 := by omega
      subst ej
      exact br_t (nI_le (a := 4) (by omega) (by omega)) (H R' _ _ _ _ _ h1 h2)
    | succ d ih =>
      intro j q R' iu' ro' nr' nd' br' hj hq h1 h2
      obtain ⟨q, rfl⟩ : ∃ s, q = s + 1 := ⟨q - 1, by omega⟩
      refine br_f (nI_ge (b := 4) (by omega) (by omega)) (cw_rootOf (cw_rootOf ⟨vp_in_nI (by omega) (by decide), ?_⟩))
      rw [nI_clamp (by omega), h2.2.2.1 _ (by omega)]
      refine cw_setRoot h2 (by omega) (Or.inr ⟨_, by omega, rfl⟩) (fun iu1 nr1 nd1 br1 I1 => ?_)
      refine nm_r (nI_1 _) (ih (j + 1) q _ iu1 _ nr1 nd1 br1 (by omega) (by omega) ?_ I1)
      exact cw_mv_s (by omega) h1 _ rfl _ (fun c => rfl)
  exact key 4 0 5 R _ _ _ _ _ (by omega) (by omega) (fun g => by rw [cw_mv_0]) I
theorem cw_xsnapshot {post : Int32 → SX → Prop} {L v t : Nat} {R : Nat → Int32} (I : cw_Iv L R iu ro no nr nd br dn) (hL : L ≤ 24) (hu : ¬ up = 0) (hv : v < 2) (h1 : 1 ≤ t) (ht : t < 3)
    (He : cw_pb pr (2 * v + t - 1) = 1 → post (-3) (li, up, pr, iu, ha, nh, nu, ro, no, nr, nd, br, lb, lv, ld, de, dn, sl))
    (H : cw_pb pr (2 * v + t - 1) = 0 → ∀ R' iu' ro' nr' nd' br', (∀ g, R' g = R (cw_mv (4 * (3 * v + t)) (4 * (3 * v)) 4 g)) → cw_Iv L R' iu' ro' no nr' nd' br' dn → post (nI (cw_ct (fun p => cw_B R' no (16 * (3 * v + t) + p) ≠ -1) 16)) (li, up, pr ||| ((1 : Int32) <<< (nI (2 * v + t - 1) &&& 31)), iu', ha, nh, nu, ro', no, nr', nd', br', lb, lv, ld, de, dn, sl)) : wpX_snapshot post (li, up, pr, iu, ha, nh, nu, ro, no, nr, nd, br, lb, lv, ld, de, dn, sl) (nI v) (nI t) := by
  unfold wpX_snapshot
  refine cw_small_t hv (by decide) (br_f (by decide) (br_f (nI_nlt (b := 1) h1 (by omega)) (br_f (nI_nlt (a := 2) (b := t) (by omega) (by omega)) (br_f hu ?_))))
  refine cw_there hv ht (fun y => br_f (by decide) (He (y (by omega)))) (fun _ y => br_t rfl ?_)
  refine cw_xcopyTree I hv (f := 0) (by omega) ht (fun R' iu' ro' nr' nd' br' g1 I' => ?_)
  rw [cw_sh1 h1]
  refine nm_e ⟨5, ?_⟩
  have H' := H y R' iu' ro' nr' nd' br' g1 I'
  have key : ∀ d j q, j + d = 4 → d < q → wX_snapshot_69 post (nI v) (nI t) li up (pr ||| ((1 : Int32) <<< (nI (2 * v + t - 1) &&& 31))) iu' ha nh nu ro' no nr' nd' br' lb lv ld de dn sl q (nI (cw_ct (fun p => cw_B R' no (16 * (3 * v + t) + p) ≠ -1) (4 * j))) (nI j) := by
    intro d
    induction d with
    | zero =>
      intro j q hj hq
      obtain ⟨q, rfl⟩ : ∃ s, q = s + 1 := ⟨q - 1, by omega⟩
      have ej : j = 4 := by omega
      subst ej
      exact br_t (nI_le (a := 4) (by omega) (by omega)) H'
    | succ d ih =>
      intro j q hj hq
      obtain ⟨q, rfl⟩ : ∃ s, q = s + 1 := ⟨q - 1, by omega⟩
      have i := ih (j + 1) q (by omega) (by omega)
      have e := cw_ct_add (fun p => cw_B R' no (16 * (3 * v + t) + p) ≠ -1) (4 * j) 4
      rw [show 4 * j + 4 = 4 * (j + 1) by omega] at e
      rw [e] at i
      refine br_f (nI_ge (b := 4) (by omega) (by omega)) (cw_rootOf ?_)
      refine cw_filled I'.1 I'.2.2.1 (fun k hk => cw_o_up (I'.2.2.2.1 k hk) hL) (by omega) ?_
      have e2 : cw_ct (fun p => cw_B R' no (4 * (4 * (3 * v + t) + j) + p) ≠ -1) 4 = cw_ct (fun p => cw_B R' no (16 * (3 * v + t) + (4 * j + p)) ≠ -1) 4 := cw_ct_eq fun p _ => by
        rw [show 4 * (4 * (3 * v + t) + j) + p = 16 * (3 * v + t) + (4 * j + p) by omega]
      rw [e2]
      exact nm_r (nI_add _ _) (nm_r (nI_1 _) i)
  exact key 4 0 5 (by omega) (by omega)
theorem cw_xdrop {post : Int32 → SX → Prop} {L v t : Nat} {R : Nat → Int32} (I : cw_Iv L R iu ro no nr nd br dn) (hu : ¬ up = 0) (hv : v < 2) (h1 : 1 ≤ t) (ht : t < 3)
    (He : cw_pb pr (2 * v + t - 1) = 0 → post (-2) (li, up, pr, iu, ha, nh, nu, ro, no, nr, nd, br, lb, lv, ld, de, dn, sl))
    (H : cw_pb pr (2 * v + t - 1) = 1 → ∀ R' iu' ro' nr' nd' br', (∀ g, R' g = if 4 * (3 * v + t) ≤ g ∧ g < 4 * (3 * v + t) + 4 then -1 else R g) → cw_Iv L R' iu' ro' no nr' nd' br' dn → post iu' (li, up, pr &&& (((1 : Int32) <<< (nI (2 * v + t - 1) &&& 31)) ^^^ (-1)), iu', ha, nh, nu, ro', no, nr', nd', br', lb, lv, ld, de, dn, sl)) : wpX_drop post (li, up, pr, iu, ha, nh, nu, ro, no, nr, nd, br, lb, lv, ld, de, dn, sl) (nI v) (nI t) := by
  unfold wpX_drop
  refine cw_small_t hv (by decide) (br_f (by decide) (br_f (nI_nlt (b := 1) h1 (by omega)) (br_f (nI_nlt (a := 2) (b := t) (by omega) (by omega)) (br_f hu ?_))))
  refine cw_there hv ht (fun y => br_f (by decide) ?_) (fun _ y => br_t rfl (He y))
  refine ⟨5, ?_⟩
  have key : ∀ d j q R' iu' ro' nr' nd' br', j + d = 4 → d < q → (∀ g, R' g = if 4 * (3 * v + t) ≤ g ∧ g < 4 * (3 * v + t) + j then -1 else R g) → cw_Iv L R' iu' ro' no nr' nd' br' dn → wX_drop_41 post (nI v) (nI t) q (nI j) li up pr iu' ha nh nu ro' no nr' nd' br' lb lv ld de dn sl := by
    intro d
    induction d with
    | zero =>
      intro j q R' iu' ro' nr' nd' br' hj hq g1 g2
      obtain ⟨q, rfl⟩ : ∃ s, q = s + 1 := ⟨q - 1, by omega⟩
      have ej : j = 4 := by omega
      subst ej
      exact br_t (nI_le (a := 4) (by omega) (by omega)) (nm_r (by rw [cw_sh1 h1]) (H (y (by omega)) R' _ _ _ _ _ g1 g2))
    | succ d ih =>
      intro j q R' iu' ro' nr' nd' br' hj hq g1 g2
      obtain ⟨q, rfl⟩ : ∃ s, q = s + 1 := ⟨q - 1, by omega⟩
      refine br_f (nI_ge (b := 4) (by omega) (by omega)) (cw_rootOf ?_)
      refine cw_setRoot g2 (by omega) (Or.inl rfl) (fun iu1 nr1 nd1 br1 I1 => ?_)
      refine nm_r (nI_1 _) (ih (j + 1) q _ iu1 _ nr1 nd1 br1 (by omega) (by omega) (fun g => ?_) I1)
      by_cases z : g = 4 * (3 * v + t) + j
      · rw [z, pk_us, if_pos (by omega)]
      · rw [pk_un z, g1]
        by_cases w : 4 * (3 * v + t) ≤ g ∧ g < 4 * (3 * v + t) + j
        · rw [if_pos w, if_pos (by omega)]
        · rw [if_neg w, if_neg (by omega)]
  exact key 4 0 5 R _ _ _ _ _ (by omega) (by omega) (fun g => by rw [if_neg (by omega)]) I
theorem cw_xrevert {post : Int32 → SX → Prop} {L v t : Nat} {R : Nat → Int32} (I : cw_Iv L R iu ro no nr nd br dn) (hu : ¬ up = 0) (hv : v < 2) (h1 : 1 ≤ t) (ht : t < 3)
    (He : cw_pb pr (2 * v + t - 1) = 0 → post (-2) (li, up, pr, iu, ha, nh, nu, ro, no, nr, nd, br, lb, lv, ld, de, dn, sl))
    (H : cw_pb pr (2 * v + t - 1) = 1 → ∀ R' iu' ro' nr' nd' br', (∀ g, R' g = R (cw_mv (4 * (3 * v)) (4 * (3 * v + t)) 4 g)) → cw_Iv L R' iu' ro' no nr' nd' br' dn → post iu' (li, up, pr, iu', ha, nh, nu, ro', no, nr', nd', br', lb, lv, ld, de, dn, sl)) : wpX_revert post (li, up, pr, iu, ha, nh, nu, ro, no, nr, nd, br, lb, lv, ld, de, dn, sl) (nI v) (nI t) := by
  unfold wpX_revert
  refine cw_small_t hv (by decide) (br_f (by decide) (br_f (nI_nlt (b := 1) h1 (by omega)) (br_f (nI_nlt (a := 2) (b := t) (by omega) (by omega)) (br_f hu ?_))))
  refine cw_there hv ht (fun y => br_f (by decide) ?_) (fun _ y => br_t rfl (He y))
  exact cw_xcopyTree I hv ht (t := 0) (by omega) (fun R' iu' ro' nr' nd' br' g1 I' => H (y (by omega)) R' iu' ro' nr' nd' br' g1 I')
end
section
variable {nx bk : Int32} {st : Int64} {sp : Nat → Int64} {va hs th nm : Nat → Int32}
theorem cw_yguard {post : Int32 → SY → Prop} {v t : Nat} (hv : v < 2) (ht : t < 3) : vp_in (3 * nI v + nI t) 18 ∧ (3 * nI v + nI t).toNatClampNeg = 3 * v + t := by
  have e : (3 : Int32) * nI v + nI t = nI (3 * v + t) := by rw [show (3 : Int32) = nI 3 from rfl, pk_mul, nI_add]
  rw [e]
  exact ⟨vp_in_nI (by omega) (by decide), nI_clamp (by omega)⟩
theorem cw_ysnapshot {post : Int32 → SY → Prop} {v t : Nat} (hv : v < 2) (h1 : 1 ≤ t) (ht : t < 3) (h0 : ¬ th 0 = 0)
    (He : ¬ hs (3 * v + t) = 0 → post (-3) (nx, st, bk, sp, va, hs, th, nm))
    (H : hs (3 * v + t) = 0 → ∀ sp' va', (∀ c, sp' c = sp (cw_mv (48 * v + 16 * t) (48 * v) 16 c)) → (∀ c, va' c = va (cw_mv (48 * v + 16 * t) (48 * v) 16 c)) → post (nI (cw_ct (fun p => sp' (48 * v + p) ≠ 0) 16)) (nx, st, bk, sp', va', upd hs (3 * v + t) 1, th, nm)) : wpY_snapshot post (nx, st, bk, sp, va, hs, th, nm) (nI v) (nI t) := by
  unfold wpY_snapshot
  obtain ⟨gv, gc⟩ := cw_yguard (post := post) hv ht
  refine cw_out_t hv (by decide) (br_t rfl (br_f (nI_ne0 h1 (by omega)) ?_))
  refine cw_out_t ht (by decide) (br_t rfl (br_f h0 ⟨gv, ?_⟩))
  rw [gc]
  by_cases z : hs (3 * v + t) = 0
  · refine br_t z ⟨gv, nm_r (e' := upd hs (3 * v + t) 1) (by rw [cw_bl1]) ?_⟩
    refine cw_ycopyTree hv (f := 0) (by omega) ht (fun sp' va' e1 e2 => ?_)
    rw [show (48 : Int32) * nI v = nI (48 * v) from by rw [show (48 : Int32) = nI 48 from rfl, pk_mul]]
    exact cw_yfilled (l := 16) (by omega) (H z sp' va' e1 e2)
  · exact br_f z (He z)
theorem cw_ydrop {post : Int32 → SY → Prop} {v t : Nat} (hv : v < 2) (h1 : 1 ≤ t) (ht : t < 3) (h0 : ¬ th 0 = 0)
    (He : hs (3 * v + t) = 0 → post (-2) (nx, st, bk, sp, va, hs, th, nm))
    (H : ¬ hs (3 * v + t) = 0 → ∀ sp', (∀ c, sp' c = if 48 * v + 16 * t ≤ c ∧ c < 48 * v + 16 * t + 16 then 0 else sp c) → post (nI (cw_ct (fun c => sp' c ≠ 0 ∧ (∀ d, d < c → sp' d ≠ sp' c) ∧ True) 288)) (nx, st, bk, sp', va, upd hs (3 * v + t) 0, th, nm)) : wpY_drop post (nx, st, bk, sp, va, hs, th, nm) (nI v) (nI t) := by
  unfold wpY_drop
  obtain ⟨gv, gc⟩ := cw_yguard (post := post) hv ht
  refine cw_out_t hv (by decide) (br_t rfl (br_f (nI_ne0 h1 (by omega)) ?_))
  refine cw_out_t ht (by decide) (br_t rfl (br_f h0 ⟨gv, ?_⟩))
  rw [gc]
  by_cases z : hs (3 * v + t) = 0
  · exact br_t z (He z)
  · refine br_f z ⟨gv, nm_r (e' := upd hs (3 * v + t) 0) (by rw [cw_bl0]) ⟨17, ?_⟩⟩
    have e4 : ∀ j, (48 : Int32) * nI v + 16 * nI t + nI j = nI (48 * v + 16 * t + j) := fun j => by rw [show (48 : Int32) = nI 48 from rfl, show (16 : Int32) = nI 16 from rfl, pk_mul, pk_mul, nI_add, nI_add]
    have key : ∀ d j q sp', j + d = 16 → d < q → (∀ c, sp' c = if 48 * v + 16 * t ≤ c ∧ c < 48 * v + 16 * t + j then 0 else sp c) → wY_drop_60 post (nI v) (nI t) nx st bk q (nI j) sp' va (upd hs (3 * v + t) 0) th nm := by
      intro d
      induction d with
      | zero =>
        intro j q sp' hj hq g1
        obtain ⟨q, rfl⟩ : ∃ s, q = s + 1 := ⟨q - 1, by omega⟩
        have ej : j = 16 := by omega
        subst ej
        exact br_t (nI_le (a := 16) (by omega) (by omega)) (cw_yinUse (H z sp' g1))
      | succ d ih =>
        intro j q sp' hj hq g1
        obtain ⟨q, rfl⟩ : ∃ s, q = s + 1 := ⟨q - 1, by omega⟩
        refine br_f (nI_ge (b := 16) (by omega) (by omega)) ?_
        rw [e4]
        refine ⟨vp_in_nI (by omega) (by decide), nm_r (e' := vp_updL sp' (48 * v + 16 * t + j) 0) (by rw [nI_clamp (by omega)]) (nm_r (nI_1 _) (ih (j + 1) q _ (by omega) (by omega) (fun c => ?_)))⟩
        by_cases x : c = 48 * v + 16 * t + j
        · rw [x, pk_uLs, if_pos (by omega)]
        · rw [pk_uLn x, g1]
          by_cases w : 48 * v + 16 * t ≤ c ∧ c < 48 * v + 16 * t + j
          · rw [if_pos w, if_pos (by omega)]
          · rw [if_neg w, if_neg (by omega)]
    exact key 16 0 17 sp (by omega) (by omega) (fun c => by rw [if_neg (by omega)])
theorem cw_yrevert {post : Int32 → SY → Prop} {v t : Nat} (hv : v < 2) (h1 : 1 ≤ t) (ht : t < 3) (h0 : ¬ th 0 = 0)
    (He : hs (3 * v + t) = 0 → post (-2) (nx, st, bk, sp, va, hs, th, nm))
    (H : ¬ hs (3 * v + t) = 0 → ∀ sp' va', (∀ c, sp' c = sp (cw_mv (48 * v) (48 * v + 16 * t) 16 c)) → (∀ c, va' c = va (cw_mv (48 * v) (48 * v + 16 * t) 16 c)) → post (nI (cw_ct (fun c => sp' c ≠ 0 ∧ (∀ d, d < c → sp' d ≠ sp' c) ∧ True) 288)) (nx, st, bk, sp', va', hs, th, nm)) : wpY_revert post (nx, st, bk, sp, va, hs, th, nm) (nI v) (nI t) := by
  unfold wpY_revert
  obtain ⟨gv, gc⟩ := cw_yguard (post := post) hv ht
  refine cw_out_t hv (by decide) (br_t rfl (br_f (nI_ne0 h1 (by omega)) ?_))
  refine cw_out_t ht (by decide) (br_t rfl (br_f h0 ⟨gv, ?_⟩))
  rw [gc]
  by_cases z : hs (3 * v + t) = 0
  · exact br_t z (He z)
  · refine br_f z ?_
    exact cw_ycopyTree hv ht (t := 0) (by omega) (fun sp' va' e1 e2 => cw_yinUse (H z sp' va' e1 e2))
end
end
section
section
variable {li up pr iu ha nh nu : Int32} {ro no nr nd br lb lv ld de dn sl : Nat → Int32}
variable {nx bk : Int32} {st : Int64} {sp : Nat → Int64} {va hs th nm : Nat → Int32}
theorem cw_t12 {x : Int32} (h : x = nI 1 ∨ x = nI 2) : ∃ t, 1 ≤ t ∧ t < 3 ∧ x = nI t := by
  rcases h with h | h
  · exact ⟨1, by omega, by omega, h⟩
  · exact ⟨2, by omega, by omega, h⟩
theorem cw_vc_snapshot {k : Nat} (I : cw_Rel k li up pr iu ha nh nu ro no nr nd br lb lv ld de dn sl nx st bk sp va hs th nm) (v1 v2 : Int32) : wpX_snapshot (fun r u' => wpY_snapshot (fun r' v' => r' = r ∧ i_Rel (k + 5) u' v') (nx, st, bk, sp, va, hs, th, nm) v1 v2) (li, up, pr, iu, ha, nh, nu, ro, no, nr, nd, br, lb, lv, ld, de, dn, sl) v1 v2 := by
  have I0 := I
  have I5 := cw_up (Nat.le_add_right k 5) I0
  obtain ⟨L, a, R, T, h1, h2, h3, h4, h5, h6, h7⟩ := I
  by_cases g : (∃ j, j < 2 ∧ v1 = nI j) ∧ (v2 = nI 1 ∨ v2 = nI 2) ∧ up ≠ 0
  · obtain ⟨⟨v, hv, rfl⟩, g2, hu⟩ := g
    obtain ⟨t, ht1, ht, rfl⟩ := cw_t12 g2
    rcases h7 with ⟨eT, U⟩ | ⟨_, D⟩
    · rw [eT] at h2 h4 h5
      have hth : ¬ th 0 = 0 := by rw [U.2.1]; decide
      have hh := cw_Hs_at U.2.2.1 hv ht
      rw [if_neg (by omega)] at hh
      refine cw_xsnapshot U.2.2.2.1 h1.2.2.2 hu hv ht1 ht (fun e => ?_) (fun e R' iu' ro' nr' nd' br' hR I' => ?_)
      · refine cw_ysnapshot hv ht1 ht hth (fun _ => ⟨rfl, I5⟩) (fun z => ?_)
        rw [hh, e] at z
        exact absurd z (by decide)
      · refine cw_ysnapshot hv ht1 ht hth (fun z => absurd (hh.trans e) z) (fun _ sp' va' e1 e2 => ?_)
        have hB : ∀ c, cw_B R' no c = cw_B R no (cw_mv (48 * v + 16 * t) (48 * v) 16 c) := fun c => by
          rw [cw_B_re hR c, cw_mv4, show 4 * (4 * (3 * v + t)) = 48 * v + 16 * t by omega, show 4 * (4 * (3 * v)) = 48 * v by omega]
        have g2 : ∀ c, 96 ≤ c → cw_mv (48 * v + 16 * t) (48 * v) 16 c = c := fun c hc => cw_mv_o (by omega)
        have g3 : ∀ c, c < 288 → sp' c = cw_S sp (cw_mv (48 * v + 16 * t) (48 * v) 16 c) := fun c hc => by rw [e1, cw_S_t (cw_mv_lt hc (by omega))]
        have S' := cw_Sm_re _ h4 (cw_Sm_g g2 g3) hB
        refine ⟨congrArg nI ?_, cw_Rel_gen _ h1 h2 h3 h4 h5 h6 U hB g2 g3 (fun c _ _ => e2 c) (fun g hg => ?_) I' U.2.2.2.2.2.1 (cw_Hs_set U.2.2.1 hv ht1 ht) (fun j hj => pk_un (by omega))⟩
        · rw [cw_fill S' I'.2.1 (by omega)]
          apply cw_ct_eq
          intro p hp
          rw [hB, hB, cw_mv_o (by omega), cw_mv_i (by omega) (by omega), show 16 * (3 * v + t) + p - (48 * v + 16 * t) + 48 * v = 48 * v + p by omega]
        · rw [hR, cw_mv_o (by omega)]
    · exact absurd D.1 hu
  · exact cw_xno_snapshot g (cw_yno_snapshot (fun z => g ⟨z.1, z.2.1, (cw_upth I0).mpr z.2.2⟩) ⟨rfl, I5⟩)
theorem cw_vc_drop {k : Nat} (I : cw_Rel k li up pr iu ha nh nu ro no nr nd br lb lv ld de dn sl nx st bk sp va hs th nm) (v1 v2 : Int32) : wpX_drop (fun r u' => wpY_drop (fun r' v' => r' = r ∧ i_Rel (k + 5) u' v') (nx, st, bk, sp, va, hs, th, nm) v1 v2) (li, up, pr, iu, ha, nh, nu, ro, no, nr, nd, br, lb, lv, ld, de, dn, sl) v1 v2 := by
  have I0 := I
  have I5 := cw_up (Nat.le_add_right k 5) I0
  obtain ⟨L, a, R, T, h1, h2, h3, h4, h5, h6, h7⟩ := I
  by_cases g : (∃ j, j < 2 ∧ v1 = nI j) ∧ (v2 = nI 1 ∨ v2 = nI 2) ∧ up ≠ 0
  · obtain ⟨⟨v, hv, rfl⟩, g2, hu⟩ := g
    obtain ⟨t, ht1, ht, rfl⟩ := cw_t12 g2
    rcases h7 with ⟨eT, U⟩ | ⟨_, D⟩
    · rw [eT] at h2 h4 h5
      have hth : ¬ th 0 = 0 := by rw [U.2.1]; decide
      have hh := cw_Hs_at U.2.2.1 hv ht
      rw [if_neg (by omega)] at hh
      refine cw_xdrop U.2.2.2.1 hu hv ht1 ht (fun e => ?_) (fun e R' iu' ro' nr' nd' br' hR I' => ?_)
      · exact cw_ydrop hv ht1 ht hth (fun _ => ⟨rfl, I5⟩) (fun z => absurd (hh.trans e) z)
      · refine cw_ydrop hv ht1 ht hth (fun z => ?_) (fun _ sp' e1 => ?_)
        · rw [hh, e] at z
          exact absurd z (by decide)
        have hR' : ∀ g, R' g = R (if 4 * (3 * v + t) ≤ g ∧ g < 4 * (3 * v + t) + 4 then 72 else g) := fun g => by
          rw [hR]
          by_cases z : 4 * (3 * v + t) ≤ g ∧ g < 4 * (3 * v + t) + 4
          · rw [if_pos z, if_pos z, h2.2.2.2 72 (by omega)]
          · rw [if_neg z, if_neg z]
        have hB : ∀ c, cw_B R' no c = cw_B R no (if 48 * v + 16 * t ≤ c ∧ c < 48 * v + 16 * t + 16 then 288 + c % 4 else c) := fun c => by
          rw [cw_B_re hR' c]
          by_cases z : 48 * v + 16 * t ≤ c ∧ c < 48 * v + 16 * t + 16
          · rw [if_pos z, if_pos (by omega)]
          · rw [if_neg z, if_neg (by omega), show 4 * (c / 4) + c % 4 = c by omega]
        have g2 : ∀ c, 96 ≤ c → (if 48 * v + 16 * t ≤ c ∧ c < 48 * v + 16 * t + 16 then 288 + c % 4 else c) = c := fun c hc => if_neg (by omega)
        have g3 : ∀ c, c < 288 → sp' c = cw_S sp (if 48 * v + 16 * t ≤ c ∧ c < 48 * v + 16 * t + 16 then 288 + c % 4 else c) := fun c hc => by
          rw [e1]
          by_cases z : 48 * v + 16 * t ≤ c ∧ c < 48 * v + 16 * t + 16
          · rw [if_pos z, if_pos z, cw_S_f (by omega)]
          · rw [if_neg z, if_neg z, cw_S_t hc]
        have g4 : ∀ c, c < 288 → (if 48 * v + 16 * t ≤ c ∧ c < 48 * v + 16 * t + 16 then 288 + c % 4 else c) < 288 → va c = va (if 48 * v + 16 * t ≤ c ∧ c < 48 * v + 16 * t + 16 then 288 + c % 4 else c) := fun c _ z => by
          by_cases y : 48 * v + 16 * t ≤ c ∧ c < 48 * v + 16 * t + 16
          · rw [if_pos y] at z; omega
          · rw [if_neg y]
        have S' := cw_Sm_re _ h4 (cw_Sm_g g2 g3) hB
        refine ⟨cw_iu2 I' h1.2.2.2 S', cw_Rel_gen _ h1 h2 h3 h4 h5 h6 U hB g2 g3 g4 (fun g hg => ?_) I' U.2.2.2.2.2.1 (cw_Hs_clr U.2.2.1 hv ht1 ht) (fun j hj => pk_un (by omega))⟩
        rw [hR, if_neg (by omega)]
    · exact absurd D.1 hu
  · exact cw_xno_drop g (cw_yno_drop (fun z => g ⟨z.1, z.2.1, (cw_upth I0).mpr z.2.2⟩) ⟨rfl, I5⟩)
theorem cw_vc_revert {k : Nat} (I : cw_Rel k li up pr iu ha nh nu ro no nr nd br lb lv ld de dn sl nx st bk sp va hs th nm) (v1 v2 : Int32) : wpX_revert (fun r u' => wpY_revert (fun r' v' => r' = r ∧ i_Rel (k + 5) u' v') (nx, st, bk, sp, va, hs, th, nm) v1 v2) (li, up, pr, iu, ha, nh, nu, ro, no, nr, nd, br, lb, lv, ld, de, dn, sl) v1 v2 := by
  have I0 := I
  have I5 := cw_up (Nat.le_add_right k 5) I0
  obtain ⟨L, a, R, T, h1, h2, h3, h4, h5, h6, h7⟩ := I
  by_cases g : (∃ j, j < 2 ∧ v1 = nI j) ∧ (v2 = nI 1 ∨ v2 = nI 2) ∧ up ≠ 0
  · obtain ⟨⟨v, hv, rfl⟩, g2, hu⟩ := g
    obtain ⟨t, ht1, ht, rfl⟩ := cw_t12 g2
    rcases h7 with ⟨eT, U⟩ | ⟨_, D⟩
    · rw [eT] at h2 h4 h5
      have hth : ¬ th 0 = 0 := by rw [U.2.1]; decide
      have hh := cw_Hs_at U.2.2.1 hv ht
      rw [if_neg (by omega)] at hh
      refine cw_xrevert U.2.2.2.1 hu hv ht1 ht (fun e => ?_) (fun e R' iu' ro' nr' nd' br' hR I' => ?_)
      · exact cw_yrevert hv ht1 ht hth (fun _ => ⟨rfl, I5⟩) (fun z => absurd (hh.trans e) z)
      · refine cw_yrevert hv ht1 ht hth (fun z => ?_) (fun _ sp' va' e1 e2 => ?_)
        · rw [hh, e] at z
          exact absurd z (by decide)
        have hB : ∀ c, cw_B R' no c = cw_B R no (cw_mv (48 * v) (48 * v + 16 * t) 16 c) := fun c => by
          rw [cw_B_re hR c, cw_mv4, show 4 * (4 * (3 * v + t)) = 48 * v + 16 * t by omega, show 4 * (4 * (3 * v)) = 48 * v by omega]
        have g2 : ∀ c, 96 ≤ c → cw_mv (48 * v) (48 * v + 16 * t) 16 c = c := fun c hc => cw_mv_o (by omega)
        have g3 : ∀ c, c < 288 → sp' c = cw_S sp (cw_mv (48 * v) (48 * v + 16 * t) 16 c) := fun c hc => by rw [e1, cw_S_t (cw_mv_lt hc (by omega))]
        have S' := cw_Sm_re _ h4 (cw_Sm_g g2 g3) hB
        refine ⟨cw_iu2 I' h1.2.2.2 S', cw_Rel_gen _ h1 h2 h3 h4 h5 h6 U hB g2 g3 (fun c _ _ => e2 c) (fun g hg => ?_) I' U.2.2.2.2.2.1 U.2.2.1 (fun j hj => rfl)⟩
        rw [hR, cw_mv_o (by omega)]
    · exact absurd D.1 hu
  · exact cw_xno_revert g (cw_yno_revert (fun z => g ⟨z.1, z.2.1, (cw_upth I0).mpr z.2.2⟩) ⟨rfl, I5⟩)
/-- the cache may move, what it holds stays -/
theorem cw_Rel_cache {k L a : Nat} {R lb' lv' ld' de' : Nat → Int32}
    (h1 : cw_Lm L li bk) (h2 : cw_Tb L R no dn) (h3 : cw_Cs k a R sl hs th nm) (h4 : cw_Sm sp R no) (h5 : cw_VD R no va de) (h6 : cw_St k st sp)
    (h7 : cw_Up k L R up pr iu ha nh nu ro no nr nd br lb lv ld de dn sl nx va hs th)
    (c1 : cw_Ca lb' lv' ld' de') (c2 : ∀ q, q < 24 → cw_ctn lb' lv' de' q = cw_ctn lb lv de q) (c3 : ∀ q, q < 24 → de' q = de q ∨ de' q = cw_ctn lb lv de q) :
    cw_Rel (k + 5) li up pr iu ha nh nu ro no nr nd br lb' lv' ld' de' dn sl nx st bk sp va hs th nm := by
  obtain ⟨u1, u2, u3, u4, u5, u6, u7, u8, u9⟩ := h7
  refine ⟨L, a, R, no, h1, h2, cw_Cs_up h3 (by omega), h4, ?_, cw_St_up h6 (by omega), Or.inl ⟨rfl, u1, u2, u3, u4, u5, u6, c1, ?_, cw_Nu_up u9 (by omega)⟩⟩
  · intro c b hc hb e
    rcases c3 b hb with z | z
    · rw [z]; exact h5 c b hc hb e
    · rw [z]; exact u8 c b hb e
  · intro c b hb e
    rw [c2 b hb]; exact u8 c b hb e
theorem cw_vc_read {k : Nat} (I : cw_Rel k li up pr iu ha nh nu ro no nr nd br lb lv ld de dn sl nx st bk sp va hs th nm) (v1 v2 v3 v4 : Int32) : wpX_read (fun r u' => wpY_read (fun r' => r' = r ∧ i_Rel (k + 5) u' (nx, st, bk, sp, va, hs, th, nm)) (nx, st, bk, sp, va, hs, th, nm) v1 v2 v3 v4) (li, up, pr, iu, ha, nh, nu, ro, no, nr, nd, br, lb, lv, ld, de, dn, sl) v1 v2 v3 v4 := by
  have I0 := I
  have I5 := cw_up (Nat.le_add_right k 5) I0
  obtain ⟨L, a, R, T, h1, h2, h3, h4, h5, h6, h7⟩ := I
  by_cases g : (∃ j, j < 2 ∧ v1 = nI j) ∧ (∃ j, j < 3 ∧ v2 = nI j) ∧ (∃ j, j < 4 ∧ v3 = nI j) ∧ (∃ j, j < 4 ∧ v4 = nI j) ∧ up ≠ 0
  · obtain ⟨⟨v, hv, rfl⟩, ⟨t, ht, rfl⟩, ⟨f, hf, rfl⟩, ⟨p, hp, rfl⟩, hu⟩ := g
    rcases h7 with ⟨eT, U⟩ | ⟨_, D⟩
    · rw [eT] at h2 h4 h5
      have hth : ¬ th 0 = 0 := by rw [U.2.1]; decide
      have hh := cw_Hs_at U.2.2.1 hv ht
      obtain ⟨gv, gc⟩ := cw_yguard (post := fun _ _ => True) hv ht
      have ey : (48 : Int32) * nI v + 16 * nI t + 4 * nI f + nI p = nI (4 * (4 * (3 * v + t) + f) + p) := by
        rw [show (48 : Int32) = nI 48 from rfl, show (16 : Int32) = nI 16 from rfl, show (4 : Int32) = nI 4 from rfl, pk_mul, pk_mul, pk_mul, nI_add, nI_add, nI_add]
        exact congrArg nI (by omega)
      have hz := cw_Sm_0 h4 h2.2.2.2 (4 * (4 * (3 * v + t) + f) + p)
      rw [cw_S_t (by omega)] at hz
      have yr : ∀ {post : Int64 → Prop}, (hs (3 * v + t) = 0 → post 4294967297) → (¬ hs (3 * v + t) = 0 → sp (4 * (4 * (3 * v + t) + f) + p) = 0 → post 4294967296) → (¬ hs (3 * v + t) = 0 → ¬ sp (4 * (4 * (3 * v + t) + f) + p) = 0 → post (va (4 * (4 * (3 * v + t) + f) + p)).toInt64) → wpY_read post (nx, st, bk, sp, va, hs, th, nm) (nI v) (nI t) (nI f) (nI p) := by
        intro post H1 H2 H3
        unfold wpY_read
        refine cw_out_t hv (by decide) (br_t rfl ?_)
        refine cw_out_t ht (by decide) (br_t rfl ?_)
        refine cw_out_t hf (by decide) (br_t rfl ?_)
        refine cw_out_t hp (by decide) (br_t rfl (br_f hth ⟨gv, ?_⟩))
        rw [gc]
        by_cases z : hs (3 * v + t) = 0
        · exact br_t z (H1 z)
        · refine br_f z (nm_r ey ⟨vp_in_nI (by omega) (by decide), ?_⟩)
          rw [nI_clamp (by omega)]
          by_cases y : sp (4 * (4 * (3 * v + t) + f) + p) = 0
          · exact br_t y (H2 z y)
          · exact br_f y ⟨vp_in_nI (by omega) (by decide), H3 z y⟩
      unfold wpX_read
      refine cw_small_t hv (by decide) (br_f (by decide) ?_)
      refine cw_small_t ht (by decide) (br_f (by decide) ?_)
      refine cw_small_t hf (by decide) (br_f (by decide) ?_)
      refine cw_small_t hp (by decide) (br_f (by decide) (br_f hu ?_))
      refine cw_there hv ht (fun y => br_f (by decide) (cw_rootOf ⟨vp_in_nI (by omega) (by decide), ?_⟩)) (fun z y => br_t rfl ?_)
      · have hh1 : ¬ hs (3 * v + t) = 0 := by
          rw [hh]
          by_cases z : t = 0
          · rw [if_pos z]; decide
          · rw [if_neg z, y z]; decide
        rw [nI_clamp (by omega), U.2.2.2.1.2.2.1 _ (by omega)]
        refine nm_e ?_
        rcases h2.2.2.1 (4 * (3 * v + t) + f) with e | ⟨n, hn, e⟩
        · rw [e]
          have eB : cw_B R no (4 * (4 * (3 * v + t) + f) + p) = -1 := cw_B_m (by rw [show (4 * (4 * (3 * v + t) + f) + p) / 4 = 4 * (3 * v + t) + f by omega]; exact e)
          exact br_t cw_m1neg (yr (fun z => absurd z hh1) (fun _ _ => ⟨rfl, I5⟩) (fun _ z => absurd (hz.mpr eB) z))
        · rw [e]
          have eB : cw_B R no (4 * (4 * (3 * v + t) + f) + p) = no (4 * n + p) := cw_B_np e hn hp
          rw [eB] at hz
          refine br_f (nI_pos (by omega)) ?_
          rw [cw_x4p]
          refine ⟨vp_in_nI (by omega) (by decide), ?_⟩
          rw [nI_clamp (by omega)]
          rcases h2.1 (4 * n + p) (by omega) with w | ⟨b, hb, w⟩
          · rw [w]
            exact br_f cw_m1n0 (yr (fun z => absurd z hh1) (fun _ _ => ⟨rfl, I5⟩) (fun _ z => absurd (hz.mpr w) z))
          · have hb24 : b < 24 := by have := h1.2.2.2; omega
            rw [w]
            refine br_t (nI_pos' (by omega)) ⟨vp_in_nI (by omega) (by decide), ?_⟩
            refine cw_load hb24 U.2.2.2.2.2.2.1 (fun lb' lv' ld' de' c1 c2 c3 => ?_)
            refine yr (fun z => absurd z hh1) (fun _ z => ?_) (fun _ _ => ⟨?_, cw_Rel_cache h1 h2 h3 h4 h5 h6 U c1 c2 c3⟩)
            · have := hz.mp z
              rw [w] at this
              exact absurd this (cw_m1' (by omega))
            · rw [U.2.2.2.2.2.2.2.1 (4 * (4 * (3 * v + t) + f) + p) b hb24 (by rw [eB]; exact w)]
      · refine yr (fun _ => ⟨rfl, I5⟩) (fun x => ?_) (fun x => ?_)
        · rw [hh, if_neg z, y] at x; exact absurd rfl x
        · rw [hh, if_neg z, y] at x; exact absurd rfl x
    · exact absurd D.1 hu
  · exact cw_xno_read g (cw_yno_read (fun z => g ⟨z.1, z.2.1, z.2.2.1, z.2.2.2.1, (cw_upth I0).mpr z.2.2.2.2⟩) ⟨rfl, I5⟩)
end
end
section
/-! write -/
theorem cw_ct_ge {P : Nat → Prop} {L : Nat} : ∀ {N : Nat}, L ≤ N → (∀ k, k < L → P k) → L ≤ cw_ct P N
  | 0, hL, _ => by omega
  | N + 1, hL, h => by
    rw [cw_ct_s]
    rcases Nat.lt_or_ge N L with z | z
    · have e : cw_b (P N) = 1 := cw_b_t (h N z)
      have a := cw_ct_ge (P := P) (L := N) (N := N) (Nat.le_refl N) (fun k hk => h k (by omega))
      omega
    · have a := cw_ct_ge (P := P) (L := L) (N := N) z h
      omega
theorem cw_useB {sp : Nat → Int64} {B : Nat → Int32} {M : Nat} (h : ∀ c d, c < 288 → d < 288 → (sp c = sp d ↔ B c = B d)) (h0 : ∀ c, c < 288 → (sp c = 0 ↔ B c = -1)) (hM : M ≤ 2 ^ 31) (hB : ∀ c, c < 288 → cw_o M (B c)) :
    cw_ct (fun c => sp c ≠ 0 ∧ (∀ d, d < c → sp d ≠ sp c) ∧ True) 288 = cw_ct (fun b => ∃ c, c < 288 ∧ B c = nI b) M := by
  have e := cw_dist B (fun _ => True) M hM 288 hB
  have e2 : cw_ct (fun b => (∃ c, c < 288 ∧ B c = nI b) ∧ True) M = cw_ct (fun b => ∃ c, c < 288 ∧ B c = nI b) M := cw_ct_eq fun b _ => ⟨fun z => z.1, fun z => ⟨z, trivial⟩⟩
  rw [← e2, ← e]
  apply cw_ct_eq
  intro c hc
  have z := h0 c hc
  have q : ∀ d, d < c → (sp d = sp c ↔ B d = B c) := fun d hd => h d c (by omega) hc
  exact ⟨fun ⟨a, b, _⟩ => ⟨fun y => a (z.mpr y), fun d hd y => b d hd ((q d hd).mpr y), trivial⟩, fun ⟨a, b, _⟩ => ⟨fun y => a (z.mp y), fun d hd y => b d hd ((q d hd).mp y), trivial⟩⟩
theorem cw_Sw {sp : Nat → Int64} {i : Nat} {f : Int64} (hi : i < 288) (c : Nat) : cw_S (vp_updL sp i f) c = if c = i then f else cw_S sp c := by
  by_cases e : c = i
  · rw [if_pos e, e, cw_S_t hi, pk_uLs]
  · rw [if_neg e]
    unfold cw_S
    rw [pk_uLn e]
theorem cw_wr {S : Nat → Int64} {B : Nat → Int32} (h : ∀ c d, S c = S d ↔ B c = B d) {i : Nat} {f : Int64} {y : Int32} (hf : ∀ c, c ≠ i → S c ≠ f) (hy : ∀ c, c ≠ i → B c ≠ y) (c d : Nat) :
    ((if c = i then f else S c) = (if d = i then f else S d)) ↔ ((if c = i then y else B c) = (if d = i then y else B d)) := by
  by_cases a : c = i
  · rw [if_pos a, if_pos a]
    by_cases b : d = i
    · rw [if_pos b, if_pos b]; exact ⟨fun _ => rfl, fun _ => rfl⟩
    · rw [if_neg b, if_neg b]; exact ⟨fun e => absurd e.symm (hf d b), fun e => absurd e.symm (hy d b)⟩
  · rw [if_neg a, if_neg a]
    by_cases b : d = i
    · rw [if_pos b, if_pos b]; exact ⟨fun e => absurd e (hf c a), fun e => absurd e (hy c a)⟩
    · rw [if_neg b, if_neg b]; exact h c d
theorem cw_Sm_w {sp : Nat → Int64} {R T R' T' : Nat → Int32} {i : Nat} {f : Int64} {y : Int32} (h : cw_Sm sp R T) (hi : i < 288) (hf : ∀ c, c ≠ i → cw_S sp c ≠ f) (hB : ∀ c, cw_B R' T' c = if c = i then y else cw_B R T c) (hy : ∀ c, c ≠ i → cw_B R T c ≠ y) : cw_Sm (vp_updL sp i f) R' T' := fun c d => by
  rw [cw_Sw hi, cw_Sw hi, hB, hB]
  exact cw_wr h hf hy c d
section
variable {li up pr iu ha nh nu : Int32} {ro no nr nd br lb lv ld de dn sl : Nat → Int32}
variable {nx bk : Int32} {st : Int64} {sp : Nat → Int64} {va hs th nm : Nat → Int32}
theorem cw_ywrite {post : Int32 → SY → Prop} {v f p : Nat} {x : Int32} (hv : v < 2) (hf : f < 4) (hp : p < 4) (h0 : ¬ th 0 = 0)
    (H : ∀ i n, i = 4 * (12 * v + f) + p → n = nI (cw_ct (fun c => vp_updL sp i (st + 1) c ≠ 0 ∧ (∀ d, d < c → vp_updL sp i (st + 1) d ≠ vp_updL sp i (st + 1) c) ∧ True) 288) →
      (bk < n ∧ post (-4) (nx, st + 1, bk, vp_updL (vp_updL sp i (st + 1)) i (sp i), upd (upd va i x) i (va i), hs, th, nm)) ∨ (¬ bk < n ∧ post n (nx, st + 1, bk, vp_updL sp i (st + 1), upd va i x, hs, th, nm))) : wpY_write post (nx, st, bk, sp, va, hs, th, nm) (nI v) (nI f) (nI p) x := by
  unfold wpY_write
  refine cw_out_t hv (by decide) (br_t rfl ?_)
  refine cw_out_t hf (by decide) (br_t rfl ?_)
  refine cw_out_t hp (by decide) (br_t rfl (br_f h0 ?_))
  have e : (48 : Int32) * nI v + 4 * nI f + nI p = nI (4 * (12 * v + f) + p) := by
    rw [show (48 : Int32) = nI 48 from rfl, show (4 : Int32) = nI 4 from rfl, pk_mul, pk_mul, nI_add, nI_add]
    exact congrArg nI (by omega)
  have hi : vp_in (nI (4 * (12 * v + f) + p)) 288 := vp_in_nI (by omega) (by decide)
  have ci : (nI (4 * (12 * v + f) + p)).toNatClampNeg = 4 * (12 * v + f) + p := nI_clamp (by omega)
  refine nm_r e ⟨hi, nm_r (e' := sp (4 * (12 * v + f) + p)) (by rw [ci]) ⟨hi, nm_r (e' := va (4 * (12 * v + f) + p)) (by rw [ci]) (nm_e ⟨hi, nm_r (e' := vp_updL sp (4 * (12 * v + f) + p) (st + 1)) (by rw [ci]) ⟨hi, nm_r (e' := upd va (4 * (12 * v + f) + p) x) (by rw [ci]) ?_⟩⟩)⟩⟩
  refine cw_yinUse ?_
  rcases H _ _ rfl rfl with ⟨a, b⟩ | ⟨a, b⟩
  · refine br_t a ⟨hi, nm_r (e' := vp_updL (vp_updL sp (4 * (12 * v + f) + p) (st + 1)) (4 * (12 * v + f) + p) (sp (4 * (12 * v + f) + p))) (by rw [ci]) ⟨hi, nm_r (e' := upd (upd va (4 * (12 * v + f) + p) x) (4 * (12 * v + f) + p) (va (4 * (12 * v + f) + p))) (by rw [ci]) b⟩⟩
  · exact br_f a b
theorem cw_xwrite {post : Int32 → SX → Prop} {L v f p h hn : Nat} {x : Int32} {R : Nat → Int32} (I : cw_Iv L R iu ro no nr nd br dn) (hL : L ≤ 24) (eli : li = nI L) (hh : h < L) (eha : ha = nI h) (hhn : hn < 72) (enh : nh = nI hn) (hC : cw_Ca lb lv ld de) (hu : ¬ up = 0) (hv : v < 2) (hf : f < 4) (hp : p < 4)
    (HA : ∀ b lb' lv' ld' de', b < L → cw_B R no (4 * (12 * v + f) + p) = nI b → (∀ c, c ≠ 4 * (12 * v + f) + p → cw_B R no c ≠ nI b) → cw_Ca lb' lv' ld' de' → (∀ q, q < 24 → cw_ctn lb' lv' de' q = if q = b then x else cw_ctn lb lv de q) → (∀ q, q < 24 → de' q = de q ∨ de' q = cw_ctn lb lv de q) → post iu (li, up, pr, iu, ha, nh, nu, ro, no, nr, nd, br, lb', lv', ld', de', dn, sl))
    (HF : (cw_B R no (4 * (12 * v + f) + p) = -1 ∨ ∃ c, c < 288 ∧ c ≠ 4 * (12 * v + f) + p ∧ cw_B R no c = cw_B R no (4 * (12 * v + f) + p)) → (∀ b, b < L → cw_bw (cw_cn R) no b ≠ 0) → ∀ h', h' < L → post (-4) (li, up, pr, iu, nI h', nh, nu, ro, no, nr, nd, br, lb, lv, ld, de, dn, sl))
    (HN : ∀ b R' iu' nh' ro' no' nr' nd' br' lb' lv' ld' de', b < L → (∀ c, cw_B R no c ≠ nI b) → cw_Iv L R' iu' ro' no' nr' nd' br' dn → (∀ c, cw_B R' no' c = if c = 4 * (12 * v + f) + p then nI b else cw_B R no c) → (∀ g, 24 ≤ g → R' g = R g) → (∃ h', h' < 72 ∧ nh' = nI h') → cw_Ca lb' lv' ld' de' → (∀ q, q < 24 → cw_ctn lb' lv' de' q = if q = b then x else cw_ctn lb lv de q) → (∀ q, q < 24 → de' q = de q ∨ de' q = cw_ctn lb lv de q) → post iu' (li, up, pr, iu', nI b, nh', nu, ro', no', nr', nd', br', lb', lv', ld', de', dn, sl)) : wpX_write post (li, up, pr, iu, ha, nh, nu, ro, no, nr, nd, br, lb, lv, ld, de, dn, sl) (nI v) (nI f) (nI p) x := by
  have I0 := I
  obtain ⟨h1, h2, h3, h4, h5, h6, h7⟩ := I
  have hr : 12 * v + f < 24 := by omega
  unfold wpX_write
  refine cw_small_t hv (by decide) (br_f (by decide) ?_)
  refine cw_small_t hf (by decide) (br_f (by decide) ?_)
  refine cw_small_t hp (by decide) (br_f (by decide) (br_f hu (cw_rootOf (t := 0) ?_)))
  rw [show 4 * (3 * v + 0) + f = 12 * v + f by omega]
  refine ⟨vp_in_nI hr (by decide), ?_⟩
  rw [nI_clamp (by omega), h3 _ hr]
  -- a fresh block
  have fresh : ∀ x7, (cw_B R no (4 * (12 * v + f) + p) = -1 ∨ ∃ c, c < 288 ∧ c ≠ 4 * (12 * v + f) + p ∧ cw_B R no c = cw_B R no (4 * (12 * v + f) + p)) → wX_write_104 post (nI p) x (nI (12 * v + f)) x7 0 li up pr iu ha nh nu ro no nr nd br lb lv ld de dn sl := by
    intro x7 na
    unfold wX_write_104
    refine br_t rfl ?_
    refine cw_freeBlock hL eli hh eha (w := cw_bw (cw_cn R) no) (fun b hb => ⟨h5.2.1.1 b hb, by have := cw_bw_le (cw_cn R) no b; omega⟩) (fun b hb wb => ?_) (fun hall h' hh' => ?_)
    · refine br_t (nI_pos' (by omega)) ?_
      refine cw_ownNode I0 hL hr hhn enh (fun n R' iu1 nh1 ro1 no1 nr1 nd1 br1 hn1 eR ecn end1 I1 hRR hBB hnh hbw => ?_)
      obtain ⟨k1, k2, k3, k4, k5, k6, k7⟩ := I1
      have hnp : 4 * n + p < 288 := by omega
      rw [cw_x4p]
      refine ⟨vp_in_nI hnp (by decide), ?_⟩
      rw [nI_clamp (by omega)]
      have cn0 : cw_cn R' ((4 * n + p) / 4) ≠ 0 := by rw [show (4 * n + p) / 4 = n by omega, ecn]; omega
      have w1 : ∀ q, q < 24 → cw_bw (cw_cn R') (upd no1 (4 * n + p) (-1)) q + cw_b (no1 (4 * n + p) = nI q) = cw_bw (cw_cn R') no1 q := fun q hq => by
        have := cw_bw_upd (c := cw_cn R') (no := no1) (i := 4 * n + p) (-1) hnp cn0 q
        rw [cw_b_f (P := (-1 : Int32) = nI q) (cw_m1 (by omega))] at this
        exact this
      refine cw_releaseBlock (w := cw_bw (cw_cn R') (upd no1 (4 * n + p) (-1))) (cw_BI_ext k5.2.1 (fun q hq => (w1 q hq).symm)) (k5.2.2 _ hnp) (fun q _ => by have := cw_bw_le (cw_cn R') (upd no1 (4 * n + p) (-1)) q; omega) (fun iu2 br2 g2 => ?_)
      refine ⟨vp_in_nI hnp (by decide), nm_r (e' := upd no1 (4 * n + p) (nI b)) (by rw [cw_by (by omega)]) ?_⟩
      refine cw_holdBlock g2 (Or.inr ⟨b, by omega, rfl⟩) (fun q _ => by have := cw_bw_le (cw_cn R') (upd no1 (4 * n + p) (-1)) q; omega) (fun iu3 br3 g3 => ?_)
      refine cw_store (by omega) hC (fun lb' lv' ld' de' c1 c2 c3 => ?_)
      have un : ∀ g m, R' g = nI m → m = n → g = 12 * v + f := fun g m e1 e2 => by
        rcases Nat.lt_or_ge g 96 with z | z
        · exact cw_ct_uniq (P := fun g => R' g = nI n) (N := 96) (show cw_cn R' n ≤ 1 by omega) z (by omega) (by rw [e2] at e1; exact e1) eR
        · rw [k2 g (by omega)] at e1; rw [e2] at e1; exact absurd e1 (cw_m1 (by omega))
      refine HN b R' iu3 nh1 ro1 (upd no1 (4 * n + p) (nI b)) nr1 nd1 br3 lb' lv' ld' de' hb (fun c e => ?_) ⟨k1, k2, k3, fun k hk => ?_, ⟨k5.1, cw_BI_ext g3 (fun q hq => ?_), fun k hk => ?_⟩, fun m hm hc hd q hq => ?_, fun g hg m hm e q hq => ?_⟩ (fun c => ?_) (fun g hg => hRR g (by omega)) hnh c1 c2 c3
      · rcases Nat.lt_or_ge c 288 with z | z
        · exact (cw_bw_iff h1 h2 (by omega)).mpr ⟨c, z, e⟩ wb
        · rw [cw_B_m (h2 _ (by omega))] at e; exact absurd e (cw_m1 (by omega))
      · by_cases z : k = 4 * n + p
        · rw [z, pk_us]; exact Or.inr ⟨b, hb, rfl⟩
        · rw [pk_un z]; exact k4 k hk
      · have a1 := w1 q hq
        have a2 := cw_bw_upd (c := cw_cn R') (no := no1) (i := 4 * n + p) (nI b) hnp cn0 q
        omega
      · by_cases z : k = 4 * n + p
        · rw [z, pk_us]; exact Or.inr ⟨b, by omega, rfl⟩
        · rw [pk_un z]; exact k5.2.2 k hk
      · have ne : m ≠ n := fun e => by rw [e, end1] at hd; exact absurd hd (by decide)
        rw [pk_un (by omega)]
        exact k6 m hm hc hd q hq
      · have ne : m ≠ n := fun z => by have := un g m e z; omega
        rw [pk_un (by omega)]
        exact k7 g hg m hm e q hq
      · rcases k1 (c / 4) with y | ⟨m, hm, y⟩
        · have ne : c ≠ 4 * (12 * v + f) + p := fun z => by
            rw [z, show (4 * (12 * v + f) + p) / 4 = 12 * v + f by omega, eR] at y
            exact cw_m1' (by omega) y
          rw [if_neg ne, cw_B_m y, ← hBB c, cw_B_m y]
        · rw [cw_B_n y hm]
          by_cases z : c = 4 * (12 * v + f) + p
          · have e1 : c / 4 = 12 * v + f := by omega
            rw [e1, eR, nI_eq (by omega) (by omega)] at y
            rw [if_pos z, show 4 * m + c % 4 = 4 * n + p by omega, pk_us]
          · rw [if_neg z, ← hBB c, cw_B_n y hm, pk_un]
            intro e
            have := un _ m y (by omega)
            omega
    · exact br_f cw_m1n0 (HF na hall h' hh')
  rcases h1 (12 * v + f) with e | ⟨n, hn', e⟩
  · rw [e]
    refine nm_e (br_f cw_m1n0 ?_)
    unfold wX_write_70
    refine br_t cw_m1neg ?_
    unfold wX_write_103
    exact fresh _ (Or.inl (cw_B_m (by rw [show (4 * (12 * v + f) + p) / 4 = 12 * v + f by omega]; exact e)))
  · rw [e]
    have eB : cw_B R no (4 * (12 * v + f) + p) = no (4 * n + p) := cw_B_np e hn' hp
    refine nm_e (br_t (nI_pos' (by omega)) ?_)
    rw [cw_x4p]
    refine ⟨vp_in_nI (by omega) (by decide), ?_⟩
    rw [nI_clamp (by omega)]
    unfold wX_write_70
    rcases h4 (4 * n + p) (by omega) with w | ⟨b, hb, w⟩
    · rw [w]
      refine br_t cw_m1neg ?_
      unfold wX_write_103
      exact fresh _ (Or.inl (eB.trans w))
    · rw [w]
      refine br_f (nI_pos (by omega)) ⟨vp_in_nI hn' (by decide), ?_⟩
      rw [nI_clamp (by omega), h5.1 n hn']
      have hle := cw_cn_le R n
      by_cases z : cw_cn R n = 1
      · refine br_t (by rw [z]; rfl) ⟨vp_in_nI (by omega) (by decide), ?_⟩
        rw [nI_clamp (by omega), h5.2.1.1 b (by omega)]
        have hbl := cw_bw_le (cw_cn R) no b
        by_cases y : cw_bw (cw_cn R) no b = 1
        · refine br_t (by rw [y]; rfl) ?_
          unfold wX_write_104
          refine br_f (by decide) (cw_store (by omega) hC (fun lb' lv' ld' de' c1 c2 c3 => ?_))
          refine HA b lb' lv' ld' de' hb (eB.trans w) (fun c hc ec => ?_) c1 c2 c3
          rcases h1 (c / 4) with u | ⟨m, hm, u⟩
          · rw [cw_B_m u] at ec; exact absurd ec (cw_m1 (by omega))
          · rw [cw_B_n u hm] at ec
            have c96 : c / 4 < 96 := by
              rcases Nat.lt_or_ge (c / 4) 96 with s | s
              · exact s
              · rw [h2 _ (by omega)] at u; exact absurd u (cw_m1 (by omega))
            have k1 := cw_ct_uniq (P := fun k => cw_cn R (k / 4) ≠ 0 ∧ no k = nI b) (N := 288) (i := 4 * m + c % 4) (j := 4 * n + p) (show cw_bw (cw_cn R) no b ≤ 1 by omega) (by omega) (by omega) ⟨by rw [show (4 * m + c % 4) / 4 = m by omega]; exact cw_cn_at c96 u, ec⟩ ⟨by rw [show (4 * n + p) / 4 = n by omega, z]; omega, w⟩
            have e1 : m = n := by omega
            have e2 := cw_ct_uniq (P := fun g => R g = nI n) (N := 96) (i := c / 4) (j := 12 * v + f) (show cw_cn R n ≤ 1 by omega) c96 (by omega) (by rw [e1] at u; exact u) e
            omega
        · refine br_f (fun q => y ((nI_eq (b := 1) (by omega) (by omega)).mp q)) ?_
          unfold wX_write_103
          refine fresh _ (Or.inr ?_)
          obtain ⟨k, hk, kn, kc, ke⟩ := cw_ct_two (P := fun k => cw_cn R (k / 4) ≠ 0 ∧ no k = nI b) (N := 288) (i := 4 * n + p) y (by omega) ⟨by rw [show (4 * n + p) / 4 = n by omega, z]; omega, w⟩
          obtain ⟨g, hg, eg⟩ := cw_cn_R h2 (by omega) kc
          refine ⟨4 * g + k % 4, by omega, fun q => ?_, ?_⟩
          · have : g = 12 * v + f := by omega
            rw [this, e, nI_eq (by omega) (by omega)] at eg
            omega
          · rw [cw_B_np eg (by omega) (by omega), eB, w, show 4 * (k / 4) + k % 4 = k by omega]
            exact ke
      · refine br_f (fun q => z ((nI_eq (b := 1) (by omega) (by omega)).mp q)) ?_
        unfold wX_write_103
        refine fresh _ (Or.inr ?_)
        obtain ⟨g, hg, gn, eg⟩ := cw_ct_two (P := fun g => R g = nI n) (N := 96) (i := 12 * v + f) z (by omega) e
        have g72 : g < 72 := by
          rcases Nat.lt_or_ge g 72 with s | s
          · exact s
          · rw [h2 g s] at eg; exact absurd eg (cw_m1 (by omega))
        refine ⟨4 * g + p, by omega, by omega, ?_⟩
        rw [cw_B_np eg hn' hp, eB]
end
end
section
section
variable {li up pr iu ha nh nu : Int32} {ro no nr nd br lb lv ld de dn sl : Nat → Int32}
variable {nx bk : Int32} {st : Int64} {sp : Nat → Int64} {va hs th nm : Nat → Int32}
theorem cw_Rel_write {k L a i b : Nat} {R R' : Nat → Int32} {iu' nh' ha' x : Int32} {ro' no' nr' nd' br' lb' lv' ld' de' : Nat → Int32} {st' w : Int64}
    (h1 : cw_Lm L li bk) (h2 : cw_Tb L R no dn) (h3 : cw_Cs k a R sl hs th nm) (h5 : cw_VD R no va de)
    (h7 : cw_Up k L R up pr iu ha nh nu ro no nr nd br lb lv ld de dn sl nx va hs th) (hi : i < 96) (hb : b < L)
    (g1 : ∀ c, cw_B R' no' c = if c = i then nI b else cw_B R no c) (hy : ∀ c, c ≠ i → cw_B R no c ≠ nI b)
    (g5 : ∀ g, 24 ≤ g → R' g = R g) (g6 : cw_Iv L R' iu' ro' no' nr' nd' br' dn) (g7 : ∃ h, h < 72 ∧ nh' = nI h) (g8 : ∃ h, h < L ∧ ha' = nI h)
    (c1 : cw_Ca lb' lv' ld' de') (c2 : ∀ q, q < 24 → cw_ctn lb' lv' de' q = if q = b then x else cw_ctn lb lv de q) (c3 : ∀ q, q < 24 → de' q = de q ∨ de' q = cw_ctn lb lv de q)
    (s1 : cw_Sm (vp_updL sp i w) R' no') (s2 : cw_St (k + 5) st' (vp_updL sp i w)) :
    cw_Rel (k + 5) li up pr iu' ha' nh' nu ro' no' nr' nd' br' lb' lv' ld' de' dn sl nx st' bk (vp_updL sp i w) (upd va i x) hs th nm := by
  obtain ⟨u1, u2, u3, u4, u5, u6, u7, u8, u9⟩ := h7
  have hL := h1.2.2.2
  refine ⟨L, a, R', no', h1, ⟨g6.2.2.2.1, h2.2.1, g6.1, g6.2.1⟩, ?_, s1, ?_, s2, Or.inl ⟨rfl, u1, u2, u3, g6, g8, g7, c1, ?_, cw_Nu_up u9 (by omega)⟩⟩
  · obtain ⟨d1, d2, d3, d4, d5⟩ := cw_Cs_up h3 (Nat.le_add_right k 5)
    exact ⟨d1, cw_Ck_c d2 (fun _ _ => rfl) (fun j _ => rfl) rfl (fun k _ => g5 _ (by omega)), cw_Ck_c d3 (fun _ _ => rfl) (fun j _ => rfl) rfl (fun k _ => g5 _ (by omega)), d4, d5⟩
  · intro c q hc hq e
    rw [g1, if_neg (by omega)] at e
    rw [pk_un (by omega)]
    rcases c3 q hq with z | z
    · rw [z]; exact h5 c q hc hq e
    · rw [z]; exact u8 c q hq e
  · intro c q hq e
    rw [g1] at e
    by_cases z : c = i
    · rw [if_pos z, nI_eq (by omega) (by omega)] at e
      rw [z, pk_us, c2 q hq, if_pos e.symm]
    · rw [if_neg z] at e
      rw [pk_un z, c2 q hq, if_neg]
      · exact u8 c q hq e
      · intro y
        rw [y] at e
        exact hy c z e
theorem cw_vc_write {k : Nat} (I : cw_Rel k li up pr iu ha nh nu ro no nr nd br lb lv ld de dn sl nx st bk sp va hs th nm) (hk : k + 5 ≤ 2561) (v1 v2 v3 v4 : Int32) : wpX_write (fun r u' => wpY_write (fun r' v' => r' = r ∧ i_Rel (k + 5) u' v') (nx, st, bk, sp, va, hs, th, nm) v1 v2 v3 v4) (li, up, pr, iu, ha, nh, nu, ro, no, nr, nd, br, lb, lv, ld, de, dn, sl) v1 v2 v3 v4 := by
  have I0 := I
  have I5 := cw_up (Nat.le_add_right k 5) I0
  obtain ⟨L, a, R, T, h1, h2, h3, h4, h5, h6, h7⟩ := I
  by_cases g : (∃ j, j < 2 ∧ v1 = nI j) ∧ (∃ j, j < 4 ∧ v2 = nI j) ∧ (∃ j, j < 4 ∧ v3 = nI j) ∧ up ≠ 0
  · obtain ⟨⟨v, hv, rfl⟩, ⟨f, hf, rfl⟩, ⟨p, hp, rfl⟩, hu⟩ := g
    rcases h7 with ⟨eT, U⟩ | ⟨_, D⟩
    · rw [eT] at h2 h4 h5
      have hth : ¬ th 0 = 0 := by rw [U.2.1]; decide
      obtain ⟨h, hh, eha⟩ := U.2.2.2.2.1
      obtain ⟨hn, hhn, enh⟩ := U.2.2.2.2.2.1
      have hL := h1.2.2.2
      have IV := U.2.2.2.1
      obtain ⟨s, hs1, es, hs2⟩ := h6
      have est : st + 1 = lN (s + 1) := by rw [es, lN_1]
      have hfr : ∀ c, cw_S sp c ≠ st + 1 := fun c e => by
        rw [est] at e
        rcases Nat.lt_or_ge c 288 with z | z
        · obtain ⟨q, hq, eq⟩ := hs2 c z
          rw [cw_S_t z, eq, lN_eq (by omega) (by omega)] at e
          omega
        · rw [cw_S_f z] at e
          have := (lN_eq (a := 0) (b := s + 1) (by omega) (by omega)).mp e
          omega
      have hst : ∀ i, cw_St (k + 5) (st + 1) (vp_updL sp i (st + 1)) := fun i => ⟨s + 1, by omega, est, fun c hc => by
        by_cases z : c = i
        · rw [z, pk_uLs]; exact ⟨s + 1, by omega, est⟩
        · rw [pk_uLn z]
          obtain ⟨q, hq, eq⟩ := hs2 c hc
          exact ⟨q, by omega, eq⟩⟩
      have hi96 : 4 * (12 * v + f) + p < 96 := by omega
      refine cw_xwrite IV hL h1.1 hh eha hhn enh U.2.2.2.2.2.2.1 hu hv hf hp (fun b lb' lv' ld' de' hb eb hy c1 c2 c3 => ?_) (fun na hall h' hh' => ?_) (fun b R' iu' nh' ro' no' nr' nd' br' lb' lv' ld' de' hb hfb I' hB' hR' hnh c1 c2 c3 => ?_)
      · refine cw_ywrite hv hf hp hth (fun i n ei en => ?_)
        subst ei
        have hB : ∀ c, cw_B R no c = if c = 4 * (12 * v + f) + p then nI b else cw_B R no c := fun c => by
          by_cases z : c = 4 * (12 * v + f) + p
          · rw [if_pos z, z, eb]
          · rw [if_neg z]
        have S' : cw_Sm (vp_updL sp (4 * (12 * v + f) + p) (st + 1)) R no := cw_Sm_w h4 (by omega) (fun c _ => hfr c) hB hy
        have e1 := cw_iu2 IV hL S'
        rw [e1] at en
        refine Or.inr ⟨?_, en, cw_Rel_write h1 h2 h3 h5 U hi96 hb hB hy (fun _ _ => rfl) IV ⟨hn, hhn, enh⟩ ⟨h, hh, eha⟩ c1 c2 c3 S' (hst _)⟩
        have e2 := cw_use_le (R := R) (T := no) hL (cw_B_o h2.2.2.1 h2.1)
        rw [en, cw_iu IV, h1.2.1]
        exact nI_nlt e2 (by omega)
      · refine cw_ywrite hv hf hp hth (fun i n ei en => ?_)
        subst ei
        have eS : vp_updL (vp_updL sp (4 * (12 * v + f) + p) (st + 1)) (4 * (12 * v + f) + p) (sp (4 * (12 * v + f) + p)) = sp := funext fun c => by
          by_cases z : c = 4 * (12 * v + f) + p
          · rw [z, pk_uLs]
          · rw [pk_uLn z, pk_uLn z]
        have eV : upd (upd va (4 * (12 * v + f) + p) v4) (4 * (12 * v + f) + p) (va (4 * (12 * v + f) + p)) = va := funext fun c => by
          by_cases z : c = 4 * (12 * v + f) + p
          · rw [z, pk_us]
          · rw [pk_un z, pk_un z]
        refine Or.inl ⟨?_, rfl, ?_⟩
        · rw [en, h1.2.1]
          have hB1 : ∀ c, cw_o 25 (if c = 4 * (12 * v + f) + p then nI 24 else cw_B R no c) := fun c => by
            by_cases z : c = 4 * (12 * v + f) + p
            · rw [if_pos z]; exact Or.inr ⟨24, by omega, rfl⟩
            · rw [if_neg z]; exact cw_o_up (cw_B_o h2.2.2.1 h2.1 c) (by omega)
          have n24 : ∀ c, c ≠ 4 * (12 * v + f) + p → cw_B R no c ≠ nI 24 := fun c _ e => by
            rcases cw_B_o h2.2.2.1 h2.1 c with y | ⟨q, hq, y⟩
            · rw [y] at e; exact cw_m1 (by omega) e
            · rw [y, nI_eq (by omega) (by omega)] at e; omega
          have key := cw_wr h4 (i := 4 * (12 * v + f) + p) (f := st + 1) (y := nI 24) (fun c _ => hfr c) n24
          have e := cw_useB (sp := vp_updL sp (4 * (12 * v + f) + p) (st + 1)) (B := fun c => if c = 4 * (12 * v + f) + p then nI 24 else cw_B R no c) (M := 25) (fun c d hc hd => by
              have z := key c d
              rw [← cw_Sw (sp := sp) (f := st + 1) (show 4 * (12 * v + f) + p < 288 by omega) c, ← cw_Sw (sp := sp) (f := st + 1) (show 4 * (12 * v + f) + p < 288 by omega) d, cw_S_t hc, cw_S_t hd] at z
              exact z) (fun c hc => by
              have z := key c 288
              rw [← cw_Sw (sp := sp) (f := st + 1) (show 4 * (12 * v + f) + p < 288 by omega) c, ← cw_Sw (sp := sp) (f := st + 1) (show 4 * (12 * v + f) + p < 288 by omega) 288, cw_S_t hc, cw_S_f (c := 288) (by omega), if_neg (c := 288 = 4 * (12 * v + f) + p) (by omega), cw_B_m (c := 288) (h2.2.2.2 _ (by omega))] at z
              exact z) (by omega) (fun c _ => hB1 c)
          rw [e, cw_ct_s, cw_b_t (P := ∃ c, c < 288 ∧ (if c = 4 * (12 * v + f) + p then nI 24 else cw_B R no c) = nI 24) ⟨4 * (12 * v + f) + p, by omega, if_pos rfl⟩]
          have ge := cw_ct_ge (P := fun b => ∃ c, c < 288 ∧ (if c = 4 * (12 * v + f) + p then nI 24 else cw_B R no c) = nI b) (L := L) (N := 24) hL (fun b hb => by
            obtain ⟨c, hc, ec⟩ := (cw_bw_iff IV.1 IV.2.1 (by omega)).mp (hall b hb)
            by_cases z : c = 4 * (12 * v + f) + p
            · rcases na with y | ⟨c', hc', nc', y⟩
              · rw [z, y] at ec; exact absurd ec (cw_m1 (by omega))
              · exact ⟨c', hc', by rw [if_neg nc', y, ← z]; exact ec⟩
            · exact ⟨c, hc, by rw [if_neg z]; exact ec⟩)
          have le := cw_ct_le (fun b => ∃ c, c < 288 ∧ (if c = 4 * (12 * v + f) + p then nI 24 else cw_B R no c) = nI b) 24
          exact nI_lt (by omega) (by omega)
        · rw [eS, eV]
          refine ⟨L, a, R, no, h1, h2, cw_Cs_up h3 (by omega), h4, h5, ⟨s + 1, by omega, est, fun c hc => ?_⟩, Or.inl ⟨rfl, U.1, U.2.1, U.2.2.1, IV, ⟨h', hh', rfl⟩, U.2.2.2.2.2.1, U.2.2.2.2.2.2.1, U.2.2.2.2.2.2.2.1, cw_Nu_up U.2.2.2.2.2.2.2.2 (by omega)⟩⟩
          obtain ⟨q, hq, eq⟩ := hs2 c hc
          exact ⟨q, by omega, eq⟩
      · refine cw_ywrite hv hf hp hth (fun i n ei en => ?_)
        subst ei
        have S' : cw_Sm (vp_updL sp (4 * (12 * v + f) + p) (st + 1)) R' no' := cw_Sm_w h4 (by omega) (fun c _ => hfr c) hB' (fun c _ => hfb c)
        have e1 := cw_iu2 I' hL S'
        rw [e1] at en
        refine Or.inr ⟨?_, en, cw_Rel_write h1 h2 h3 h5 U hi96 hb hB' (fun c _ => hfb c) hR' I' hnh ⟨b, hb, rfl⟩ c1 c2 c3 S' (hst _)⟩
        have e2 := cw_use_le (R := R') (T := no') hL (cw_B_o I'.1 I'.2.2.2.1)
        rw [en, cw_iu I', h1.2.1]
        exact nI_nlt e2 (by omega)
    · exact absurd D.1 hu
  · exact cw_xno_write g (cw_yno_write (fun z => g ⟨z.1, z.2.1, z.2.2.1, (cw_upth I0).mpr z.2.2.2⟩) ⟨rfl, I5⟩)
end
end
section
/-! cut -/
section
variable {li up pr iu ha nh nu : Int32} {ro no nr nd br lb lv ld de dn sl : Nat → Int32}
variable {nx bk : Int32} {st : Int64} {sp : Nat → Int64} {va hs th nm : Nat → Int32}
theorem cw_ycut {post : Int32 → SY → Prop} {v f l : Nat} (hv : v < 2) (hf : f < 4) (hl : l < 5) (h0 : ¬ th 0 = 0)
    (H : ∀ sp', (∀ c, sp' c = if 4 * (12 * v + f) + l ≤ c ∧ c < 4 * (12 * v + f) + 4 then 0 else sp c) → post (nI (cw_ct (fun q => sp (4 * (12 * v + f) + l + q) ≠ 0) (4 - l))) (nx, st, bk, sp', va, hs, th, nm)) : wpY_cut post (nx, st, bk, sp, va, hs, th, nm) (nI v) (nI f) (nI l) := by
  unfold wpY_cut
  refine cw_out_t hv (by decide) (br_t rfl ?_)
  refine cw_out_t hf (by decide) (br_t rfl ?_)
  refine cw_out_t hl (by decide) (br_t rfl (br_f h0 ?_))
  have e : (48 : Int32) * nI v + 4 * nI f = nI (4 * (12 * v + f)) := by
    rw [show (48 : Int32) = nI 48 from rfl, show (4 : Int32) = nI 4 from rfl, pk_mul, pk_mul, nI_add]
    exact congrArg nI (by omega)
  refine nm_r e ?_
  rw [nI_add, show (4 : Int32) - nI l = nI (4 - l) from by rw [show (4 : Int32) = nI 4 from rfl, pk_sub (by omega)]]
  refine cw_yfilled (by omega) ⟨5, ?_⟩
  have key : ∀ d j q sp', j + d = 4 → d < q → l ≤ j → (∀ c, sp' c = if 4 * (12 * v + f) + l ≤ c ∧ c < 4 * (12 * v + f) + j then 0 else sp c) → wY_cut_61 post (nI (4 * (12 * v + f))) (nI (cw_ct (fun q => sp (4 * (12 * v + f) + l + q) ≠ 0) (4 - l))) nx st bk q (nI j) sp' va hs th nm := by
    intro d
    induction d with
    | zero =>
      intro j q sp' hj hq hlj g1
      obtain ⟨q, rfl⟩ : ∃ s, q = s + 1 := ⟨q - 1, by omega⟩
      have ej : j = 4 := by omega
      subst ej
      exact br_t (nI_le (a := 4) (by omega) (by omega)) (H sp' g1)
    | succ d ih =>
      intro j q sp' hj hq hlj g1
      obtain ⟨q, rfl⟩ : ∃ s, q = s + 1 := ⟨q - 1, by omega⟩
      refine br_f (nI_ge (b := 4) (by omega) (by omega)) ?_
      rw [nI_add]
      refine ⟨vp_in_nI (by omega) (by decide), nm_r (e' := vp_updL sp' (4 * (12 * v + f) + j) 0) (by rw [nI_clamp (by omega)]) (nm_r (nI_1 _) (ih (j + 1) q _ (by omega) (by omega) (by omega) (fun c => ?_)))⟩
      by_cases x : c = 4 * (12 * v + f) + j
      · rw [x, pk_uLs, if_pos (by omega)]
      · rw [pk_uLn x, g1]
        by_cases w : 4 * (12 * v + f) + l ≤ c ∧ c < 4 * (12 * v + f) + j
        · rw [if_pos w, if_pos (by omega)]
        · rw [if_neg w, if_neg (by omega)]
  by_cases z : l = 4
  · have i := key 0 4 5 sp (by omega) (by omega) (by omega) (fun c => by rw [if_neg (by omega)])
    rw [z] at i ⊢
    exact i
  · exact key (4 - l) l 5 sp (by omega) (by omega) (by omega) (fun c => by rw [if_neg (by omega)])
theorem cw_xcut {post : Int32 → SX → Prop} {L v f l hn : Nat} {R : Nat → Int32} (I : cw_Iv L R iu ro no nr nd br dn) (hL : L ≤ 24) (hhn : hn < 72) (enh : nh = nI hn) (hu : ¬ up = 0) (hv : v < 2) (hf : f < 4) (hl : l < 5)
    (H : ∀ R' iu' nh' ro' no' nr' nd' br', cw_Iv L R' iu' ro' no' nr' nd' br' dn → (∀ c, cw_B R' no' c = if 4 * (12 * v + f) + l ≤ c ∧ c < 4 * (12 * v + f) + 4 then -1 else cw_B R no c) → (∀ g, 24 ≤ g → R' g = R g) → (∃ h', h' < 72 ∧ nh' = nI h') → post (nI (cw_ct (fun q => cw_B R no (4 * (12 * v + f) + l + q) ≠ -1) (4 - l))) (li, up, pr, iu', ha, nh', nu, ro', no', nr', nd', br', lb, lv, ld, de, dn, sl)) : wpX_cut post (li, up, pr, iu, ha, nh, nu, ro, no, nr, nd, br, lb, lv, ld, de, dn, sl) (nI v) (nI f) (nI l) := by
  have I0 := I
  obtain ⟨h1, h2, h3, h4, h5, h6, h7⟩ := I
  have hr : 12 * v + f < 24 := by omega
  have cr : (nI (12 * v + f)).toNatClampNeg = 12 * v + f := nI_clamp (by omega)
  have vr : vp_in (nI (12 * v + f)) 24 := vp_in_nI hr (by decide)
  unfold wpX_cut
  refine cw_small_t hv (by decide) (br_f (by decide) ?_)
  refine cw_small_t hf (by decide) (br_f (by decide) ?_)
  refine cw_small_t hl (by decide) (br_f (by decide) (br_f hu (cw_rootOf (t := 0) ?_)))
  rw [show 4 * (3 * v + 0) + f = 12 * v + f by omega]
  refine ⟨vr, ?_⟩
  have rest : wX_cut_102 post (nI l) (nI (12 * v + f)) (nI (cw_ct (fun q => cw_B R no (4 * (12 * v + f) + l + q) ≠ -1) (4 - l))) li up pr iu ha nh nu ro no nr nd br lb lv ld de dn sl := by
    unfold wX_cut_102
    have gle := cw_ct_le (fun q => cw_B R no (4 * (12 * v + f) + l + q) ≠ -1) (4 - l)
    by_cases z : cw_ct (fun q => cw_B R no (4 * (12 * v + f) + l + q) ≠ -1) (4 - l) = 0
    · refine br_t (congrArg nI z) ?_
      have H' := H R iu nh ro no nr nd br I0 (fun c => ?_) (fun _ _ => rfl) ⟨hn, hhn, enh⟩
      · rw [z] at H'
        exact H'
      · by_cases w : 4 * (12 * v + f) + l ≤ c ∧ c < 4 * (12 * v + f) + 4
        · rw [if_pos w]
          have e := cw_ct_0.mp z (c - (4 * (12 * v + f) + l)) (by omega)
          rw [show 4 * (12 * v + f) + l + (c - (4 * (12 * v + f) + l)) = c by omega] at e
          exact Classical.byContradiction fun y => e y
        · rw [if_neg w]
    · refine br_f (nI_ne0 (by omega) (by omega)) ?_
      refine cw_filled h1 h3 (fun k hk => cw_o_up (h4 k hk) hL) hr ?_
      have fle := cw_ct_le (fun p => cw_B R no (4 * (12 * v + f) + p) ≠ -1) 4
      by_cases y : cw_ct (fun q => cw_B R no (4 * (12 * v + f) + l + q) ≠ -1) (4 - l) = cw_ct (fun p => cw_B R no (4 * (12 * v + f) + p) ≠ -1) 4
      · refine br_t (congrArg nI y) ⟨vr, ?_⟩
        rw [cr, h3 _ hr]
        refine cw_release h5 (g := 12 * v + f) (by omega) rfl (h1 _) (fun iu1 nr1 nd1 br1 g1 g2 => ?_)
        refine ⟨vr, nm_r (e' := upd ro (12 * v + f) (-1)) (by rw [cw_bym]) ?_⟩
        refine H (upd R (12 * v + f) (-1)) iu1 nh _ no nr1 nd1 br1 ⟨fun g => ?_, fun g hg => ?_, fun k hk => ?_, h4, g1, fun n hn hc hd => ?_, fun g hg n hn e => ?_⟩ (fun c => ?_) (fun g hg => pk_un (by omega)) ⟨hn, hhn, enh⟩
        · by_cases e : g = 12 * v + f
          · rw [e, pk_us]; exact Or.inl rfl
          · rw [pk_un e]; exact h1 g
        · rw [pk_un (by omega)]; exact h2 g hg
        · by_cases e : k = 12 * v + f
          · rw [e, pk_us, pk_us]
          · rw [pk_un e, pk_un e]; exact h3 k hk
        · have ed : nd n = 0 := by
            rcases g2 n hn with e | ⟨_, e⟩
            · rw [← e]; exact hd
            · exact absurd e hc
          refine h6 n hn ?_ ed
          obtain ⟨g, hg, e⟩ := cw_ct_ex hc
          by_cases gt : g = 12 * v + f
          · rw [gt, pk_us] at e; exact absurd e (cw_m1 (by omega))
          · rw [pk_un gt] at e; exact cw_cn_at hg e
        · rw [pk_un (by omega)] at e
          exact h7 g hg n hn e
        · have ez := cw_ct_add (fun p => cw_B R no (4 * (12 * v + f) + p) ≠ -1) l (4 - l)
          rw [show l + (4 - l) = 4 by omega] at ez
          have e3 : cw_ct (fun i => cw_B R no (4 * (12 * v + f) + (l + i)) ≠ -1) (4 - l) = cw_ct (fun q => cw_B R no (4 * (12 * v + f) + l + q) ≠ -1) (4 - l) := cw_ct_eq fun p _ => by rw [Nat.add_assoc]
          have e4 : cw_ct (fun p => cw_B R no (4 * (12 * v + f) + p) ≠ -1) l = 0 := by omega
          by_cases w : c / 4 = 12 * v + f
          · rw [cw_B_m (by rw [w, pk_us])]
            by_cases x : 4 * (12 * v + f) + l ≤ c ∧ c < 4 * (12 * v + f) + 4
            · rw [if_pos x]
            · rw [if_neg x]
              have e := cw_ct_0.mp e4 (c - 4 * (12 * v + f)) (by omega)
              rw [show 4 * (12 * v + f) + (c - 4 * (12 * v + f)) = c by omega] at e
              exact (Classical.byContradiction fun y => e y : cw_B R no c = -1).symm
          · rw [if_neg (by omega)]
            unfold cw_B
            rw [pk_un w]
      · refine br_f (fun q => y ((nI_eq (by omega) (by omega)).mp q)) ?_
        refine cw_ownNode I0 hL hr hhn enh (fun n R' iu1 nh1 ro1 no1 nr1 nd1 br1 hn1 eR ecn end1 I1 hRR hBB hnh hbw => ?_)
        obtain ⟨k1, k2, k3, k4, k5, k6, k7⟩ := I1
        refine nm_r (cw_x4p n l) ⟨5, ?_⟩
        have un : ∀ g m, R' g = nI m → m = n → g = 12 * v + f := fun g m e1 e2 => by
          rcases Nat.lt_or_ge g 96 with z | z
          · exact cw_ct_uniq (P := fun g => R' g = nI n) (N := 96) (show cw_cn R' n ≤ 1 by omega) z (by omega) (by rw [e2] at e1; exact e1) eR
          · rw [k2 g (by omega)] at e1; rw [e2] at e1; exact absurd e1 (cw_m1 (by omega))
        have key : ∀ d j q no2 br2 iu2, j + d = 4 → d < q → l ≤ j → (∀ k, no2 k = if 4 * n + l ≤ k ∧ k < 4 * n + j then -1 else no1 k) → cw_BI (cw_bw (cw_cn R') no2) br2 iu2 → wX_cut_158 post (nI (cw_ct (fun q => cw_B R no (4 * (12 * v + f) + l + q) ≠ -1) (4 - l))) (nI n) q (nI (4 * n + j)) li up pr iu2 ha nh1 nu ro1 no2 nr1 nd1 br2 lb lv ld de dn sl := by
          intro d
          induction d with
          | zero =>
            intro j q no2 br2 iu2 hj hq hlj g1 g2
            obtain ⟨q, rfl⟩ : ∃ s, q = s + 1 := ⟨q - 1, by omega⟩
            have ej : j = 4 := by omega
            subst ej
            refine br_t (by rw [cw_x4]; exact nI_le (by omega) (by omega)) ?_
            have no2o : ∀ k, k < 288 → cw_o L (no2 k) := fun k hk => by
              rw [g1 k]
              by_cases w : 4 * n + l ≤ k ∧ k < 4 * n + 4
              · rw [if_pos w]; exact Or.inl rfl
              · rw [if_neg w]; exact k4 k hk
            refine H R' iu2 nh1 ro1 no2 nr1 nd1 br2 ⟨k1, k2, k3, no2o, ⟨k5.1, g2, fun k hk => cw_o_up (no2o k hk) hL⟩, fun m hm hc hd q hq => ?_, fun g hg m hm e q hq => ?_⟩ (fun c => ?_) (fun g hg => hRR g (by omega)) hnh
            · have ne : m ≠ n := fun e => by rw [e, end1] at hd; exact absurd hd (by decide)
              rw [g1, if_neg (by omega)]
              exact k6 m hm hc hd q hq
            · have ne : m ≠ n := fun z => by have := un g m e z; omega
              rw [g1, if_neg (by omega)]
              exact k7 g hg m hm e q hq
            · rcases k1 (c / 4) with y | ⟨m, hm, y⟩
              · have ne : ¬ (4 * (12 * v + f) + l ≤ c ∧ c < 4 * (12 * v + f) + 4) := fun z => by
                  rw [show c / 4 = 12 * v + f by omega, eR] at y
                  exact cw_m1' (by omega) y
                rw [if_neg ne, cw_B_m y, ← hBB c, cw_B_m y]
              · rw [cw_B_n y hm, g1]
                by_cases z : 4 * (12 * v + f) + l ≤ c ∧ c < 4 * (12 * v + f) + 4
                · have e1 : c / 4 = 12 * v + f := by omega
                  rw [e1, eR, nI_eq (by omega) (by omega)] at y
                  rw [if_pos z, if_pos (by omega)]
                · rw [if_neg z, ← hBB c, cw_B_n y hm, if_neg]
                  intro e
                  have := un _ m y (by omega)
                  omega
          | succ d ih =>
            intro j q no2 br2 iu2 hj hq hlj g1 g2
            obtain ⟨q, rfl⟩ : ∃ s, q = s + 1 := ⟨q - 1, by omega⟩
            have hnp : 4 * n + j < 288 := by omega
            have cn0 : cw_cn R' ((4 * n + j) / 4) ≠ 0 := by rw [show (4 * n + j) / 4 = n by omega, ecn]; omega
            have w1 : ∀ q, q < 24 → cw_bw (cw_cn R') (upd no2 (4 * n + j) (-1)) q + cw_b (no2 (4 * n + j) = nI q) = cw_bw (cw_cn R') no2 q := fun q hq => by
              have := cw_bw_upd (c := cw_cn R') (no := no2) (i := 4 * n + j) (-1) hnp cn0 q
              rw [cw_b_f (P := (-1 : Int32) = nI q) (cw_m1 (by omega))] at this
              exact this
            refine br_f (by rw [cw_x4]; exact nI_ge (by omega) (by omega)) ⟨vp_in_nI hnp (by decide), ?_⟩
            rw [nI_clamp (by omega)]
            refine cw_releaseBlock (w := cw_bw (cw_cn R') (upd no2 (4 * n + j) (-1))) (cw_BI_ext g2 (fun q hq => (w1 q hq).symm)) (by rw [g1, if_neg (by omega)]; exact cw_o_up (k4 _ hnp) hL) (fun q _ => by have := cw_bw_le (cw_cn R') (upd no2 (4 * n + j) (-1)) q; omega) (fun iu3 br3 g3 => ?_)
            refine ⟨vp_in_nI hnp (by decide), nm_r (e' := upd no2 (4 * n + j) (-1)) (by rw [cw_bym]) (nm_r (nI_1 _) (ih (j + 1) q _ br3 iu3 (by omega) (by omega) (by omega) (fun k => ?_) g3))⟩
            by_cases x : k = 4 * n + j
            · rw [x, pk_us, if_pos (by omega)]
            · rw [pk_un x, g1]
              by_cases w : 4 * n + l ≤ k ∧ k < 4 * n + j
              · rw [if_pos w, if_pos (by omega)]
              · rw [if_neg w, if_neg (by omega)]
        exact key (4 - l) l 5 no1 br1 iu1 (by omega) (by omega) (by omega) (fun k => by rw [if_neg (by omega)]) k5.2.1
  rw [cr, h3 _ hr]
  rcases h1 (12 * v + f) with e | ⟨n, hn', e⟩
  · rw [e]
    refine br_t cw_m1neg ?_
    rw [cw_ct_0.mpr (fun k hk z => z (cw_B_m (by rw [show (4 * (12 * v + f) + l + k) / 4 = 12 * v + f by omega]; exact e)))] at rest
    exact rest
  · rw [e]
    refine br_f (nI_pos (by omega)) ⟨vr, nm_r (cw_x4p n l) ⟨5, ?_⟩⟩
    have eB : ∀ p, p < 4 → cw_B R no (4 * (12 * v + f) + p) = no (4 * n + p) := fun p hp => cw_B_np e hn' hp
    have key : ∀ d j q, l + j + d = 4 → d < q → wX_cut_67 post (nI l) (nI (12 * v + f)) li up pr iu ha nh nu ro no nr nd br lb lv ld de dn sl q (nI (cw_ct (fun q => cw_B R no (4 * (12 * v + f) + l + q) ≠ -1) j)) (nI (4 * n + l + j)) := by
      intro d
      induction d with
      | zero =>
        intro j q hj hq
        obtain ⟨q, rfl⟩ : ∃ s, q = s + 1 := ⟨q - 1, by omega⟩
        have ej : j = 4 - l := by omega
        subst ej
        refine ⟨vr, ?_⟩
        rw [cr, h3 _ hr, e, cw_x4]
        exact br_t (nI_le (by omega) (by omega)) rest
      | succ d ih =>
        intro j q hj hq
        obtain ⟨q, rfl⟩ : ∃ s, q = s + 1 := ⟨q - 1, by omega⟩
        refine ⟨vr, ?_⟩
        rw [cr, h3 _ hr, e, cw_x4]
        refine br_f (nI_ge (by omega) (by omega)) ⟨vp_in_nI (by omega) (by decide), ?_⟩
        rw [nI_clamp (by omega)]
        have i := ih (j + 1) q (by omega) (by omega)
        rw [cw_ct_s] at i
        have eb := eB (l + j) (by omega)
        rw [← Nat.add_assoc, ← Nat.add_assoc] at eb
        by_cases z : no (4 * n + l + j) = -1
        · refine br_t ((cw_o_neg (h4 _ (by omega)) (by omega)).mpr z) (nm_r (nI_1 _) ?_)
          rw [cw_b_f (fun y => y (eb.trans z)), Nat.add_zero] at i
          exact i
        · refine br_f (fun y => z ((cw_o_neg (h4 _ (by omega)) (by omega)).mp y)) (nm_r (nI_1 _) (nm_r (nI_1 _) ?_))
          rw [cw_b_t (fun y => z (eb.symm.trans y))] at i
          exact i
    exact key (4 - l) 0 5 (by omega) (by omega)
theorem cw_vc_cut {k : Nat} (I : cw_Rel k li up pr iu ha nh nu ro no nr nd br lb lv ld de dn sl nx st bk sp va hs th nm) (v1 v2 v3 : Int32) : wpX_cut (fun r u' => wpY_cut (fun r' v' => r' = r ∧ i_Rel (k + 5) u' v') (nx, st, bk, sp, va, hs, th, nm) v1 v2 v3) (li, up, pr, iu, ha, nh, nu, ro, no, nr, nd, br, lb, lv, ld, de, dn, sl) v1 v2 v3 := by
  have I0 := I
  have I5 := cw_up (Nat.le_add_right k 5) I0
  obtain ⟨L, a, R, T, h1, h2, h3, h4, h5, h6, h7⟩ := I
  by_cases g : (∃ j, j < 2 ∧ v1 = nI j) ∧ (∃ j, j < 4 ∧ v2 = nI j) ∧ (∃ j, j < 5 ∧ v3 = nI j) ∧ up ≠ 0
  · obtain ⟨⟨v, hv, rfl⟩, ⟨f, hf, rfl⟩, ⟨l, hl, rfl⟩, hu⟩ := g
    rcases h7 with ⟨eT, U⟩ | ⟨_, D⟩
    · rw [eT] at h2 h4 h5
      have hth : ¬ th 0 = 0 := by rw [U.2.1]; decide
      obtain ⟨hn, hhn, enh⟩ := U.2.2.2.2.2.1
      refine cw_xcut U.2.2.2.1 h1.2.2.2 hhn enh hu hv hf hl (fun R' iu' nh' ro' no' nr' nd' br' I' hB' hR' hnh => ?_)
      refine cw_ycut hv hf hl hth (fun sp' e1 => ?_)
      have hB : ∀ c, cw_B R' no' c = cw_B R no (if 4 * (12 * v + f) + l ≤ c ∧ c < 4 * (12 * v + f) + 4 then 288 else c) := fun c => by
        rw [hB']
        by_cases z : 4 * (12 * v + f) + l ≤ c ∧ c < 4 * (12 * v + f) + 4
        · rw [if_pos z, if_pos z, cw_B_m (c := 288) (h2.2.2.2 _ (by omega))]
        · rw [if_neg z, if_neg z]
      have g2 : ∀ c, 96 ≤ c → (if 4 * (12 * v + f) + l ≤ c ∧ c < 4 * (12 * v + f) + 4 then 288 else c) = c := fun c hc => if_neg (by omega)
      have g3 : ∀ c, c < 288 → sp' c = cw_S sp (if 4 * (12 * v + f) + l ≤ c ∧ c < 4 * (12 * v + f) + 4 then 288 else c) := fun c hc => by
        rw [e1]
        by_cases z : 4 * (12 * v + f) + l ≤ c ∧ c < 4 * (12 * v + f) + 4
        · rw [if_pos z, if_pos z, cw_S_f (by omega)]
        · rw [if_neg z, if_neg z, cw_S_t hc]
      have g4 : ∀ c, c < 288 → (if 4 * (12 * v + f) + l ≤ c ∧ c < 4 * (12 * v + f) + 4 then 288 else c) < 288 → va c = va (if 4 * (12 * v + f) + l ≤ c ∧ c < 4 * (12 * v + f) + 4 then 288 else c) := fun c _ z => by
        by_cases y : 4 * (12 * v + f) + l ≤ c ∧ c < 4 * (12 * v + f) + 4
        · rw [if_pos y] at z; omega
        · rw [if_neg y]
      exact ⟨congrArg nI (cw_fill h4 h2.2.2.2 (by omega)), cw_Rel_gen _ h1 h2 h3 h4 h5 h6 U hB g2 g3 g4 hR' I' hnh U.2.2.1 (fun j hj => rfl)⟩
    · exact absurd D.1 hu
  · exact cw_xno_cut g (cw_yno_cut (fun z => g ⟨z.1, z.2.1, z.2.2.1, (cw_upth I0).mpr z.2.2.2⟩) ⟨rfl, I5⟩)
end
end
section
/-! shared -/
theorem cw_pcN : ∀ (m n : Nat), 0 < n → n < 2 ^ m → cw_ct (fun b => (n.testBit b && (n - 1).testBit b) = true) m + 1 = cw_ct (fun b => n.testBit b = true) m
  | 0, n, h0, h => by
    have : (2 : Nat) ^ 0 = 1 := rfl
    omega
  | m + 1, n, h0, h => by
    have h2 : n / 2 < 2 ^ m := by
      rw [Nat.pow_succ] at h
      omega
    rw [cw_ct_h, cw_ct_h]
    have t1 : ∀ i, n.testBit (1 + i) = (n / 2).testBit i := fun i => by rw [Nat.add_comm, Nat.testBit_add_one]
    have t2 : ∀ i, (n - 1).testBit (1 + i) = ((n - 1) / 2).testBit i := fun i => by rw [Nat.add_comm, Nat.testBit_add_one]
    have e1 : cw_ct (fun i => (n.testBit (1 + i) && (n - 1).testBit (1 + i)) = true) m = cw_ct (fun i => ((n / 2).testBit i && ((n - 1) / 2).testBit i) = true) m := cw_ct_eq fun i _ => by rw [t1, t2]
    have e2 : cw_ct (fun i => n.testBit (1 + i) = true) m = cw_ct (fun i => (n / 2).testBit i = true) m := cw_ct_eq fun i _ => by rw [t1]
    rw [e1, e2]
    have z0 : cw_b ((n.testBit 0 && (n - 1).testBit 0) = true) = 0 := cw_b_f fun z => by
      rw [Nat.testBit_zero, Nat.testBit_zero, Bool.and_eq_true, decide_eq_true_eq, decide_eq_true_eq] at z
      omega
    rw [z0]
    by_cases o : n % 2 = 1
    · have z1 : cw_b (n.testBit 0 = true) = 1 := cw_b_t (by rw [Nat.testBit_zero]; exact decide_eq_true o)
      have e3 : cw_ct (fun i => ((n / 2).testBit i && ((n - 1) / 2).testBit i) = true) m = cw_ct (fun i => (n / 2).testBit i = true) m := cw_ct_eq fun i _ => by
        rw [show (n - 1) / 2 = n / 2 by omega, Bool.and_self]
      omega
    · have z1 : cw_b (n.testBit 0 = true) = 0 := cw_b_f (by rw [Nat.testBit_zero, decide_eq_true_eq]; exact o)
      have ih := cw_pcN m (n / 2) (by omega) h2
      rw [show n / 2 - 1 = (n - 1) / 2 by omega] at ih
      omega
noncomputable def cw_pc (x : Int32) : Nat := cw_ct (fun b => bt x b = true) 32
theorem cw_pc_0 {x : Int32} (h : cw_pc x = 0) : x = 0 := by
  apply b_ext
  intro i hi
  rw [b_0]
  exact Bool.eq_false_iff.mpr (cw_ct_0.mp h i hi)
theorem cw_pc_z : cw_pc 0 = 0 := cw_ct_0.mpr fun k _ z => by rw [b_0] at z; exact Bool.noConfusion z
theorem cw_pc_s {x : Int32} (h : ¬ x = 0) : cw_pc (x &&& (x - 1)) + 1 = cw_pc x := by
  have h0 : 0 < x.toBitVec.toNat := by
    apply Nat.pos_of_ne_zero
    intro z
    apply h
    apply Int32.toBitVec_inj.mp
    apply BitVec.eq_of_toNat_eq
    rw [z]
    rfl
  have hl := x.toBitVec.isLt
  have e := cw_pcN 32 x.toBitVec.toNat h0 hl
  have s : (x - 1).toBitVec.toNat = x.toBitVec.toNat - 1 := by
    rw [Int32.toBitVec_sub, BitVec.toNat_sub, show (Int32.toBitVec 1).toNat = 1 from rfl]
    omega
  have e1 : cw_pc (x &&& (x - 1)) = cw_ct (fun b => (x.toBitVec.toNat.testBit b && (x.toBitVec.toNat - 1).testBit b) = true) 32 := cw_ct_eq fun b _ => by
    rw [b_and, ← s]
    exact Iff.rfl
  rw [e1, e]
  exact cw_ct_eq fun b _ => Iff.rfl
section
variable {li up pr iu ha nh nu : Int32} {ro no nr nd br lb lv ld de dn sl : Nat → Int32}
theorem cw_nodeSet {post : Int32 → Prop} {n : Nat} (hn : n < 72) (hno : ∀ k, k < 288 → cw_o 24 (no k))
    (H : ∀ x, (∀ b, b < 32 → (bt x b = true ↔ ∃ i, i < 4 ∧ no (4 * n + i) = nI b)) → post x) : wpX_nodeSet post (li, up, pr, iu, ha, nh, nu, ro, no, nr, nd, br, lb, lv, ld, de, dn, sl) (nI n) := by
  unfold wpX_nodeSet
  refine nm_r (cw_x4' n) ⟨5, ?_⟩
  have key : ∀ d j q x, j + d = 4 → d < q → (∀ b, b < 32 → (bt x b = true ↔ ∃ i, i < j ∧ no (4 * n + i) = nI b)) → wX_nodeSet_6 post (nI n) li up pr iu ha nh nu ro no nr nd br lb lv ld de dn sl q x (nI (4 * n + j)) := by
    intro d
    induction d with
    | zero =>
      intro j q x hj hq h
      obtain ⟨q, rfl⟩ : ∃ s, q = s + 1 := ⟨q - 1, by omega⟩
      have ej : j = 4 := by omega
      subst ej
      exact br_t (by rw [cw_x4]; exact nI_le (by omega) (by omega)) (H x h)
    | succ d ih =>
      intro j q x hj hq h
      obtain ⟨q, rfl⟩ : ∃ s, q = s + 1 := ⟨q - 1, by omega⟩
      refine br_f (by rw [cw_x4]; exact nI_ge (by omega) (by omega)) ⟨vp_in_nI (by omega) (by decide), ?_⟩
      rw [nI_clamp (by omega)]
      rcases hno (4 * n + j) (by omega) with e | ⟨c, hc, e⟩
      · rw [e]
        refine br_t cw_m1neg (nm_r (nI_1 _) (ih (j + 1) q x (by omega) (by omega) (fun b hb => ?_)))
        rw [h b hb]
        constructor
        · exact fun ⟨i, hi, z⟩ => ⟨i, by omega, z⟩
        · intro ⟨i, hi, z⟩
          refine ⟨i, ?_, z⟩
          rcases Nat.lt_or_ge i j with y | y
          · exact y
          · have : i = j := by omega
            rw [this, e] at z; exact absurd z (cw_m1 (by omega))
      · rw [e]
        refine br_f (nI_pos (by omega)) ⟨vp_in_nI (by omega) (by decide), nm_e (nm_r (nI_1 _) (ih (j + 1) q _ (by omega) (by omega) (fun b hb => ?_)))⟩
        rw [b_or, cw_bit1 (by omega) hb, Bool.or_eq_true, h b hb, decide_eq_true_eq]
        constructor
        · intro z
          rcases z with ⟨i, hi, z⟩ | z
          · exact ⟨i, by omega, z⟩
          · exact ⟨j, by omega, by rw [e, z]⟩
        · intro ⟨i, hi, z⟩
          by_cases y : i = j
          · rw [y, e, nI_eq (by omega) (by omega)] at z
            exact Or.inr z.symm
          · exact Or.inl ⟨i, by omega, z⟩
  exact key 4 0 5 0 (by omega) (by omega) (fun b hb => by
    rw [b_0]
    exact ⟨fun z => Bool.noConfusion z, fun ⟨i, hi, _⟩ => absurd hi (Nat.not_lt_zero i)⟩)
theorem cw_blocksOf {post : Int32 → Prop} {R : Nat → Int32} {v t : Nat} (hR : ∀ g, cw_o 72 (R g)) (hro : ∀ k, k < 24 → ro k = R k) (hno : ∀ k, k < 288 → cw_o 24 (no k)) (hv : v < 2) (ht : t < 3)
    (H : ∀ x, (∀ b, b < 32 → (bt x b = true ↔ ∃ i, i < 16 ∧ cw_B R no (48 * v + 16 * t + i) = nI b)) → post x) : wpX_blocksOf post (li, up, pr, iu, ha, nh, nu, ro, no, nr, nd, br, lb, lv, ld, de, dn, sl) (nI v) (nI t) := by
  unfold wpX_blocksOf
  refine ⟨5, ?_⟩
  have key : ∀ d j q x, j + d = 4 → d < q → (∀ b, b < 32 → (bt x b = true ↔ ∃ i, i < 4 * j ∧ cw_B R no (48 * v + 16 * t + i) = nI b)) → wX_blocksOf_5 post (nI v) (nI t) li up pr iu ha nh nu ro no nr nd br lb lv ld de dn sl q x (nI j) := by
    intro d
    induction d with
    | zero =>
      intro j q x hj hq h
      obtain ⟨q, rfl⟩ : ∃ s, q = s + 1 := ⟨q - 1, by omega⟩
      have ej : j = 4 := by omega
      subst ej
      exact br_t (nI_le (a := 4) (by omega) (by omega)) (H x h)
    | succ d ih =>
      intro j q x hj hq h
      obtain ⟨q, rfl⟩ : ∃ s, q = s + 1 := ⟨q - 1, by omega⟩
      refine br_f (nI_ge (b := 4) (by omega) (by omega)) (cw_rootOf ⟨vp_in_nI (by omega) (by decide), ?_⟩)
      rw [nI_clamp (by omega), hro _ (by omega)]
      refine nm_e ?_
      rcases hR (4 * (3 * v + t) + j) with e | ⟨n, hn, e⟩
      · rw [e]
        refine br_t cw_m1neg (nm_r (nI_1 _) (ih (j + 1) q x (by omega) (by omega) (fun b hb => ?_)))
        rw [h b hb]
        constructor
        · exact fun ⟨i, hi, z⟩ => ⟨i, by omega, z⟩
        · intro ⟨i, hi, z⟩
          refine ⟨i, ?_, z⟩
          rcases Nat.lt_or_ge i (4 * j) with y | y
          · exact y
          · rw [cw_B_m (by rw [show (48 * v + 16 * t + i) / 4 = 4 * (3 * v + t) + j by omega]; exact e)] at z
            exact absurd z (cw_m1 (by omega))
      · rw [e]
        refine br_f (nI_pos (by omega)) (cw_nodeSet hn hno (fun y hy => nm_e (nm_r (nI_1 _) (ih (j + 1) q _ (by omega) (by omega) (fun b hb => ?_)))))
        rw [b_or, Bool.or_eq_true, h b hb, hy b hb]
        constructor
        · intro z
          rcases z with ⟨i, hi, z⟩ | ⟨i, hi, z⟩
          · exact ⟨i, by omega, z⟩
          · refine ⟨4 * j + i, by omega, ?_⟩
            rw [show 48 * v + 16 * t + (4 * j + i) = 4 * (4 * (3 * v + t) + j) + i by omega, cw_B_np e hn hi]
            exact z
        · intro ⟨i, hi, z⟩
          rcases Nat.lt_or_ge i (4 * j) with w | w
          · exact Or.inl ⟨i, w, z⟩
          · refine Or.inr ⟨i - 4 * j, by omega, ?_⟩
            rw [show 48 * v + 16 * t + i = 4 * (4 * (3 * v + t) + j) + (i - 4 * j) by omega, cw_B_np e hn (by omega)] at z
            exact z
  exact key 4 0 5 0 (by omega) (by omega) (fun b hb => by
    rw [b_0]
    exact ⟨fun z => Bool.noConfusion z, fun ⟨i, hi, _⟩ => absurd hi (by omega)⟩)
theorem cw_shared_72 {post : Int32 → Prop} : ∀ d x c n, cw_pc x = d → d < n → post (nI (c + d)) → wX_shared_72 post li up pr iu ha nh nu ro no nr nd br lb lv ld de dn sl n x (nI c) := by
  intro d
  induction d with
  | zero =>
    intro x c n hx hn H
    obtain ⟨n, rfl⟩ : ∃ s, n = s + 1 := ⟨n - 1, by omega⟩
    exact br_t (cw_pc_0 hx) H
  | succ d ih =>
    intro x c n hx hn H
    obtain ⟨n, rfl⟩ : ∃ s, n = s + 1 := ⟨n - 1, by omega⟩
    have ne : ¬ x = 0 := fun z => by rw [z, cw_pc_z] at hx; omega
    have s := cw_pc_s ne
    refine br_f ne (nm_e (nm_r (nI_1 _) (ih _ (c + 1) n (by omega) (by omega) ?_)))
    rw [show c + 1 + d = c + (d + 1) by omega]
    exact H
end
section
variable {li up pr iu ha nh nu : Int32} {ro no nr nd br lb lv ld de dn sl : Nat → Int32}
variable {nx bk : Int32} {st : Int64} {sp : Nat → Int64} {va hs th nm : Nat → Int32}
theorem cw_yshared {post : Int32 → Prop} {x y : Nat} (hx : x + 16 ≤ 288) (hy : y + 16 ≤ 288)
    (H : post (nI (cw_ct (fun i => sp (x + i) ≠ 0 ∧ (∀ d, d < i → sp (x + d) ≠ sp (x + i)) ∧ ∃ q, q < 16 ∧ sp (y + q) = sp (x + i)) 16))) : ∃ n, wY_shared_93 post (nI x) (nI y) nx st bk sp va hs th nm n 0 (nI x) := by
  refine ⟨17, ?_⟩
  have e16 : ∀ a, nI a + 16 = nI (a + 16) := fun a => by rw [show (16 : Int32) = nI 16 from rfl, nI_add]
  have key : ∀ d j n, j + d = 16 → d < n → wY_shared_93 post (nI x) (nI y) nx st bk sp va hs th nm n (nI (cw_ct (fun i => sp (x + i) ≠ 0 ∧ (∀ d, d < i → sp (x + d) ≠ sp (x + i)) ∧ ∃ q, q < 16 ∧ sp (y + q) = sp (x + i)) j)) (nI (x + j)) := by
    intro d
    induction d with
    | zero =>
      intro j n hj hn
      obtain ⟨n, rfl⟩ : ∃ s, n = s + 1 := ⟨n - 1, by omega⟩
      have ej : j = 16 := by omega
      subst ej
      exact br_t (by rw [e16]; exact nI_le (by omega) (by omega)) H
    | succ d ih =>
      intro j n hj hn
      obtain ⟨n, rfl⟩ : ∃ s, n = s + 1 := ⟨n - 1, by omega⟩
      have hv : vp_in (nI (x + j)) 288 := vp_in_nI (by omega) (by decide)
      refine br_f (by rw [e16]; exact nI_ge (by omega) (by omega)) ⟨hv, ?_⟩
      rw [nI_clamp (by omega)]
      have i := ih (j + 1) n (by omega) (by omega)
      rw [cw_ct_s] at i
      by_cases z : sp (x + j) = 0
      · rw [cw_b_f (fun y => y.1 z), Nat.add_zero] at i
        exact br_t z (nm_r (nI_1 _) i)
      · refine br_f z ⟨hv, cw_heldIn (a := x) (b := x + j) (by omega) (by omega) (fun ⟨c, a1, a2, a3⟩ => ?_) (fun h => ?_)⟩
        · rw [cw_b_f (fun y => y.2.1 (c - x) (by omega) (by rw [show x + (c - x) = c by omega]; exact a3)), Nat.add_zero] at i
          exact br_f (by decide) (nm_r (nI_1 _) i)
        · refine br_t rfl ⟨hv, ?_⟩
          rw [e16]
          refine cw_heldIn (a := y) (b := y + 16) (by omega) (by omega) (fun ⟨c, a1, a2, a3⟩ => ?_) (fun h' => ?_)
          · rw [cw_b_t ⟨z, fun d hd => h (x + d) (by omega) (by omega), c - y, by omega, by rw [show y + (c - y) = c by omega]; exact a3⟩] at i
            exact br_f (by decide) (nm_r (nI_1 _) (nm_r (nI_1 _) i))
          · rw [cw_b_f (fun w => by obtain ⟨q, hq, e⟩ := w.2.2; exact h' (y + q) (by omega) (by omega) e), Nat.add_zero] at i
            exact br_t rfl (nm_r (nI_1 _) i)
  exact key 16 0 17 (by omega) (by omega)
theorem cw_vc_shared {k : Nat} (I : cw_Rel k li up pr iu ha nh nu ro no nr nd br lb lv ld de dn sl nx st bk sp va hs th nm) (v1 v2 v3 : Int32) : wpX_shared (fun r => wpY_shared (fun r' => r' = r ∧ i_Rel (k + 5) (li, up, pr, iu, ha, nh, nu, ro, no, nr, nd, br, lb, lv, ld, de, dn, sl) (nx, st, bk, sp, va, hs, th, nm)) (nx, st, bk, sp, va, hs, th, nm) v1 v2 v3) (li, up, pr, iu, ha, nh, nu, ro, no, nr, nd, br, lb, lv, ld, de, dn, sl) v1 v2 v3 := by
  have I0 := I
  have I5 := cw_up (Nat.le_add_right k 5) I0
  obtain ⟨L, a, R, T, h1, h2, h3, h4, h5, h6, h7⟩ := I
  by_cases g : (∃ j, j < 2 ∧ v1 = nI j) ∧ (∃ j, j < 3 ∧ v2 = nI j) ∧ (∃ j, j < 3 ∧ v3 = nI j) ∧ up ≠ 0
  · obtain ⟨⟨v, hv, rfl⟩, ⟨s, hs3, rfl⟩, ⟨t, ht, rfl⟩, hu⟩ := g
    rcases h7 with ⟨eT, U⟩ | ⟨_, D⟩
    · rw [eT] at h2 h4 h5
      have hth : ¬ th 0 = 0 := by rw [U.2.1]; decide
      have IV := U.2.2.2.1
      have hL := h1.2.2.2
      have hno : ∀ k, k < 288 → cw_o 24 (no k) := fun k hk => cw_o_up (h2.1 k hk) hL
      have ha := cw_Hs_at U.2.2.1 hv hs3
      have hb := cw_Hs_at U.2.2.1 hv ht
      obtain ⟨gv1, gc1⟩ := cw_yguard (post := fun _ _ => True) hv hs3
      obtain ⟨gv2, gc2⟩ := cw_yguard (post := fun _ _ => True) hv ht
      have ey : ∀ q, (48 : Int32) * nI v + 16 * nI q = nI (48 * v + 16 * q) := fun q => by rw [show (48 : Int32) = nI 48 from rfl, show (16 : Int32) = nI 16 from rfl, pk_mul, pk_mul, nI_add]
      have yr : ∀ {post : Int32 → Prop}, (hs (3 * v + s) = 0 → post (-2)) → (¬ hs (3 * v + s) = 0 → hs (3 * v + t) = 0 → post (-2)) → (¬ hs (3 * v + s) = 0 → ¬ hs (3 * v + t) = 0 → post (nI (cw_ct (fun i => sp (48 * v + 16 * s + i) ≠ 0 ∧ (∀ d, d < i → sp (48 * v + 16 * s + d) ≠ sp (48 * v + 16 * s + i)) ∧ ∃ q, q < 16 ∧ sp (48 * v + 16 * t + q) = sp (48 * v + 16 * s + i)) 16))) → wpY_shared post (nx, st, bk, sp, va, hs, th, nm) (nI v) (nI s) (nI t) := by
        intro post H1 H2 H3
        unfold wpY_shared
        refine cw_out_t hv (by decide) (br_t rfl ?_)
        refine cw_out_t hs3 (by decide) (br_t rfl ?_)
        refine cw_out_t ht (by decide) (br_t rfl (br_f hth ⟨gv1, ?_⟩))
        rw [gc1, gc2]
        by_cases z : hs (3 * v + s) = 0
        · exact br_t z (H1 z)
        · refine br_f z ⟨gv2, ?_⟩
          by_cases y : hs (3 * v + t) = 0
          · exact br_t y (H2 z y)
          · exact br_f y (nm_r (ey s) (nm_r (ey t) (cw_yshared (by omega) (by omega) (H3 z y))))
      have pos : ∀ q, hs (3 * v + q) = (if q = 0 then 1 else cw_pb pr (2 * v + q - 1)) → (q ≠ 0 → cw_pb pr (2 * v + q - 1) = 1) → ¬ hs (3 * v + q) = 0 := fun q e y => by
        rw [e]
        by_cases z : q = 0
        · rw [if_pos z]; decide
        · rw [if_neg z, y z]; decide
      have neg : ∀ q, hs (3 * v + q) = (if q = 0 then 1 else cw_pb pr (2 * v + q - 1)) → q ≠ 0 → cw_pb pr (2 * v + q - 1) = 0 → hs (3 * v + q) = 0 := fun q e z y => by
        rw [e, if_neg z]; exact y
      unfold wpX_shared
      refine cw_small_t hv (by decide) (br_f (by decide) ?_)
      refine cw_small_t hs3 (by decide) (br_f (by decide) ?_)
      refine cw_small_t ht (by decide) (br_f (by decide) (br_f hu ?_))
      refine cw_there hv hs3 (fun y1 => br_f (by decide) ?_) (fun z y => br_t rfl ?_)
      · refine cw_there hv ht (fun y2 => br_f (by decide) ?_) (fun z y => br_t rfl ?_)
        · refine cw_blocksOf IV.1 IV.2.2.1 hno hv hs3 (fun xa exa => ?_)
          refine cw_blocksOf IV.1 IV.2.2.1 hno hv ht (fun xb exb => ?_)
          refine nm_e ⟨33, ?_⟩
          have hle : cw_pc (xa &&& xb) ≤ 32 := cw_ct_le _ _
          refine cw_shared_72 (cw_pc (xa &&& xb)) _ 0 33 rfl (by omega) ?_
          rw [Nat.zero_add]
          refine yr (fun z => absurd z (pos s ha y1)) (fun _ z => absurd z (pos t hb y2)) (fun _ _ => ⟨congrArg nI ?_, I5⟩)
          have q : ∀ c d, c < 288 → d < 288 → (sp c = sp d ↔ cw_B R no c = cw_B R no d) := fun c d hc hd => by
            have y := h4 c d
            rw [cw_S_t hc, cw_S_t hd] at y
            exact y
          have q0 : ∀ c, c < 288 → (sp c = 0 ↔ cw_B R no c = -1) := fun c hc => by
            have y := cw_Sm_0 h4 h2.2.2.2 c
            rw [cw_S_t hc] at y
            exact y
          have e := cw_dist (fun i => cw_B R no (48 * v + 16 * s + i)) (fun z => ∃ q, q < 16 ∧ cw_B R no (48 * v + 16 * t + q) = z) 32 (by omega) 16 (fun c _ => cw_o_up (cw_B_o h2.2.2.1 h2.1 _) (by omega))
          have e2 : cw_pc (xa &&& xb) = cw_ct (fun b => (∃ c, c < 16 ∧ cw_B R no (48 * v + 16 * s + c) = nI b) ∧ ∃ q, q < 16 ∧ cw_B R no (48 * v + 16 * t + q) = nI b) 32 := cw_ct_eq fun b hb' => by
            rw [b_and, Bool.and_eq_true, exa b hb', exb b hb']
          rw [e2, ← e]
          apply cw_ct_eq
          intro i hi
          constructor
          · intro ⟨a1, a2, q1, hq1, a3⟩
            exact ⟨fun z => a1 ((q0 _ (by omega)).mpr z), fun d hd z => a2 d hd ((q _ _ (by omega) (by omega)).mpr z), q1, hq1, (q _ _ (by omega) (by omega)).mp a3⟩
          · intro ⟨a1, a2, q1, hq1, a3⟩
            exact ⟨fun z => a1 ((q0 _ (by omega)).mp z), fun d hd z => a2 d hd ((q _ _ (by omega) (by omega)).mp z), q1, hq1, (q _ _ (by omega) (by omega)).mpr a3⟩
        · refine yr (fun _ => ⟨rfl, I5⟩) (fun _ _ => ⟨rfl, I5⟩) (fun _ w => absurd (neg t hb z y) w)
      · refine yr (fun _ => ⟨rfl, I5⟩) (fun _ _ => ⟨rfl, I5⟩) (fun w _ => absurd (neg s ha z y) w)
    · exact absurd D.1 hu
  · exact cw_xno_shared g (cw_yno_shared (fun z => g ⟨z.1, z.2.1, z.2.2.1, (cw_upth I0).mpr z.2.2.2⟩) ⟨rfl, I5⟩)
end
end
section
/-! the start, the crash -/
theorem cw_cn_m1 {n : Nat} (hn : n < 72) : cw_cn (fun _ => -1) n = 0 := cw_ct_0.mpr fun _ _ z => cw_m1 (by omega) z
theorem cw_pb0 (i : Nat) (hi : i < 32) : cw_pb 0 i = 0 := by rw [cw_pb_bt hi, b_0, if_neg (by decide)]
theorem cw_Cnt0 {no nr br : Nat → Int32} (h1 : ∀ n, n < 72 → nr n = 0) (h2 : ∀ b, b < 24 → br b = 0) (h3 : ∀ k, k < 288 → cw_o 24 (no k)) : cw_Cnt (cw_cn (fun _ => -1)) no nr br 0 := by
  have hb : ∀ b, cw_bw (cw_cn (fun _ => -1)) no b = 0 := fun b => cw_ct_0.mpr fun k hk z => z.1 (cw_cn_m1 (by omega))
  refine ⟨fun n hn => by rw [h1 n hn, cw_cn_m1 hn]; rfl, ⟨fun b hb' => by rw [h2 b hb', hb]; rfl, ?_⟩, h3⟩
  rw [cw_ct_0.mpr (fun k _ z => z (hb k))]
  rfl
section
variable {li up pr iu ha nh nu : Int32} {ro no nr nd br lb lv ld de dn sl : Nat → Int32}
theorem cw_startMemory {post : SX → Prop} (H : ∀ ro' nr' nd' br' lb' ld', (∀ k, k < 24 → ro' k = -1 ∧ br' k = 0) → (∀ k, k < 72 → nr' k = 0 ∧ nd' k = 0) → (∀ l, l < 8 → lb' l = -1 ∧ ld' l = 0) → post (li, up, 0, 0, 0, 71, nu, ro', no, nr', nd', br', lb', lv, ld', de, dn, sl)) : wpX_startMemory post (li, up, pr, iu, ha, nh, nu, ro, no, nr, nd, br, lb, lv, ld, de, dn, sl) := by
  unfold wpX_startMemory
  have key3 : ∀ ro' nr' nd' br', (∀ k, k < 24 → ro' k = -1 ∧ br' k = 0) → (∀ k, k < 72 → nr' k = 0 ∧ nd' k = 0) → ∀ d j q lb' ld', j + d = 8 → d < q → (∀ l, l < j → lb' l = -1 ∧ ld' l = 0) → wX_startMemory_58 post li up pr iu ha nh nu q (nI j) ro' no nr' nd' br' lb' lv ld' de dn sl := by
    intro ro' nr' nd' br' g1 g2 d
    induction d with
    | zero =>
      intro j q lb' ld' hj hq h
      obtain ⟨q, rfl⟩ : ∃ s, q = s + 1 := ⟨q - 1, by omega⟩
      have ej : j = 8 := by omega
      subst ej
      exact br_t (nI_le (a := 8) (by omega) (by omega)) (H ro' nr' nd' br' lb' ld' g1 g2 h)
    | succ d ih =>
      intro j q lb' ld' hj hq h
      obtain ⟨q, rfl⟩ : ∃ s, q = s + 1 := ⟨q - 1, by omega⟩
      have hv : vp_in (nI j) 8 := vp_in_nI (by omega) (by decide)
      have cl : (nI j).toNatClampNeg = j := nI_clamp (by omega)
      refine br_f (nI_ge (b := 8) (by omega) (by omega)) ⟨hv, nm_r (e' := upd lb' j (-1)) (by rw [cl, cw_bym]) ⟨hv, nm_r (e' := upd ld' j 0) (by rw [cl, cw_bl0]) (nm_r (nI_1 _) (ih (j + 1) q _ _ (by omega) (by omega) (fun l hl => ?_)))⟩⟩
      by_cases z : l = j
      · rw [z, pk_us, pk_us]; exact ⟨rfl, rfl⟩
      · rw [pk_un z, pk_un z]; exact h l (by omega)
  have key2 : ∀ ro' br', (∀ k, k < 24 → ro' k = -1 ∧ br' k = 0) → ∀ d j q nr' nd', j + d = 72 → d < q → (∀ l, l < j → nr' l = 0 ∧ nd' l = 0) → wX_startMemory_30 post li up pr iu ha nh nu q (nI j) ro' no nr' nd' br' lb lv ld de dn sl := by
    intro ro' br' g1 d
    induction d with
    | zero =>
      intro j q nr' nd' hj hq h
      obtain ⟨q, rfl⟩ : ∃ s, q = s + 1 := ⟨q - 1, by omega⟩
      have ej : j = 72 := by omega
      subst ej
      exact br_t (nI_le (a := 72) (by omega) (by omega)) ⟨9, key3 ro' nr' nd' br' g1 h 8 0 9 lb ld (by omega) (by omega) (fun l hl => absurd hl (Nat.not_lt_zero l))⟩
    | succ d ih =>
      intro j q nr' nd' hj hq h
      obtain ⟨q, rfl⟩ : ∃ s, q = s + 1 := ⟨q - 1, by omega⟩
      have hv : vp_in (nI j) 72 := vp_in_nI (by omega) (by decide)
      have cl : (nI j).toNatClampNeg = j := nI_clamp (by omega)
      refine br_f (nI_ge (b := 72) (by omega) (by omega)) ⟨hv, nm_r (e' := upd nr' j 0) (by rw [cl, cw_y0]) ⟨hv, nm_r (e' := upd nd' j 0) (by rw [cl, cw_bl0]) (nm_r (nI_1 _) (ih (j + 1) q _ _ (by omega) (by omega) (fun l hl => ?_)))⟩⟩
      by_cases z : l = j
      · rw [z, pk_us, pk_us]; exact ⟨rfl, rfl⟩
      · rw [pk_un z, pk_un z]; exact h l (by omega)
  have key1 : ∀ d j q ro' br', j + d = 24 → d < q → (∀ l, l < j → ro' l = -1 ∧ br' l = 0) → wX_startMemory_2 post li up pr iu ha nh nu q (nI j) ro' no nr nd br' lb lv ld de dn sl := by
    intro d
    induction d with
    | zero =>
      intro j q ro' br' hj hq h
      obtain ⟨q, rfl⟩ : ∃ s, q = s + 1 := ⟨q - 1, by omega⟩
      have ej : j = 24 := by omega
      subst ej
      exact br_t (nI_le (a := 24) (by omega) (by omega)) ⟨73, key2 ro' br' h 72 0 73 nr nd (by omega) (by omega) (fun l hl => absurd hl (Nat.not_lt_zero l))⟩
    | succ d ih =>
      intro j q ro' br' hj hq h
      obtain ⟨q, rfl⟩ : ∃ s, q = s + 1 := ⟨q - 1, by omega⟩
      have hv : vp_in (nI j) 24 := vp_in_nI (by omega) (by decide)
      have cl : (nI j).toNatClampNeg = j := nI_clamp (by omega)
      refine br_f (nI_ge (b := 24) (by omega) (by omega)) ⟨hv, nm_r (e' := upd ro' j (-1)) (by rw [cl, cw_bym]) ⟨hv, nm_r (e' := upd br' j 0) (by rw [cl, cw_s0]) (nm_r (nI_1 _) (ih (j + 1) q _ _ (by omega) (by omega) (fun l hl => ?_)))⟩⟩
      by_cases z : l = j
      · rw [z, pk_us, pk_us]; exact ⟨rfl, rfl⟩
      · rw [pk_un z, pk_un z]; exact h l (by omega)
  exact ⟨25, key1 24 0 25 ro br (by omega) (by omega) (fun l hl => absurd hl (Nat.not_lt_zero l))⟩
theorem cw_xcrash {post : Int32 → SX → Prop} (hu : ¬ up = 0) (H : ∀ no' lv', post 0 (li, 0, pr, iu, ha, nh, nu, ro, no', nr, nd, br, lb, lv', ld, de, dn, sl)) : wpX_crash post (li, up, pr, iu, ha, nh, nu, ro, no, nr, nd, br, lb, lv, ld, de, dn, sl) := by
  unfold wpX_crash
  have key2 : ∀ no' d j q lv', j + d = 8 → d < q → wX_crash_38 post li 0 pr iu ha nh nu q (nI j) ro no' nr nd br lb lv' ld de dn sl := by
    intro no' d
    induction d with
    | zero =>
      intro j q lv' hj hq
      obtain ⟨q, rfl⟩ : ∃ s, q = s + 1 := ⟨q - 1, by omega⟩
      have ej : j = 8 := by omega
      subst ej
      exact br_t (nI_le (a := 8) (by omega) (by omega)) (H no' lv')
    | succ d ih =>
      intro j q lv' hj hq
      obtain ⟨q, rfl⟩ : ∃ s, q = s + 1 := ⟨q - 1, by omega⟩
      exact br_f (nI_ge (b := 8) (by omega) (by omega)) ⟨vp_in_nI (by omega) (by decide), nm_e (nm_r (nI_1 _) (ih (j + 1) q _ (by omega) (by omega)))⟩
  have key1 : ∀ d j q no', j + d = 288 → d < q → wX_crash_16 post li 0 pr iu ha nh nu q (nI j) ro no' nr nd br lb lv ld de dn sl := by
    intro d
    induction d with
    | zero =>
      intro j q no' hj hq
      obtain ⟨q, rfl⟩ : ∃ s, q = s + 1 := ⟨q - 1, by omega⟩
      have ej : j = 288 := by omega
      subst ej
      exact br_t (nI_le (a := 288) (by omega) (by omega)) ⟨9, key2 no' 8 0 9 lv (by omega) (by omega)⟩
    | succ d ih =>
      intro j q no' hj hq
      obtain ⟨q, rfl⟩ : ∃ s, q = s + 1 := ⟨q - 1, by omega⟩
      exact br_f (nI_ge (b := 288) (by omega) (by omega)) ⟨vp_in_nI (by omega) (by decide), nm_e (nm_r (nI_1 _) (ih (j + 1) q _ (by omega) (by omega)))⟩
  exact br_f hu ⟨289, key1 288 0 289 no (by omega) (by omega)⟩
end
theorem cw_init {L : Nat} {post : SX → Prop} (H : ∀ ro' nr' nd' br' lb' ld', (∀ k, k < 24 → ro' k = -1 ∧ br' k = 0) → (∀ k, k < 72 → nr' k = 0 ∧ nd' k = 0) → (∀ l, l < 8 → lb' l = -1 ∧ ld' l = 0) → post (nI L, 1, 0, 0, 0, 71, 1, ro', fun _ => 0, nr', nd', br', lb', fun _ => 0, ld', fun _ => 0, fun _ => 0, fun _ => 0)) :
    wX_init_116 post (nI L) 0 0 0 0 0 0 0 (fun _ => 0) (fun _ => 0) (fun _ => 0) (fun _ => 0) (fun _ => 0) (fun _ => 0) (fun _ => 0) (fun _ => 0) (fun _ => 0) (fun _ => 0) (fun _ => 0) := by
  unfold wX_init_116
  exact cw_startMemory (fun ro' nr' nd' br' lb' ld' g1 g2 g3 => H ro' nr' nd' br' lb' ld' g1 g2 g3)
theorem cw_inv0 (L : Nat) : ¬ cw_vl (fun _ => 0) L := fun z => z.1 (show (0 : Int32) ≤ 0 by decide)
theorem cw_Rel0 {L : Nat} (h4 : 4 ≤ L) (h24 : L ≤ 24) {ro' nr' nd' br' lb' ld' : Nat → Int32} (g1 : ∀ k, k < 24 → ro' k = -1 ∧ br' k = 0) (g2 : ∀ k, k < 72 → nr' k = 0 ∧ nd' k = 0) (g3 : ∀ l, l < 8 → lb' l = -1 ∧ ld' l = 0) :
    cw_Rel 1 (nI L) 1 0 0 0 71 1 ro' (fun _ => 0) nr' nd' br' lb' (fun _ => 0) ld' (fun _ => 0) (fun _ => 0) (fun _ => 0) 1 0 (nI L) (fun _ => 0) (fun _ => 0) (upd (upd (fun _ => 0) 0 1) 3 1) (upd (fun _ => 0) 0 1) (fun _ => 0) := by
  have o0 : ∀ q : Nat, q < 288 → cw_o L ((fun _ => 0 : Nat → Int32) q) := fun q _ => Or.inr ⟨0, by omega, rfl⟩
  have hB : ∀ c, cw_B (fun _ => -1) (fun _ => 0) c = -1 := fun c => cw_B_m rfl
  have ck : ∀ s e, 1 ≤ e → cw_Ck 0 s (fun _ => 0) (upd (upd (fun _ => 0) 0 1) 3 1) (fun _ => 0) (fun _ => -1) e := fun s e he => Or.inr ⟨rfl, cw_inv0 s, rfl, fun j hj => by rw [pk_un (by omega), pk_un (by omega)], fun _ _ => rfl⟩
  refine ⟨L, 0, fun _ => -1, fun _ => 0, ⟨rfl, rfl, h4, h24⟩, ⟨o0, o0, fun _ => Or.inl rfl, fun _ _ => rfl⟩, ⟨by omega, ?_, ?_, fun z => ?_, fun z => ?_⟩, ?_, ?_, ⟨0, by omega, rfl, fun _ _ => ⟨0, by omega, rfl⟩⟩, Or.inl ⟨rfl, rfl, ?_, ?_, ⟨fun _ => Or.inl rfl, fun _ _ => rfl, fun k hk => (g1 k hk).1, o0, cw_Cnt0 (fun n hn => (g2 n hn).1) (fun b hb => (g1 b hb).2) (fun q _ => Or.inr ⟨0, by omega, rfl⟩), fun n hn z => absurd (cw_cn_m1 hn) z, fun g _ n hn z => absurd z (cw_m1 (by omega))⟩, ⟨0, by omega, rfl⟩, ⟨71, by omega, rfl⟩, fun l hl => Or.inl (g3 l hl), ?_, ⟨rfl, 1, by omega, by omega, rfl, fun s _ => nI_lt (a := 0) (b := 1) (by omega) (by omega)⟩⟩⟩
  · rw [pk_un (by omega)]; exact ck 0 1 (by omega)
  · rw [pk_un (by omega)]; exact ck _ 2 (by omega)
  · rw [pk_un (by omega)] at z; exact absurd z (by decide)
  · rw [pk_un (by omega)] at z; exact absurd z (by decide)
  · intro c d
    rw [hB, hB]
    have e : ∀ c, cw_S (fun _ => 0) c = 0 := fun c => by
      unfold cw_S
      by_cases z : c < 288
      · rw [if_pos z]
      · rw [if_neg z]
    rw [e, e]
    exact ⟨fun _ => rfl, fun _ => rfl⟩
  · intro c b _ hb z
    exact absurd ((hB c).symm.trans z) (cw_m1 (by omega))
  · exact pk_us
  · refine ⟨by rw [pk_un (by omega), pk_us], by rw [Nat.zero_add, pk_us], fun v t hv ht => ?_⟩
    rw [pk_un (by omega), pk_un (by omega), cw_pb0 _ (by omega)]
  · intro c b hb z
    rw [hB] at z; exact absurd z (cw_m1 (by omega))
theorem i_vc0 (k0 : Int32) : wpX_init (fun u => wpY_init (fun v => i_Rel 1 u v) k0) k0 := by
  have yi : ∀ {post : SY → Prop} {L : Nat}, post (1, 0, nI L, fun _ => 0, fun _ => 0, upd (upd (fun _ => 0) 0 1) 3 1, upd (fun _ => 0) 0 1, fun _ => 0) → wY_init_66 post (nI L) 0 0 0 (fun _ => 0) (fun _ => 0) (fun _ => 0) (fun _ => 0) (fun _ => 0) := by
    intro post L h
    unfold wY_init_66
    exact nm_r (by rw [cw_bl1]) (nm_r (by rw [cw_bl1]) (nm_r (by rw [cw_bl1]) h))
  unfold wpX_init wpY_init
  by_cases h4 : (4 : Int32) ≤ k0
  · refine br_t h4 ?_
    by_cases h24 : k0 ≤ 24
    · have h0 : ¬ k0 < 0 := fun z => absurd (Int32.lt_of_le_of_lt h4 z) (by decide)
      obtain ⟨j, hj, rfl⟩ := nI_of h0
      have e4 := (nI_leI (a := 4) (by omega) hj).mp h4
      have e24 := (nI_leI (b := 24) hj (by omega)).mp h24
      exact br_t h24 (cw_init fun ro' nr' nd' br' lb' ld' g1 g2 g3 => br_t h4 (br_t h24 (yi (cw_Rel0 e4 e24 g1 g2 g3))))
    · exact br_f h24 (cw_init (L := 24) fun ro' nr' nd' br' lb' ld' g1 g2 g3 => br_t h4 (br_f h24 (yi (L := 24) (cw_Rel0 (by omega) (by omega) g1 g2 g3))))
  · exact br_f h4 (cw_init (L := 4) fun ro' nr' nd' br' lb' ld' g1 g2 g3 => br_f h4 (yi (L := 4) (cw_Rel0 (by omega) (by omega) g1 g2 g3)))
end
section
/-! crash, damage, info -/
theorem cw_Ck_sh {f : Int32} {s e e' : Nat} {sl sl' hs hs' nm nm' R R' : Nat → Int32} (h : cw_Ck f s sl hs nm R e) (h1 : ∀ j, j < 29 → sl' (29 * s + j) = sl (29 * s + j)) (h2 : ∀ j, j < 6 → hs' (6 * e' + j) = hs (6 * e + j)) (h3 : nm' e' = nm e) (h4 : ∀ k, k < 24 → R' (24 * e' + k) = R (24 * e + k)) : cw_Ck f s sl' hs' nm' R' e' := by
  have z := h1 0 (by omega)
  rw [Nat.add_zero] at z
  rcases h with ⟨a1, a2, a3, a4, a5⟩ | ⟨a1, a2, a3, a4, a5⟩
  · refine Or.inl ⟨a1, (cw_vl_c h1).mpr a2, by rw [h3, a3, z], ⟨?_, ?_, fun v t hv ht => ?_⟩, fun k hk => ?_⟩
    · have y := h2 0 (by omega)
      rw [Nat.add_zero, Nat.add_zero] at y
      rw [y]; exact a4.1
    · rw [h2 3 (by omega)]; exact a4.2.1
    · rw [h1 25 (by omega), Nat.add_assoc, h2 _ (by omega), ← Nat.add_assoc]; exact a4.2.2 v t hv ht
    · rw [h4 k hk, a5 k hk, Nat.add_assoc, h1 _ (by omega)]
  · exact Or.inr ⟨a1, fun y => a2 ((cw_vl_c h1).mp y), by rw [h3, a3], fun j hj => by rw [h2 j hj]; exact a4 j hj, fun k hk => by rw [h4 k hk]; exact a5 k hk⟩
theorem cw_Ck_01 {f : Int32} {s e : Nat} {sl hs nm R : Nat → Int32} (h : cw_Ck f s sl hs nm R e) : (f = 0 ∨ f = 1) ∧ ∀ j, j < 6 → hs (6 * e + j) = 0 ∨ hs (6 * e + j) = 1 := by
  rcases h with ⟨a1, a2, a3, a4, a5⟩ | ⟨a1, a2, a3, a4, a5⟩
  · refine ⟨Or.inr a1, fun j hj => ?_⟩
    have c : j = 0 ∨ j = 3 ∨ ∃ v t, v < 2 ∧ (t = 1 ∨ t = 2) ∧ j = 3 * v + t := by
      have : j = 0 ∨ j = 1 ∨ j = 2 ∨ j = 3 ∨ j = 4 ∨ j = 5 := by omega
      rcases this with e | e | e | e | e | e
      · exact Or.inl e
      · exact Or.inr (Or.inr ⟨0, 1, by omega, by omega, by omega⟩)
      · exact Or.inr (Or.inr ⟨0, 2, by omega, by omega, by omega⟩)
      · exact Or.inr (Or.inl e)
      · exact Or.inr (Or.inr ⟨1, 1, by omega, by omega, by omega⟩)
      · exact Or.inr (Or.inr ⟨1, 2, by omega, by omega, by omega⟩)
    rcases c with rfl | rfl | ⟨v, t, hv, ht, rfl⟩
    · exact Or.inr a4.1
    · exact Or.inr a4.2.1
    · rw [← Nat.add_assoc, a4.2.2 v t hv ht]; exact cw_pb_01 _ _
  · exact ⟨Or.inl a1, fun j hj => Or.inl (a4 j hj)⟩
theorem cw_Cs_Nw {k a : Nat} {R sl hs th nm : Nat → Int32} (h : cw_Cs k a R sl hs th nm) : cw_Nw a (th 1 = 1) (th 2 = 1) sl := by
  obtain ⟨h1, h2, h3, h4, h5⟩ := h
  refine ⟨h1, ?_, ?_, h4⟩
  · rcases h2 with ⟨a1, a2, _⟩ | ⟨a1, a2, _⟩
    · exact ⟨fun _ => a2, fun _ => a1⟩
    · exact ⟨fun z => absurd (a1.symm.trans z) (by decide), fun z => absurd z a2⟩
  · rcases h3 with ⟨a1, a2, _⟩ | ⟨a1, a2, _⟩
    · exact ⟨fun _ => a2, fun _ => a1⟩
    · exact ⟨fun z => absurd (a1.symm.trans z) (by decide), fun z => absurd z a2⟩
theorem cw_B_down {R R' no dn : Nat → Int32} {ψ : Nat → Nat} (hR : ∀ g, cw_o 72 (R g)) (hC : cw_CK R no dn) (h : ∀ g, R' g = R (ψ g)) (hψ : ∀ g, 24 ≤ ψ g) (c : Nat) : cw_B R' dn c = cw_B R no (4 * ψ (c / 4) + c % 4) := by
  rw [cw_B_re h c]
  have e1 : (4 * ψ (c / 4) + c % 4) / 4 = ψ (c / 4) := by omega
  have e2 : (4 * ψ (c / 4) + c % 4) % 4 = c % 4 := by omega
  rcases hR (ψ (c / 4)) with y | ⟨n, hn, y⟩
  · rw [cw_B_m (by rw [e1]; exact y), cw_B_m (by rw [e1]; exact y)]
  · rw [cw_B_n (by rw [e1]; exact y) hn, cw_B_n (by rw [e1]; exact y) hn, e2]
    exact hC _ (hψ _) n hn y _ (by omega)
section
variable {li up pr iu ha nh nu : Int32} {ro no nr nd br lb lv ld de dn sl : Nat → Int32}
variable {nx bk : Int32} {st : Int64} {sp : Nat → Int64} {va hs th nm : Nat → Int32}
theorem cw_th01 {k : Nat} (I : cw_Rel k li up pr iu ha nh nu ro no nr nd br lb lv ld de dn sl nx st bk sp va hs th nm) : (∀ j, j < 18 → hs j = 0 ∨ hs j = 1) ∧ (∀ j, j < 3 → th j = 0 ∨ th j = 1) := by
  obtain ⟨L, a, R, T, h1, h2, h3, h4, h5, h6, h7⟩ := I
  have c1 := cw_Ck_01 h3.2.1
  have c2 := cw_Ck_01 h3.2.2.1
  have c0 : (th 0 = 0 ∨ th 0 = 1) ∧ ∀ j, j < 6 → hs j = 0 ∨ hs j = 1 := by
    rcases h7 with ⟨_, U⟩ | ⟨_, D⟩
    · refine ⟨Or.inr U.2.1, fun j hj => ?_⟩
      have q := fun v t hv ht => cw_Hs_at (v := v) (t := t) U.2.2.1 hv ht
      have e := q (j / 3) (j % 3) (by omega) (by omega)
      rw [show 3 * (j / 3) + j % 3 = j by omega] at e
      rw [e]
      by_cases z : j % 3 = 0
      · rw [if_pos z]; exact Or.inr rfl
      · rw [if_neg z]; exact cw_pb_01 _ _
    · exact ⟨Or.inl D.2.1, fun j hj => Or.inl (D.2.2.1 j hj)⟩
  constructor
  · intro j hj
    rcases Nat.lt_or_ge j 6 with z | z
    · exact c0.2 j z
    · rcases Nat.lt_or_ge j 12 with y | y
      · have e := c1.2 (j - 6) (by omega)
        rw [show 6 * 1 + (j - 6) = j by omega] at e
        exact e
      · have e := c2.2 (j - 12) (by omega)
        rw [show 6 * 2 + (j - 12) = j by omega] at e
        exact e
  · intro j hj
    have : j = 0 ∨ j = 1 ∨ j = 2 := by omega
    rcases this with rfl | rfl | rfl
    · exact c0.1
    · exact c1.1
    · exact c2.1
theorem cw_vc_crash {k : Nat} (I : cw_Rel k li up pr iu ha nh nu ro no nr nd br lb lv ld de dn sl nx st bk sp va hs th nm) : wpX_crash (fun r u' => wpY_crash (fun r' v' => r' = r ∧ i_Rel (k + 5) u' v') (nx, st, bk, sp, va, hs, th, nm)) (li, up, pr, iu, ha, nh, nu, ro, no, nr, nd, br, lb, lv, ld, de, dn, sl) := by
  have I0 := I
  have I5 := cw_up (Nat.le_add_right k 5) I0
  obtain ⟨L, a, R, T, h1, h2, h3, h4, h5, h6, h7⟩ := I
  rcases h7 with ⟨eT, U⟩ | ⟨eT, D⟩
  · rw [eT] at h2 h4 h5
    refine cw_xcrash (by rw [U.1]; decide) (fun no' lv' => ?_)
    unfold wpY_crash
    refine br_f (by rw [U.2.1]; decide) ?_
    refine cw_clearState (s := 0) (by omega) (fun sp' hs' e1 e2 => ?_)
    refine ⟨rfl, ?_⟩
    have hR : ∀ g, (fun g => R (if g < 24 then 72 else g)) g = R (if g < 24 then 72 else g) := fun g => rfl
    have hB := cw_B_down h2.2.2.1 U.2.2.2.1.2.2.2.2.2.2 hR (fun g => by
      by_cases z : g < 24
      · rw [if_pos z]; omega
      · rw [if_neg z]; omega)
    have hφ : ∀ c, cw_S sp' c = cw_S sp (4 * (if c / 4 < 24 then 72 else c / 4) + c % 4) := fun c => by
      by_cases z : c / 4 < 24
      · rw [if_pos z, cw_S_f (c := 4 * 72 + c % 4) (by omega), cw_S_t (by omega), e1, if_pos (by omega)]
      · rw [if_neg z, show 4 * (c / 4) + c % 4 = c by omega]
        unfold cw_S
        rw [e1, if_neg (c := 96 * 0 ≤ c ∧ c < 96 * 0 + 96) (by omega)]
    have R1 : ∀ g, 24 ≤ g → R (if g < 24 then 72 else g) = R g := fun g hg => by rw [if_neg (by omega)]
    refine ⟨L, a, fun g => R (if g < 24 then 72 else g), dn, h1, ⟨h2.2.1, h2.2.1, fun g => h2.2.2.1 _, fun g hg => ?_⟩, ?_, cw_Sm_re _ h4 hφ hB, ?_, cw_St_up (cw_St_re h6 (fun c hc => by rw [← hφ c, cw_S_t hc])) (by omega), Or.inr ⟨rfl, rfl, pk_us, fun j hj => ?_, fun k hk => ?_⟩⟩
    · try dsimp only
      rw [R1 g (by omega)]; exact h2.2.2.2 g hg
    · obtain ⟨d1, d2, d3, d4, d5⟩ := cw_Cs_up h3 (Nat.le_add_right k 5)
      have t1 : upd th 0 0 1 = th 1 := pk_un (by omega)
      have t2 : upd th 0 0 2 = th 2 := pk_un (by omega)
      refine ⟨d1, ?_, ?_, by rw [t1, t2]; exact d4, by rw [t1]; exact d5⟩
      · rw [t1]
        exact cw_Ck_sh d2 (fun _ _ => rfl) (fun j _ => by rw [e2, if_neg (by omega)]) (pk_un (by omega)) (fun k _ => R1 _ (by omega))
      · rw [t2]
        exact cw_Ck_sh d3 (fun _ _ => rfl) (fun j _ => by rw [e2, if_neg (by omega)]) (pk_un (by omega)) (fun k _ => R1 _ (by omega))
    · intro c b hc hb e
      rw [hB, if_neg (by omega), show 4 * (c / 4) + c % 4 = c by omega] at e
      exact h5 c b hc hb e
    · rw [e2, if_pos (by omega)]
    · try dsimp only
      rw [if_pos hk]; exact h2.2.2.2 72 (by omega)
  · unfold wpX_crash wpY_crash
    exact br_t D.1 (br_t D.2.1 ⟨rfl, I5⟩)
theorem cw_xor1 {x : Int32} {j : Nat} (hj : j < 32) : x ^^^ ((1 : Int32) <<< (nI j &&& 31)) ≠ x := by
  intro e
  have a := congrArg (fun z => bt z j) e
  try dsimp only at a
  rw [b_xor, cw_bit1 hj hj, decide_eq_true rfl] at a
  cases h : bt x j <;> rw [h] at a <;> exact Bool.noConfusion a
theorem cw_rem29 (x : Int32) {d : Nat} (h0 : 0 < d) (hd : d < 2 ^ 31) : ∃ i, i < d ∧ (x &&& 2147483647) - (x &&& 2147483647) / nI d * nI d = nI i := by
  obtain ⟨m, hm, e⟩ := pk_andE x (m := 2147483647) 31 (by decide)
  rw [e, pk_rem hm h0 hd]
  exact ⟨m % d, Nat.mod_lt _ h0, rfl⟩
theorem cw_vc_damage {k : Nat} (I : cw_Rel k li up pr iu ha nh nu ro no nr nd br lb lv ld de dn sl nx st bk sp va hs th nm) (hk5 : k + 5 ≤ 2561) (v1 : Int32) : wpX_damage (fun r u' => wpY_damage (fun r' v' => r' = r ∧ i_Rel (k + 5) u' v') (nx, st, bk, sp, va, hs, th, nm) v1) (li, up, pr, iu, ha, nh, nu, ro, no, nr, nd, br, lb, lv, ld, de, dn, sl) v1 := by
  have I0 := I
  have I5 := cw_up (Nat.le_add_right k 5) I0
  obtain ⟨hh01, ht01⟩ := cw_th01 I0
  obtain ⟨L, a, R, T, h1, h2, h3, h4, h5, h6, h7⟩ := I
  unfold wpX_damage
  rcases h7 with ⟨eT, U⟩ | ⟨eT, D⟩
  · exact br_f (by rw [U.1]; decide) (br_f (by rw [U.2.1]; decide) ⟨rfl, I5⟩)
  · refine br_t D.1 ?_
    have Nw := cw_Cs_Nw h3
    refine cw_newest' Nw (fun t1 => ?_) (fun t1 _ => ?_)
    · have ha2 := Nw.1
      refine br_t (nI_pos' (by omega)) ⟨by decide, ?_⟩
      obtain ⟨i, hi, ei⟩ := cw_rem29 v1 (d := 29) (by omega) (by omega)
      have ei' : nI a * 29 + ((v1 &&& 2147483647) - (v1 &&& 2147483647) / 29 * 29) = nI (29 * a + i) := by
        rw [show (29 : Int32) = nI 29 from rfl, ei, pk_mul, nI_add, Nat.mul_comm]
      rw [ei']
      obtain ⟨j, hj, ej⟩ := pk_andE ((v1.toUInt32 >>> ((8 : Int32).toUInt32 &&& Int32.toUInt32 31)).toInt32) (m := 31) 5 (by decide)
      have ej' : nI j &&& 31 = nI j := by
        rw [pk_andN (n := j) (by omega) 5 (by decide), Nat.mod_eq_of_lt hj]
      rw [ej, ← ej']
      refine ⟨vp_in_nI (by omega) (by decide), vp_in_nI (by omega) (by decide), nm_r (e' := upd sl (29 * a + i) (sl (29 * a + i) ^^^ ((1 : Int32) <<< (nI j &&& 31)))) (by rw [nI_clamp (by omega)]) ?_⟩
      generalize exx : sl (29 * a + i) ^^^ ((1 : Int32) <<< (nI j &&& 31)) = x
      have hx : x ≠ sl (29 * a + i) := by rw [← exx]; exact cw_xor1 (by omega)
      have bad : ¬ cw_vl (upd sl (29 * a + i) x) a := cw_vl_u (Nw.2.1.mp t1) hi hx
      have oth : ∀ q, q < 29 → upd sl (29 * a + i) x (29 * (1 - a) + q) = sl (29 * (1 - a) + q) := fun q hq => pk_un (by omega)
      have oth0 : upd sl (29 * a + i) x (29 * (1 - a)) = sl (29 * (1 - a)) := pk_un (by omega)
      have Nw' : cw_Nw (1 - a) (th 2 = 1) False (upd sl (29 * a + i) x) := by
        refine ⟨by omega, ?_, ?_, fun z => z.elim⟩
        · rw [cw_vl_c oth]; exact Nw.2.2.1
        · rw [show 1 - (1 - a) = a by omega]
          exact ⟨fun z => z.elim, fun z => bad z⟩
      have yr : ∀ {post : Int32 → SY → Prop}, (∀ sp' va' hs', (∀ c, c < 288 → sp' c = if c < 96 then sp c else if c < 192 then sp (c + 96) else 0) → (∀ c, 96 ≤ c → c < 192 → va' c = va (c + 96)) → (∀ j, j < 18 → hs' j = if j < 6 then hs j else if j < 12 then hs (j + 6) else 0) → post (if th 2 = 0 then 0 else 1) (nx, st, bk, sp', va', hs', upd (upd th 1 (th 2)) 2 0, upd (upd nm 1 (nm 2)) 2 0)) → wpY_damage post (nx, st, bk, sp, va, hs, th, nm) v1 := by
        intro post H
        unfold wpY_damage
        refine br_t D.2.1 (br_f (by rw [t1]; decide) ?_)
        refine cw_copyState (f := 2) (t := 1) (by omega) (by omega) (by omega) hh01 ht01 (fun sp1 va1 hs1 e1 e2 e3 => ?_)
        refine cw_clearState (s := 2) (by omega) (fun sp2 hs2 e4 e5 => ?_)
        have H' := H sp2 va1 hs2 (fun c hc => ?_) (fun c c1 c2 => ?_) (fun j hj => ?_)
        · have et : upd (upd th 1 (th 2)) 2 0 1 = th 2 := by rw [pk_un (by omega), pk_us]
          by_cases z : th 2 = 0
          · rw [if_pos z] at H'
            exact br_t (et.trans z) H'
          · rw [if_neg z] at H'
            exact br_f (fun w => z (et.symm.trans w)) H'
        · rw [e4]
          by_cases z : c < 96
          · rw [if_pos z, if_neg (by omega), e1, cw_mv_o (by omega)]
          · rw [if_neg z]
            by_cases y : c < 192
            · rw [if_pos y, if_neg (by omega), e1, cw_mv_i (by omega) (by omega)]
              exact congrArg sp (by omega)
            · rw [if_neg y, if_pos (by omega)]
        · rw [e2, cw_mv_i (by omega) (by omega)]
          exact congrArg va (by omega)
        · rw [e5]
          by_cases z : j < 6
          · rw [if_pos z, if_neg (by omega), e3, cw_mv_o (by omega)]
          · rw [if_neg z]
            by_cases y : j < 12
            · rw [if_pos y, if_neg (by omega), e3, cw_mv_i (by omega) (by omega)]
              exact congrArg hs (by omega)
            · rw [if_neg y, if_pos (by omega)]
      have fin : ∀ sp' va' hs', (∀ c, c < 288 → sp' c = if c < 96 then sp c else if c < 192 then sp (c + 96) else 0) → (∀ c, 96 ≤ c → c < 192 → va' c = va (c + 96)) → (∀ j, j < 18 → hs' j = if j < 6 then hs j else if j < 12 then hs (j + 6) else 0) → cw_Rel (k + 5) li up pr iu ha nh nu ro no nr nd br lb lv ld de dn (upd sl (29 * a + i) x) nx st bk sp' va' hs' (upd (upd th 1 (th 2)) 2 0) (upd (upd nm 1 (nm 2)) 2 0) := by
        intro sp' va' hs' e1 e2 e3
        rw [eT] at h2 h4 h5
        have hR : ∀ g, (fun g => R (if g < 24 then g else g + 24)) g = R (if g < 24 then g else g + 24) := fun g => rfl
        have hB := fun c => cw_B_re (no := dn) hR c
        have hφ : ∀ c, cw_S sp' c = cw_S sp (4 * (if c / 4 < 24 then c / 4 else c / 4 + 24) + c % 4) := fun c => by
          rcases Nat.lt_or_ge c 288 with w | w
          · rw [cw_S_t w, e1 c w]
            by_cases z : c < 96
            · rw [if_pos z, if_pos (show c / 4 < 24 by omega), show 4 * (c / 4) + c % 4 = c by omega, cw_S_t w]
            · rw [if_neg z, if_neg (show ¬ c / 4 < 24 by omega), show 4 * (c / 4 + 24) + c % 4 = c + 96 by omega]
              by_cases y : c < 192
              · rw [if_pos y, cw_S_t (by omega)]
              · rw [if_neg y, cw_S_f (by omega)]
          · rw [cw_S_f w, if_neg (by omega), cw_S_f (by omega)]
        have R1 : ∀ g, 24 ≤ g → R (if g < 24 then g else g + 24) = R (g + 24) := fun g hg => by rw [if_neg (by omega)]
        obtain ⟨d1, d2, d3, d4, d5⟩ := cw_Cs_up h3 (Nat.le_add_right k 5)
        have e4 : 1 - (1 - a) = a := by omega
        refine ⟨L, 1 - a, fun g => R (if g < 24 then g else g + 24), dn, h1, ⟨h2.2.1, h2.2.1, fun g => h2.2.2.1 _, fun g hg => ?_⟩, ⟨by omega, ?_, ?_, fun z => ?_, fun z => ?_⟩, cw_Sm_re _ h4 hφ hB, ?_, cw_St_up (cw_St_re h6 (fun c hc => by rw [← hφ c, cw_S_t hc])) (by omega), Or.inr ⟨rfl, D.1, ?_, fun j hj => ?_, fun k hk => ?_⟩⟩
        · try dsimp only
          rw [R1 g (by omega)]; exact h2.2.2.2 _ (by omega)
        · rw [pk_un (by omega), pk_us]
          refine cw_Ck_sh d3 oth (fun j hj => ?_) (by rw [pk_un (by omega), pk_us]) (fun k _ => ?_)
          · rw [e3 _ (by omega), if_neg (by omega), if_pos (by omega)]
            exact congrArg hs (by omega)
          · try dsimp only
            rw [R1 _ (by omega)]; exact congrArg R (by omega)
        · rw [pk_us, e4]
          refine Or.inr ⟨rfl, bad, pk_us, fun j hj => ?_, fun k hk => ?_⟩
          · rw [e3 _ (by omega), if_neg (by omega), if_neg (by omega)]
          · try dsimp only
            rw [R1 _ (by omega)]; exact h2.2.2.2 _ (by omega)
        · rw [pk_us] at z; exact absurd z (by decide)
        · rw [pk_un (by omega), pk_us] at z
          obtain ⟨_, lt⟩ := d4 z
          obtain ⟨q, hq, eq⟩ := d5 t1
          have v2 := Nw.2.2.1.mp z
          have p2 : ¬ sl (29 * (1 - a)) < 0 := fun w => v2.1 (Int32.le_of_lt w)
          obtain ⟨q2, hq2, eq2⟩ := nI_of p2
          rw [eq, eq2, nI_ltI hq2 (by omega)] at lt
          exact ⟨q2, by omega, by rw [oth0, eq2]⟩
        · intro c b hc hb e
          rw [hB, if_neg (by omega), show 4 * (c / 4 + 24) + c % 4 = c + 96 by omega] at e
          have lt : c + 96 < 288 := by
            rcases Nat.lt_or_ge (c + 96) 288 with w | w
            · exact w
            · rw [cw_B_m (h2.2.2.2 _ (by omega))] at e; exact absurd e (cw_m1 (by omega))
          rw [e2 c hc (by omega)]
          exact h5 _ b (by omega) hb e
        · rw [pk_un (by omega), pk_un (by omega)]; exact D.2.1
        · rw [e3 j (by omega), if_pos hj]; exact D.2.2.1 j hj
        · try dsimp only
          rw [if_pos hk]; exact D.2.2.2 k hk
      refine cw_newest' Nw' (fun t2 => br_t (nI_pos' (by omega)) ?_) (fun t2 _ => br_f cw_m1n0 ?_)
      · refine yr (fun sp' va' hs' e1 e2 e3 => ⟨?_, fin sp' va' hs' e1 e2 e3⟩)
        rw [t2, if_neg (by decide)]
      · refine yr (fun sp' va' hs' e1 e2 e3 => ⟨?_, fin sp' va' hs' e1 e2 e3⟩)
        rcases ht01 2 (by omega) with z | z
        · rw [if_pos z]
        · exact absurd z t2
    · refine br_f cw_m1n0 (br_t D.2.1 (br_t ?_ ⟨rfl, I5⟩))
      rcases ht01 1 (by omega) with z | z
      · exact z
      · exact absurd z t1
theorem cw_vc_info {k : Nat} (I : cw_Rel k li up pr iu ha nh nu ro no nr nd br lb lv ld de dn sl nx st bk sp va hs th nm) (v1 : Int32) : wpX_info (fun r => wpY_info (fun r' => r' = r ∧ i_Rel (k + 5) (li, up, pr, iu, ha, nh, nu, ro, no, nr, nd, br, lb, lv, ld, de, dn, sl) (nx, st, bk, sp, va, hs, th, nm)) (nx, st, bk, sp, va, hs, th, nm) v1) (li, up, pr, iu, ha, nh, nu, ro, no, nr, nd, br, lb, lv, ld, de, dn, sl) v1 := by
  have I0 := I
  have I5 := cw_up (Nat.le_add_right k 5) I0
  obtain ⟨hh01, ht01⟩ := cw_th01 I0
  obtain ⟨L, a, R, T, h1, h2, h3, h4, h5, h6, h7⟩ := I
  have Nw := cw_Cs_Nw h3
  unfold wpX_info wpY_info
  by_cases z0 : v1 < 0
  · exact br_t z0 (br_t z0 ⟨rfl, I5⟩)
  by_cases z7 : 7 < v1
  · exact br_f z0 (br_t z7 (br_f z0 (br_t z7 ⟨rfl, I5⟩)))
  refine br_f z0 (br_f z7 ?_)
  by_cases c0 : v1 = 0
  · refine br_t c0 ?_
    rcases h7 with ⟨_, U⟩ | ⟨_, D⟩
    · exact br_f (by rw [U.1]; decide) (br_f z0 (br_f z7 (br_t c0 (br_f (by rw [U.2.1]; decide) ⟨rfl, I5⟩))))
    · exact br_t D.1 (br_f z0 (br_f z7 (br_t c0 (br_t D.2.1 ⟨rfl, I5⟩))))
  refine br_f c0 ?_
  by_cases c1 : v1 = 1
  · refine br_t c1 ?_
    have yr : ∀ {r : Int32}, r = (if th 2 = 1 then 2 else if th 1 = 1 then 1 else 0) → wpY_info (fun r' => r' = r ∧ i_Rel (k + 5) (li, up, pr, iu, ha, nh, nu, ro, no, nr, nd, br, lb, lv, ld, de, dn, sl) (nx, st, bk, sp, va, hs, th, nm)) (nx, st, bk, sp, va, hs, th, nm) v1 := by
      intro r hr
      unfold wpY_info
      refine br_f z0 (br_f z7 (br_f c0 (br_t c1 ?_)))
      rcases ht01 2 (by omega) with w | w
      · refine br_t w ?_
        rw [if_neg (by rw [w]; decide)] at hr
        rcases ht01 1 (by omega) with u | u
        · rw [if_neg (by rw [u]; decide)] at hr
          exact br_t u ⟨hr.symm, I5⟩
        · rw [if_pos u] at hr
          exact br_f (by rw [u]; decide) ⟨hr.symm, I5⟩
      · rw [if_pos w] at hr
        exact br_f (by rw [w]; decide) ⟨hr.symm, I5⟩
    obtain ⟨n1, n2, n3, n4⟩ := Nw
    have ea : a = 0 ∨ a = 1 := by omega
    rcases ea with rfl | rfl
    · have n3' : th 2 = 1 ↔ cw_vl sl 1 := n3
      refine cw_valid (s := 0) (by omega) (fun w0 => br_f (by decide) ?_) (fun w0 => br_t rfl ?_)
      · unfold wX_info_74
        refine cw_valid (s := 1) (by omega) (fun w1 => br_f (by decide) (yr ?_)) (fun w1 => br_t rfl (yr ?_))
        · rw [if_pos (n3'.mpr w1)]; decide
        · rw [if_neg (fun u => w1 (n3'.mp u)), if_pos (n2.mpr w0)]; decide
      · unfold wX_info_74
        refine cw_valid (s := 1) (by omega) (fun w1 => br_f (by decide) (yr ?_)) (fun w1 => br_t rfl (yr ?_))
        · exact absurd (n2.mp (n4 (n3'.mpr w1)).1) w0
        · rw [if_neg (fun u => w1 (n3'.mp u)), if_neg (fun u => w0 (n2.mp u))]; decide
    · have n3' : th 2 = 1 ↔ cw_vl sl 0 := n3
      refine cw_valid (s := 0) (by omega) (fun w0 => br_f (by decide) ?_) (fun w0 => br_t rfl ?_)
      · unfold wX_info_74
        refine cw_valid (s := 1) (by omega) (fun w1 => br_f (by decide) (yr ?_)) (fun w1 => br_t rfl (yr ?_))
        · rw [if_pos (n3'.mpr w0)]; decide
        · exact absurd (n2.mp (n4 (n3'.mpr w0)).1) w1
      · unfold wX_info_74
        refine cw_valid (s := 1) (by omega) (fun w1 => br_f (by decide) (yr ?_)) (fun w1 => br_t rfl (yr ?_))
        · rw [if_neg (fun u => w0 (n3'.mp u)), if_pos (n2.mpr w1)]; decide
        · rw [if_neg (fun u => w0 (n3'.mp u)), if_neg (fun u => w1 (n2.mp u))]; decide
  refine br_f c1 ?_
  by_cases c2 : v1 = 2
  · refine br_t c2 ?_
    refine cw_newest' Nw (fun t1 => ?_) (fun t1 _ => ?_)
    · refine br_t (nI_pos' (by have := Nw.1; omega)) ?_
      rw [cw_x29]
      refine ⟨vp_in_nI (by have := Nw.1; omega) (by decide), ?_⟩
      rw [nI_clamp (by have := Nw.1; omega)]
      refine br_f z0 (br_f z7 (br_f c0 (br_f c1 (br_t c2 ⟨?_, I5⟩))))
      rcases h3.2.1 with w | w
      · exact w.2.2.1
      · exact absurd (w.1.symm.trans t1) (by decide)
    · refine br_f cw_m1n0 (br_f z0 (br_f z7 (br_f c0 (br_f c1 (br_t c2 ⟨?_, I5⟩)))))
      rcases h3.2.1 with w | w
      · exact absurd w.1 t1
      · exact w.2.2.1
  refine br_f c2 ?_
  by_cases c3 : v1 = 3
  · exact br_t c3 (br_f z0 (br_f z7 (br_f c0 (br_f c1 (br_f c2 (br_t c3 ⟨by rw [h1.1, h1.2.1], I5⟩))))))
  refine br_f c3 ?_
  have bit : ∀ v t, v < 2 → t = 1 ∨ t = 2 → v1 = nI (4 + (2 * v + t - 1)) → ∀ {K : Int32 → Prop}, (∀ r, r = (if hs (3 * v + t) = 0 then 0 else 1) → K r) → wX_info_117 K v1 li up pr iu ha nh nu ro no nr nd br lb lv ld de dn sl := by
    intro v t hv ht ev K HK
    unfold wX_info_117
    have e1 : v1 - 4 = nI (2 * v + t - 1) := by
      rw [ev, show (4 : Int32) = nI 4 from rfl, pk_sub (by omega)]
      exact congrArg nI (by omega)
    rw [e1]
    rcases h7 with ⟨_, U⟩ | ⟨_, D⟩
    · refine br_f (by rw [U.1]; decide) (HK _ ?_)
      have hh := cw_Hs_at U.2.2.1 hv (show t < 3 by omega)
      rw [if_neg (by omega)] at hh
      show cw_pb pr (2 * v + t - 1) = _
      rw [hh]
      rcases cw_pb_01 pr (2 * v + t - 1) with w | w
      · rw [w, if_pos rfl]
      · rw [w, if_neg (by decide)]
    · refine br_t D.1 (HK _ ?_)
      rw [D.2.2.1 _ (by omega), if_pos rfl]
  have fin : ∀ {x r : Int32}, r = (if x = 0 then 0 else 1) → (x = 0 → (0 : Int32) = r ∧ i_Rel (k + 5) (li, up, pr, iu, ha, nh, nu, ro, no, nr, nd, br, lb, lv, ld, de, dn, sl) (nx, st, bk, sp, va, hs, th, nm)) ∧ (¬ x = 0 → (1 : Int32) = r ∧ i_Rel (k + 5) (li, up, pr, iu, ha, nh, nu, ro, no, nr, nd, br, lb, lv, ld, de, dn, sl) (nx, st, bk, sp, va, hs, th, nm)) := by
    intro x r hr
    by_cases w : x = 0
    · rw [if_pos w] at hr
      exact br_t w ⟨hr.symm, I5⟩
    · rw [if_neg w] at hr
      exact br_f w ⟨hr.symm, I5⟩
  by_cases c4 : v1 = 4
  · exact br_t c4 (bit 0 1 (by omega) (by omega) c4 (fun r hr => br_f z0 (br_f z7 (br_f c0 (br_f c1 (br_f c2 (br_f c3 (br_t c4 (fin hr)))))))))
  refine br_f c4 ?_
  by_cases c5 : v1 = 5
  · exact br_t c5 (bit 0 2 (by omega) (by omega) c5 (fun r hr => br_f z0 (br_f z7 (br_f c0 (br_f c1 (br_f c2 (br_f c3 (br_f c4 (br_t c5 (fin hr))))))))))
  refine br_f c5 ?_
  by_cases c6 : v1 = 6
  · exact br_t c6 (bit 1 1 (by omega) (by omega) c6 (fun r hr => br_f z0 (br_f z7 (br_f c0 (br_f c1 (br_f c2 (br_f c3 (br_f c4 (br_f c5 (br_t c6 (fin hr)))))))))))
  refine br_f c6 ?_
  by_cases c7 : v1 = 7
  · exact br_t c7 (bit 1 2 (by omega) (by omega) c7 (fun r hr => br_f z0 (br_f z7 (br_f c0 (br_f c1 (br_f c2 (br_f c3 (br_f c4 (br_f c5 (br_f c6 (br_t c7 (fin hr))))))))))))
  exact br_f c7 trivial
end
end
section
/-! sync: the component's side -/
theorem cw_cn4 (R : Nat → Int32) (n : Nat) : cw_cn R n = cw_ct (fun k => R k = nI n) 24 + cw_ct (fun k => R (24 + k) = nI n) 24 + cw_ct (fun k => R (48 + k) = nI n) 24 + cw_ct (fun k => R (72 + k) = nI n) 24 := by
  have a : cw_ct (fun g => R g = nI n) 96 = cw_ct (fun g => R g = nI n) 72 + cw_ct (fun k => R (72 + k) = nI n) 24 := cw_ct_add (fun g => R g = nI n) 72 24
  have b : cw_ct (fun g => R g = nI n) 72 = cw_ct (fun g => R g = nI n) 48 + cw_ct (fun k => R (48 + k) = nI n) 24 := cw_ct_add (fun g => R g = nI n) 48 24
  have c : cw_ct (fun g => R g = nI n) 48 = cw_ct (fun g => R g = nI n) 24 + cw_ct (fun k => R (24 + k) = nI n) 24 := cw_ct_add (fun g => R g = nI n) 24 24
  unfold cw_cn
  omega
/-- the roots behind a checkpoint: live, newest, previous -/
def cw_ps (g : Nat) : Nat := if g < 24 then g else if g < 72 then g - 24 else g
theorem cw_cn_ps {R R1 : Nat → Int32} (h72 : ∀ g, 72 ≤ g → R g = -1) (h : ∀ g, R1 g = if 48 ≤ g ∧ g < 72 then -1 else if 72 ≤ g ∧ g < 96 then R (g - 72) else R g) {n : Nat} (hn : n < 72) : cw_cn R1 n = cw_cn (fun g => R (cw_ps g)) n := by
  rw [cw_cn4, cw_cn4]
  have e1 : cw_ct (fun k => R1 k = nI n) 24 = cw_ct (fun k => R k = nI n) 24 := cw_ct_eq fun k hk => by rw [h, if_neg (by omega), if_neg (by omega)]
  have e2 : cw_ct (fun k => R1 (24 + k) = nI n) 24 = cw_ct (fun k => R (24 + k) = nI n) 24 := cw_ct_eq fun k hk => by rw [h, if_neg (by omega), if_neg (by omega)]
  have e3 : cw_ct (fun k => R1 (48 + k) = nI n) 24 = 0 := cw_ct_0.mpr fun k hk z => by
    rw [h, if_pos (by omega)] at z
    exact cw_m1 (by omega) z
  have e4 : cw_ct (fun k => R1 (72 + k) = nI n) 24 = cw_ct (fun k => R k = nI n) 24 := cw_ct_eq fun k hk => by
    rw [h, if_neg (by omega), if_pos (by omega), show 72 + k - 72 = k by omega]
  have f1 : cw_ct (fun k => (fun g => R (cw_ps g)) k = nI n) 24 = cw_ct (fun k => R k = nI n) 24 := cw_ct_eq fun k hk => by
    dsimp only
    unfold cw_ps
    rw [if_pos hk]
  have f2 : cw_ct (fun k => (fun g => R (cw_ps g)) (24 + k) = nI n) 24 = cw_ct (fun k => R k = nI n) 24 := cw_ct_eq fun k hk => by
    dsimp only
    unfold cw_ps
    rw [if_neg (by omega), if_pos (by omega), show 24 + k - 24 = k by omega]
  have f3 : cw_ct (fun k => (fun g => R (cw_ps g)) (48 + k) = nI n) 24 = cw_ct (fun k => R (24 + k) = nI n) 24 := cw_ct_eq fun k hk => by
    dsimp only
    unfold cw_ps
    rw [if_neg (by omega), if_pos (by omega), show 48 + k - 24 = 24 + k by omega]
  have f4 : cw_ct (fun k => (fun g => R (cw_ps g)) (72 + k) = nI n) 24 = 0 := cw_ct_0.mpr fun k hk z => by
    dsimp only at z
    unfold cw_ps at z
    rw [if_neg (by omega), if_neg (by omega), h72 _ (by omega)] at z
    exact cw_m1 (by omega) z
  dsimp only at f1 f2 f3 f4 ⊢
  omega
section
variable {li up pr iu ha nh nu : Int32} {ro no nr nd br lb lv ld de dn sl : Nat → Int32}
theorem cw_releaseSlot {post : SX → Prop} {R : Nat → Int32} {s : Nat} (h : cw_Cnt (cw_cn R) no nr br iu) (hR : ∀ g, cw_o 72 (R g)) (hs : s < 2) (hv : cw_vl sl s → ∀ k, k < 24 → R (48 + k) = sl (29 * s + 1 + k)) (hn : ¬ cw_vl sl s → ∀ k, k < 24 → R (48 + k) = -1)
    (H : ∀ R' iu' nr' nd' br', (∀ g, R' g = if 48 ≤ g ∧ g < 72 then -1 else R g) → cw_Cnt (cw_cn R') no nr' br' iu' → (∀ n, n < 72 → nd' n = nd n ∨ nd' n = 0) → post (li, up, pr, iu', ha, nh, nu, ro, no, nr', nd', br', lb, lv, ld, de, dn, sl)) : wpX_releaseSlot post (li, up, pr, iu, ha, nh, nu, ro, no, nr, nd, br, lb, lv, ld, de, dn, sl) (nI s) := by
  unfold wpX_releaseSlot
  refine cw_valid hs (fun w => br_f (by decide) ⟨25, ?_⟩) (fun w => br_t rfl ?_)
  · have key : ∀ d j q R' iu' nr' nd' br', j + d = 24 → d < q → (∀ g, R' g = if 48 ≤ g ∧ g < 48 + j then -1 else R g) → cw_Cnt (cw_cn R') no nr' br' iu' → (∀ n, n < 72 → nd' n = nd n ∨ nd' n = 0) → wX_releaseSlot_11 post (nI s) q (nI j) li up pr iu' ha nh nu ro no nr' nd' br' lb lv ld de dn sl := by
      intro d
      induction d with
      | zero =>
        intro j q R' iu' nr' nd' br' hj hq g1 g2 g3
        obtain ⟨q, rfl⟩ : ∃ s, q = s + 1 := ⟨q - 1, by omega⟩
        have ej : j = 24 := by omega
        subst ej
        exact br_t (nI_le (a := 24) (by omega) (by omega)) (H R' iu' nr' nd' br' g1 g2 g3)
      | succ d ih =>
        intro j q R' iu' nr' nd' br' hj hq g1 g2 g3
        obtain ⟨q, rfl⟩ : ∃ s, q = s + 1 := ⟨q - 1, by omega⟩
        refine br_f (nI_ge (b := 24) (by omega) (by omega)) ?_
        have ei : nI s * 29 + 1 + nI j = nI (29 * s + 1 + j) := by rw [cw_x29, nI_1, nI_add]
        rw [ei]
        refine ⟨vp_in_nI (by omega) (by decide), ?_⟩
        rw [nI_clamp (by omega), ← hv w j (by omega)]
        have eR : R' (48 + j) = R (48 + j) := by rw [g1, if_neg (by omega)]
        refine cw_release g2 (g := 48 + j) (by omega) eR (hR _) (fun iu1 nr1 nd1 br1 k1 k2 => ?_)
        refine nm_r (nI_1 _) (ih (j + 1) q _ iu1 nr1 nd1 br1 (by omega) (by omega) (fun g => ?_) k1 (fun n hn' => ?_))
        · by_cases z : g = 48 + j
          · rw [z, pk_us, if_pos (by omega)]
          · rw [pk_un z, g1]
            by_cases y : 48 ≤ g ∧ g < 48 + j
            · rw [if_pos y, if_pos (by omega)]
            · rw [if_neg y, if_neg (by omega)]
        · rcases k2 n hn' with z | ⟨z, _⟩
          · rw [z]; exact g3 n hn'
          · exact Or.inr z
    exact key 24 0 25 R iu nr nd br (by omega) (by omega) (fun g => by rw [if_neg (by omega)]) h (fun _ _ => Or.inl rfl)
  · refine H R iu nr nd br (fun g => ?_) h (fun _ _ => Or.inl rfl)
    by_cases z : 48 ≤ g ∧ g < 72
    · rw [if_pos z]
      have e := hn w (g - 48) (by omega)
      rw [show 48 + (g - 48) = g by omega] at e
      exact e
    · rw [if_neg z]
theorem cw_sync0 {post : Int32 → SX → Prop} {L s : Nat} {R : Nat → Int32} (I : cw_Iv L R iu ro no nr nd br dn) (hL : L ≤ 24) (hC : cw_Ca lb lv ld de) (hs : s < 2) (hv : cw_vl sl s → ∀ k, k < 24 → R (48 + k) = sl (29 * s + 1 + k)) (hn : ¬ cw_vl sl s → ∀ k, k < 24 → R (48 + k) = -1)
    (H : ∀ iu' nr' nd' br' ld' de' dn' sl', cw_Cnt (cw_cn (fun g => R (cw_ps g))) no nr' br' iu' → (∀ n, n < 72 → nd' n = 0) → cw_Ca lb lv ld' de' → (∀ q, q < 24 → de' q = cw_ctn lb lv de q) → (∀ k, k < 288 → dn' k = if nd (k / 4) = 0 then dn k else no k) → cw_Ws s 29 nu pr ro sl sl' → post nu (li, up, pr, iu', ha, nh, nu + 1, ro, no, nr', nd', br', lb, lv, ld', de', dn', sl')) : wX_sync_21 post 0 (nI s) li up pr iu ha nh nu ro no nr nd br lb lv ld de dn sl := by
  obtain ⟨h1, h2, h3, h4, h5, h6, h7⟩ := I
  unfold wX_sync_21
  refine cw_flush (fun k hk => cw_o_up (h4 k hk) hL) hC (fun nd1 ld1 de1 dn1 f1 f2 f3 f4 => br_t rfl ⟨25, ?_⟩)
  have key : ∀ d j q R' iu' nr' br', j + d = 24 → d < q → (∀ g, R' g = if 72 ≤ g ∧ g < 72 + j then R (g - 72) else R g) → cw_Cnt (cw_cn R') no nr' br' iu' → wX_sync_51 post (nI s) q (nI j) li up pr iu' ha nh nu ro no nr' nd1 br' lb lv ld1 de1 dn1 sl := by
    intro d
    induction d with
    | zero =>
      intro j q R' iu' nr' br' hj hq g1 g2
      obtain ⟨q, rfl⟩ : ∃ s, q = s + 1 := ⟨q - 1, by omega⟩
      have ej : j = 24 := by omega
      subst ej
      have g48 : ∀ k, k < 24 → R' (48 + k) = R (48 + k) := fun k hk => by rw [g1, if_neg (by omega)]
      refine br_t (nI_le (a := 24) (by omega) (by omega)) ?_
      refine cw_releaseSlot g2 (fun g => ?_) hs (fun w k hk => (g48 k hk).trans (hv w k hk)) (fun w k hk => (g48 k hk).trans (hn w k hk)) (fun R2 iu2 nr2 nd2 br2 k1 k2 k3 => ?_)
      · rw [g1]
        by_cases z : 72 ≤ g ∧ g < 72 + 24
        · rw [if_pos z]; exact h1 _
        · rw [if_neg z]; exact h1 _
      · refine cw_writeSlot hs (w := 29) (by omega) (fun sl' hW => nm_e ?_)
        refine H iu2 nr2 nd2 br2 ld1 de1 dn1 sl' (cw_Cnt_ext k2 (fun n hn => cw_cn_ps h2 (fun g => ?_) hn)) (fun n hn => ?_) f1 f2 f4 hW
        · rw [k1, g1]
        · rcases k3 n hn with z | z
          · rw [z]; exact f3 n hn
          · exact z
    | succ d ih =>
      intro j q R' iu' nr' br' hj hq g1 g2
      obtain ⟨q, rfl⟩ : ∃ s, q = s + 1 := ⟨q - 1, by omega⟩
      refine br_f (nI_ge (b := 24) (by omega) (by omega)) ⟨vp_in_nI (by omega) (by decide), ?_⟩
      rw [nI_clamp (by omega), h3 _ (by omega)]
      refine cw_hold g2 (g := 72 + j) (by omega) (by rw [g1, if_neg (by omega)]; exact h2 _ (by omega)) (h1 _) (fun iu1 nr1 br1 k1 => ?_)
      refine nm_r (nI_1 _) (ih (j + 1) q _ iu1 nr1 br1 (by omega) (by omega) (fun g => ?_) k1)
      by_cases z : g = 72 + j
      · rw [z, pk_us, if_pos (by omega)]
        exact congrArg R (by omega)
      · rw [pk_un z, g1]
        by_cases y : 72 ≤ g ∧ g < 72 + j
        · rw [if_pos y, if_pos (by omega)]
        · rw [if_neg y, if_neg (by omega)]
  exact key 24 0 25 R iu nr br (by omega) (by omega) (fun g => by rw [if_neg (by omega)]) h5
theorem cw_syncT {post : Int32 → SX → Prop} {L s : Nat} {R : Nat → Int32} {x : Int32} (I : cw_Iv L R iu ro no nr nd br dn) (hL : L ≤ 24) (hC : cw_Ca lb lv ld de) (hs : s < 2) (hx : ¬ x = 0) (hu : ¬ up = 0)
    (H : ∀ w no' nd' lv' ld' de' dn' sl', 0 < w → w < 29 → (∀ q, q < 24 → de' q = cw_ctn lb lv de q) → (∀ k, k < 288 → dn' k = if nd (k / 4) = 0 then dn k else no k) → cw_Ws s w nu pr ro sl sl' → post 0 (li, 0, pr, iu, ha, nh, nu, ro, no', nr, nd', br, lb, lv', ld', de', dn', sl')) : wX_sync_21 post x (nI s) li up pr iu ha nh nu ro no nr nd br lb lv ld de dn sl := by
  obtain ⟨h1, h2, h3, h4, h5, h6, h7⟩ := I
  unfold wX_sync_21
  refine cw_flush (fun k hk => cw_o_up (h4 k hk) hL) hC (fun nd1 ld1 de1 dn1 f1 f2 f3 f4 => br_f hx ⟨by decide, ?_⟩)
  obtain ⟨i, hi, ei⟩ := cw_rem29 x (d := 28) (by omega) (by omega)
  have ew : 1 + ((x &&& 2147483647) - (x &&& 2147483647) / 28 * 28) = nI (1 + i) := by
    rw [show (28 : Int32) = nI 28 from rfl, ei, show (1 : Int32) = nI 1 from rfl, nI_add]
  rw [ew]
  refine cw_writeSlot hs (w := 1 + i) (by omega) (fun sl' hW => ?_)
  refine cw_xcrash hu (fun no' lv' => ?_)
  exact H (1 + i) no' nd1 lv' ld1 de1 dn1 sl' (by omega) (by omega) f2 f4 hW
end
end
section
/-! sync: both sides -/
theorem cw_norm {k a : Nat} {R sl hs th nm : Nat → Int32} (h : cw_Cs k a R sl hs th nm) : ∃ a', cw_Cs k a' R sl hs th nm ∧ (¬ th 1 = 1 → a' = 1) := by
  by_cases t1 : th 1 = 1
  · exact ⟨a, h, fun z => absurd t1 z⟩
  · have h0 := h
    obtain ⟨h1, h2, h3, h4, h5⟩ := h
    have t2 : ¬ th 2 = 1 := fun z => t1 (h4 z).1
    have e : a = 0 ∨ a = 1 := by omega
    rcases e with rfl | rfl
    · refine ⟨1, ⟨by omega, ?_, ?_, fun z => absurd z t2, fun z => absurd z t1⟩, fun _ => rfl⟩
      · rcases h2 with ⟨z, _⟩ | ⟨a1, a2, a3, a4, a5⟩
        · exact absurd z t1
        · rcases h3 with ⟨z, _⟩ | ⟨b1, b2, b3, b4, b5⟩
          · exact absurd z t2
          · exact Or.inr ⟨a1, b2, a3, a4, a5⟩
      · rcases h2 with ⟨z, _⟩ | ⟨a1, a2, a3, a4, a5⟩
        · exact absurd z t1
        · rcases h3 with ⟨z, _⟩ | ⟨b1, b2, b3, b4, b5⟩
          · exact absurd z t2
          · exact Or.inr ⟨b1, a2, b3, b4, b5⟩
    · exact ⟨1, h0, fun _ => rfl⟩
section
variable {nx bk : Int32} {st : Int64} {sp : Nat → Int64} {va hs th nm : Nat → Int32}
theorem cw_ysync0 {post : Int32 → SY → Prop} (h0 : ¬ th 0 = 0) (hh01 : ∀ j, j < 18 → hs j = 0 ∨ hs j = 1) (ht01 : ∀ j, j < 3 → th j = 0 ∨ th j = 1)
    (H : ∀ sp' va' hs' th' nm', (∀ c, c < 288 → sp' c = sp (if c < 96 then c else c - 96)) → (∀ c, c < 288 → va' c = va (if c < 96 then c else c - 96)) → (∀ j, j < 18 → hs' j = hs (if j < 6 then j else j - 6)) → th' 0 = th 0 → th' 1 = th 0 → th' 2 = th 1 → nm' 1 = nx → nm' 2 = nm 1 → post nx (nx + 1, st, bk, sp', va', hs', th', nm')) : wpY_sync post (nx, st, bk, sp, va, hs, th, nm) 0 := by
  unfold wpY_sync
  refine br_f h0 (br_t rfl ?_)
  refine cw_copyState (f := 1) (t := 2) (by omega) (by omega) (by omega) hh01 ht01 (fun sp1 va1 hs1 e1 e2 e3 => ?_)
  refine cw_copyState (f := 0) (t := 1) (by omega) (by omega) (by omega) (fun j hj => ?_) (fun j hj => ?_) (fun sp2 va2 hs2 e4 e5 e6 => ?_)
  · rw [e3]
    by_cases z : 12 ≤ j
    · rw [cw_mv_i (by omega) (by omega)]; exact hh01 _ (by omega)
    · rw [cw_mv_o (by omega)]; exact hh01 _ hj
  · by_cases z : j = 2
    · rw [z, pk_us]; exact ht01 1 (by omega)
    · rw [pk_un z]; exact ht01 j hj
  · refine nm_e (nm_e ?_)
    rw [pk_us]
    refine H sp2 va2 hs2 _ _ (fun c hc => ?_) (fun c hc => ?_) (fun j hj => ?_) ?_ ?_ ?_ pk_us ?_
    · rw [e4]
      by_cases z : c < 96
      · rw [if_pos z, cw_mv_o (by omega), e1, cw_mv_o (by omega)]
      · rw [if_neg z]
        by_cases y : c < 192
        · rw [cw_mv_i (by omega) (by omega), e1, cw_mv_o (by omega)]
          exact congrArg sp (by omega)
        · rw [cw_mv_o (by omega), e1, cw_mv_i (by omega) (by omega)]
          exact congrArg sp (by omega)
    · rw [e5]
      by_cases z : c < 96
      · rw [if_pos z, cw_mv_o (by omega), e2, cw_mv_o (by omega)]
      · rw [if_neg z]
        by_cases y : c < 192
        · rw [cw_mv_i (by omega) (by omega), e2, cw_mv_o (by omega)]
          exact congrArg va (by omega)
        · rw [cw_mv_o (by omega), e2, cw_mv_i (by omega) (by omega)]
          exact congrArg va (by omega)
    · rw [e6]
      by_cases z : j < 6
      · rw [if_pos z, cw_mv_o (by omega), e3, cw_mv_o (by omega)]
      · rw [if_neg z]
        by_cases y : j < 12
        · rw [cw_mv_i (by omega) (by omega), e3, cw_mv_o (by omega)]
          exact congrArg hs (by omega)
        · rw [cw_mv_o (by omega), e3, cw_mv_i (by omega) (by omega)]
          exact congrArg hs (by omega)
    · rw [pk_un (by omega), pk_un (by omega)]
    · rw [pk_us, pk_un (by omega)]
    · rw [pk_un (by omega), pk_us]
    · rw [pk_un (by omega), pk_un (by omega), pk_us]
theorem cw_ysyncT {post : Int32 → SY → Prop} {x : Int32} (h0 : ¬ th 0 = 0) (hx : ¬ x = 0)
    (H : ∀ sp' hs' th' nm', (∀ c, c < 288 → sp' c = if 96 ≤ c ∧ c < 192 then sp c else 0) → (∀ j, j < 18 → hs' j = if 6 ≤ j ∧ j < 12 then hs j else 0) → th' 0 = 0 → th' 1 = th 1 → th' 2 = 0 → nm' 1 = nm 1 → nm' 2 = 0 → post 0 (nx, st, bk, sp', va, hs', th', nm')) : wpY_sync post (nx, st, bk, sp, va, hs, th, nm) x := by
  unfold wpY_sync
  refine br_f h0 (br_f hx ?_)
  refine cw_clearState (s := 2) (by omega) (fun sp1 hs1 e1 e2 => ?_)
  refine cw_clearState (s := 0) (by omega) (fun sp2 hs2 e3 e4 => ?_)
  refine H sp2 hs2 _ _ (fun c hc => ?_) (fun j hj => ?_) pk_us ?_ ?_ ?_ ?_
  · rw [e3, e1]
    by_cases z : c < 96
    · rw [if_pos (by omega), if_neg (by omega)]
    · rw [if_neg (show ¬ (96 * 0 ≤ c ∧ c < 96 * 0 + 96) by omega)]
      by_cases y : c < 192
      · rw [if_neg (show ¬ (96 * 2 ≤ c ∧ c < 96 * 2 + 96) by omega), if_pos (by omega)]
      · rw [if_pos (show 96 * 2 ≤ c ∧ c < 96 * 2 + 96 by omega), if_neg (by omega)]
  · rw [e4, e2]
    by_cases z : j < 6
    · rw [if_pos (by omega), if_neg (by omega)]
    · rw [if_neg (show ¬ (6 * 0 ≤ j ∧ j < 6 * 0 + 6) by omega)]
      by_cases y : j < 12
      · rw [if_neg (show ¬ (6 * 2 ≤ j ∧ j < 6 * 2 + 6) by omega), if_pos (by omega)]
      · rw [if_pos (show 6 * 2 ≤ j ∧ j < 6 * 2 + 6 by omega), if_neg (by omega)]
  · rw [pk_un (by omega), pk_un (by omega)]
  · rw [pk_un (by omega), pk_us]
  · rw [pk_un (by omega), pk_un (by omega)]
  · rw [pk_un (by omega), pk_us]
end
theorem cw_ps_96 {g : Nat} (h : g < 96) : cw_ps g < 96 := by
  unfold cw_ps
  by_cases z : g < 24
  · rw [if_pos z]; exact h
  · rw [if_neg z]
    by_cases y : g < 72
    · rw [if_pos y]; omega
    · rw [if_neg y]; exact h
theorem cw_ps4 {c : Nat} (h : c < 288) : 4 * cw_ps (c / 4) + c % 4 = if c < 96 then c else c - 96 := by
  unfold cw_ps
  by_cases z : c < 96
  · rw [if_pos z, if_pos (by omega)]; omega
  · rw [if_neg z, if_neg (by omega), if_pos (by omega)]; omega
section
variable {li up pr iu ha nh nu : Int32} {ro no nr nd br lb lv ld de dn sl : Nat → Int32}
variable {nx bk : Int32} {st : Int64} {sp : Nat → Int64} {va hs th nm : Nat → Int32}
theorem cw_vc_sync {k : Nat} (I : cw_Rel k li up pr iu ha nh nu ro no nr nd br lb lv ld de dn sl nx st bk sp va hs th nm) (hk5 : k + 5 ≤ 2561) (v1 : Int32) : wpX_sync (fun r u' => wpY_sync (fun r' v' => r' = r ∧ i_Rel (k + 5) u' v') (nx, st, bk, sp, va, hs, th, nm) v1) (li, up, pr, iu, ha, nh, nu, ro, no, nr, nd, br, lb, lv, ld, de, dn, sl) v1 := by
  have I0 := I
  have I5 := cw_up (Nat.le_add_right k 5) I0
  obtain ⟨hh01, ht01⟩ := cw_th01 I0
  obtain ⟨L, a0, R, T, h1, h2, h3', h4, h5, h6, h7⟩ := I
  obtain ⟨a, h3, an⟩ := cw_norm h3'
  unfold wpX_sync
  rcases h7 with ⟨eT, U⟩ | ⟨eT, D⟩
  · rw [eT] at h2 h4 h5
    obtain ⟨u1, u2, u3, u4, u5, u6, u7, u8, u9⟩ := U
    have hL := h1.2.2.2
    have Nw := cw_Cs_Nw h3
    have hu : ¬ up = 0 := by rw [u1]; decide
    have hth : ¬ th 0 = 0 := by rw [u2]; decide
    obtain ⟨d1, d2, d3, d4, d5⟩ := h3
    obtain ⟨w1, w2, w3, w4, w5, w6, w7⟩ := u4
    obtain ⟨enx, q, q1, qk, enu, qs⟩ := u9
    have es : 1 - (1 - a) = a := by omega
    have hv : cw_vl sl (1 - a) → ∀ k, k < 24 → R (48 + k) = sl (29 * (1 - a) + 1 + k) := fun v k hk => by
      rcases d3 with ⟨_, _, _, _, z⟩ | ⟨_, z, _⟩
      · exact z k hk
      · exact absurd v z
    have hn : ¬ cw_vl sl (1 - a) → ∀ k, k < 24 → R (48 + k) = -1 := fun v k hk => by
      rcases d3 with ⟨_, z, _⟩ | ⟨_, _, _, _, z⟩
      · exact absurd z v
      · exact z k hk
    have hdn : ∀ dn' : Nat → Int32, (∀ k, k < 288 → dn' k = if nd (k / 4) = 0 then dn k else no k) → ∀ n, n < 72 → cw_cn R n ≠ 0 → ∀ p, p < 4 → dn' (4 * n + p) = no (4 * n + p) := fun dn' f n hn c p hp => by
      rw [f _ (by omega), show (4 * n + p) / 4 = n by omega]
      by_cases z : nd n = 0
      · rw [if_pos z]; exact w6 n hn c z p hp
      · rw [if_neg z]
    have hdo : ∀ dn' : Nat → Int32, (∀ k, k < 288 → dn' k = if nd (k / 4) = 0 then dn k else no k) → ∀ k, k < 288 → cw_o L (dn' k) := fun dn' f k hk => by
      rw [f k hk]
      by_cases z : nd (k / 4) = 0
      · rw [if_pos z]; exact h2.2.1 k hk
      · rw [if_neg z]; exact h2.1 k hk
    have big : ∀ c b, b < 24 → cw_B R no c = nI b → c < 288 := fun c b hb e => by
      rcases Nat.lt_or_ge c 288 with z | z
      · exact z
      · rw [cw_B_m (h2.2.2.2 _ (by omega))] at e; exact absurd e (cw_m1 (by omega))
    have main : wX_sync_21 (fun r u' => wpY_sync (fun r' v' => r' = r ∧ i_Rel (k + 5) u' v') (nx, st, bk, sp, va, hs, th, nm) v1) v1 (nI (1 - a)) li up pr iu ha nh nu ro no nr nd br lb lv ld de dn sl := by
      by_cases x0 : v1 = 0
      · subst x0
        refine cw_sync0 ⟨w1, w2, w3, w4, w5, w6, w7⟩ hL u7 (by omega) hv hn (fun iu' nr' nd' br' ld' de' dn' sl' g1 g2 g3 g4 g5 g6 => ?_)
        refine cw_ysync0 hth hh01 ht01 (fun sp' va' hs' th' nm' e1 e2 e3 t0 t1 t2 n1 n2 => ?_)
        refine ⟨enx.symm, ?_⟩
        obtain ⟨F1, F2, F3, F4, F5⟩ := cw_Ws_full g6 (by rw [enu]; exact nI_nle q1 (by omega))
        have out : ∀ j, j < 29 → sl' (29 * a + j) = sl (29 * a + j) := fun j hj => g6.1 _ (by omega)
        have out0 : sl' (29 * a) = sl (29 * a) := g6.1 _ (by omega)
        have hR : ∀ g, (fun g => R (cw_ps g)) g = R (cw_ps g) := fun g => rfl
        have hB := fun c => cw_B_re (no := no) hR c
        have hφ : ∀ c, cw_S sp' c = cw_S sp (4 * cw_ps (c / 4) + c % 4) := fun c => by
          rcases Nat.lt_or_ge c 288 with w | w
          · rw [cw_ps4 w, cw_S_t w, e1 c w, cw_S_t (by
              by_cases z : c < 96
              · rw [if_pos z]; exact w
              · rw [if_neg z]; omega)]
          · unfold cw_ps
            rw [if_neg (by omega), if_neg (by omega), cw_S_f w, cw_S_f (by omega)]
        have ctn' : ∀ p, p < 24 → cw_ctn lb lv de' p = cw_ctn lb lv de p := fun p hp => by
          by_cases z : lb (p % 8) = nI p
          · rw [cw_ctn_t z, cw_ctn_t z]
          · rw [cw_ctn_f z, g4 p hp]
        have vc : ∀ c b, b < 24 → cw_B (fun g => R (cw_ps g)) no c = nI b → va' c = cw_ctn lb lv de b := fun c b hb e => by
          rw [hB] at e
          have lt := big _ b hb e
          have lc : c < 288 := by
            rcases Nat.lt_or_ge c 288 with w | w
            · exact w
            · unfold cw_ps at lt
              rw [if_neg (by omega), if_neg (by omega)] at lt
              omega
          rw [e2 c lc, ← cw_ps4 lc]
          exact u8 _ b hb e
        have cnR : ∀ n, n < 72 → cw_cn (fun g => R (cw_ps g)) n ≠ 0 → cw_cn R n ≠ 0 := fun n hn c => by
          obtain ⟨g, hg, e⟩ := cw_ct_ex c
          exact cw_cn_at (cw_ps_96 hg) e
        have psLo : ∀ g, g < 24 → cw_ps g = g := fun g hg => if_pos hg
        have psMid : ∀ g, 24 ≤ g → g < 72 → cw_ps g = g - 24 := fun g h1 h2 => by unfold cw_ps; rw [if_neg (by omega), if_pos h2]
        have psHi : ∀ g, 72 ≤ g → cw_ps g = g := fun g h1 => by unfold cw_ps; rw [if_neg (by omega), if_neg (by omega)]
        refine ⟨L, 1 - a, fun g => R (cw_ps g), no, h1, ⟨h2.1, hdo dn' g5, fun g => h2.2.2.1 _, fun g hg => ?_⟩, ⟨by omega, ?_, ?_, ?_, ?_⟩, cw_Sm_re _ h4 hφ hB, ?_, cw_St_up (cw_St_re h6 (fun c hc => by rw [← hφ c, cw_S_t hc])) (by omega), Or.inl ⟨rfl, u1, t0.trans u2, ?_, ⟨fun g => h2.2.2.1 _, fun g hg => ?_, fun k hk => ?_, h2.1, g1, ?_, ?_⟩, u5, u6, g3, ?_, ?_⟩⟩
        · try dsimp only
          rw [psHi g hg]; exact h2.2.2.2 g hg
        · rw [t1, u2]
          refine Or.inl ⟨rfl, F1, by rw [n1, F2, enx], ⟨?_, ?_, fun v t hv ht => ?_⟩, fun k hk => ?_⟩
          · rw [e3 _ (by omega), if_neg (by omega)]; exact u3.1
          · rw [e3 _ (by omega), if_neg (by omega)]; exact u3.2.1
          · rw [e3 _ (by omega), if_neg (by omega), F4, ← u3.2.2 v t hv ht]
            exact congrArg hs (by omega)
          · try dsimp only
            rw [psMid _ (by omega) (by omega), F5 k hk, w3 k hk]
            exact congrArg R (by omega)
        · rw [t2, es]
          refine cw_Ck_sh d2 out (fun j hj => ?_) n2 (fun k hk => ?_)
          · rw [e3 _ (by omega), if_neg (by omega)]
            exact congrArg hs (by omega)
          · try dsimp only
            rw [psMid _ (by omega) (by omega)]
            exact congrArg R (by omega)
        · intro z
          rw [t2] at z
          refine ⟨t1.trans u2, ?_⟩
          rw [es, out0, F2, enu]
          have vv := Nw.2.1.mp z
          rw [vv.2.1]
          exact qs a d1
        · intro _
          exact ⟨q, by omega, by rw [F2, enu]⟩
        · intro c b hc hb e
          rw [g4 b hb]; exact vc c b hb e
        · refine ⟨?_, ?_, fun v t hv ht => ?_⟩
          · rw [e3 _ (by omega), if_pos (by omega)]; exact u3.1
          · rw [e3 _ (by omega), if_pos (by omega)]; exact u3.2.1
          · rw [e3 _ (by omega), if_pos (by omega)]; exact u3.2.2 v t hv ht
        · try dsimp only
          rw [psHi g hg]; exact h2.2.2.2 g hg
        · try dsimp only
          rw [psLo k hk]; exact w3 k hk
        · intro n hn c _
          exact hdn dn' g5 n hn (cnR n hn c)
        · intro g hg n hn e
          refine hdn dn' g5 n hn ?_
          rcases Nat.lt_or_ge g 96 with z | z
          · exact cw_cn_at (cw_ps_96 z) e
          · dsimp only at e
            rw [psHi g (by omega), h2.2.2.2 g (by omega)] at e
            exact absurd e (cw_m1 (by omega))
        · intro c b hb e
          rw [ctn' b hb]; exact vc c b hb e
        · refine ⟨by rw [enx], q + 1, by omega, by omega, by rw [enu, nI_1], fun s hs2 => ?_⟩
          have e : s = 1 - a ∨ s = a := by omega
          rcases e with e | e
          · rw [e, F3, enu]; exact nI_lt (by omega) (by omega)
          · rw [e, out 28 (by omega)]
            exact Int32.lt_trans (qs a d1) (nI_lt (by omega) (by omega))
      · refine cw_syncT ⟨w1, w2, w3, w4, w5, w6, w7⟩ hL u7 (by omega) x0 hu (fun w no' nd' lv' ld' de' dn' sl' hw0 hw g4 g5 g6 => ?_)
        refine cw_ysyncT hth x0 (fun sp' hs' th' nm' e1 e3 t0 t1 t2 n1 n2 => ?_)
        refine ⟨rfl, ?_⟩
        have bad : ¬ cw_vl sl' (1 - a) := cw_Ws_torn g6 hw0 hw (fun z => by
          have y := qs (1 - a) (by omega)
          rw [z, enu] at y
          exact Int32.lt_irrefl y)
        have out : ∀ j, j < 29 → sl' (29 * a + j) = sl (29 * a + j) := fun j hj => g6.1 _ (by omega)
        have out0 : sl' (29 * a) = sl (29 * a) := g6.1 _ (by omega)
        have CK' : cw_CK R no dn' := fun g hg n hn e p hp => by
          refine hdn dn' g5 n hn ?_ p hp
          rcases Nat.lt_or_ge g 96 with z | z
          · exact cw_cn_at z e
          · rw [h2.2.2.2 g (by omega)] at e; exact absurd e (cw_m1 (by omega))
        have hR : ∀ g, (fun g => R (if g < 24 ∨ 48 ≤ g then 72 else g)) g = R (if g < 24 ∨ 48 ≤ g then 72 else g) := fun g => rfl
        have hB := cw_B_down h2.2.2.1 CK' hR (fun g => by
          by_cases z : g < 24 ∨ 48 ≤ g
          · rw [if_pos z]; omega
          · rw [if_neg z]; omega)
        have hφ : ∀ c, cw_S sp' c = cw_S sp (4 * (if c / 4 < 24 ∨ 48 ≤ c / 4 then 72 else c / 4) + c % 4) := fun c => by
          rcases Nat.lt_or_ge c 288 with y | y
          · rw [cw_S_t y, e1 c y]
            by_cases z : 96 ≤ c ∧ c < 192
            · rw [if_pos z, if_neg (show ¬ (c / 4 < 24 ∨ 48 ≤ c / 4) by omega), show 4 * (c / 4) + c % 4 = c by omega, cw_S_t y]
            · rw [if_neg z, if_pos (show c / 4 < 24 ∨ 48 ≤ c / 4 by omega), cw_S_f (by omega)]
          · rw [if_pos (by omega), cw_S_f y, cw_S_f (by omega)]
        have R1 : ∀ g, 24 ≤ g → g < 48 → R (if g < 24 ∨ 48 ≤ g then 72 else g) = R g := fun g hg hg2 => by rw [if_neg (by omega)]
        have R0 : ∀ g, g < 24 ∨ 48 ≤ g → R (if g < 24 ∨ 48 ≤ g then 72 else g) = -1 := fun g hg => by rw [if_pos hg]; exact h2.2.2.2 72 (by omega)
        refine ⟨L, a, fun g => R (if g < 24 ∨ 48 ≤ g then 72 else g), dn', h1, ⟨hdo dn' g5, hdo dn' g5, fun g => h2.2.2.1 _, fun g hg => R0 g (by omega)⟩, ⟨d1, ?_, ?_, fun z => ?_, fun z => ?_⟩, cw_Sm_re _ h4 hφ hB, ?_, cw_St_up (cw_St_re h6 (fun c hc => by rw [← hφ c, cw_S_t hc])) (by omega), Or.inr ⟨rfl, rfl, t0, fun j hj => ?_, fun k hk => R0 k (by omega)⟩⟩
        · rw [t1]
          refine cw_Ck_sh d2 out (fun j hj => ?_) n1 (fun k hk => R1 _ (by omega) (by omega))
          rw [e3 _ (by omega), if_pos (by omega)]
        · rw [t2]
          refine Or.inr ⟨rfl, bad, n2, fun j hj => ?_, fun k hk => R0 _ (by omega)⟩
          rw [e3 _ (by omega), if_neg (by omega)]
        · rw [t2] at z; exact absurd z (by decide)
        · rw [t1] at z
          obtain ⟨p, hp, ep⟩ := d5 z
          exact ⟨p, by omega, by rw [out0, ep]⟩
        · intro c b hc hb e
          rw [hB] at e
          by_cases z : c / 4 < 24 ∨ 48 ≤ c / 4
          · rw [if_pos z, cw_B_m (h2.2.2.2 _ (by omega))] at e
            exact absurd e (cw_m1 (by omega))
          · rw [if_neg z, show 4 * (c / 4) + c % 4 = c by omega] at e
            rw [g4 b hb]
            exact u8 c b hb e
        · rw [e3 _ (by omega), if_neg (by omega)]
    refine br_f hu (cw_newest' Nw (fun t1 => ?_) (fun t1 _ => ?_))
    · have ea : a = 0 ∨ a = 1 := by omega
      rcases ea with e | e
      · rw [e] at main ⊢
        exact br_t rfl main
      · rw [e] at main ⊢
        exact br_f (by decide) main
    · rw [an t1] at main
      exact br_f (by decide) main
  · refine br_t D.1 ?_
    unfold wpY_sync
    exact br_t D.2.1 ⟨rfl, I5⟩
end
end
section
/-! mount: the component's side -/
theorem cw_IvM {L : Nat} {R : Nat → Int32} {iu : Int32} {ro no nr nd br dn : Nat → Int32} (h1 : ∀ g, cw_o 72 (R g)) (h2 : ∀ g, 72 ≤ g → R g = -1) (h3 : ∀ k, k < 24 → ro k = R k) (h4 : ∀ k, k < 288 → cw_o L (no k)) (h5 : cw_Cnt (cw_cn R) no nr br iu) (hd : ∀ k, k < 288 → dn k = no k) : cw_Iv L R iu ro no nr nd br dn :=
  ⟨h1, h2, h3, h4, h5, fun n hn _ _ p hp => hd _ (by omega), fun g _ n hn _ p hp => hd _ (by omega)⟩
section
variable {li up pr iu ha nh nu : Int32} {ro no nr nd br lb lv ld de dn sl : Nat → Int32}
theorem cw_takeSlot {post : SX → Prop} {L s e : Nat} {R V : Nat → Int32} {x2 : Int32} (I : cw_Iv L R iu ro no nr nd br dn) (hd : ∀ k, k < 288 → dn k = no k) (hs : s < 2) (he : e = 1 ∨ e = 2) (hV : ∀ k, cw_o 72 (V k)) (hv : cw_vl sl s → ∀ k, k < 24 → sl (29 * s + 1 + k) = V k) (hn : ¬ cw_vl sl s → ∀ k, k < 24 → V k = -1) (h0 : ∀ k, k < 24 → R (24 * e + k) = -1)
    (H : ∀ R' pr' iu' ro' nr' nd' br' sl', (∀ g, R' g = if 24 * e ≤ g ∧ g < 24 * e + 24 then V (g - 24 * e) else if ¬ x2 = 0 ∧ g < 24 then V g else R g) → (x2 = 0 → pr' = pr) → (¬ x2 = 0 → pr' = sl (29 * s + 25)) → cw_Iv L R' iu' ro' no nr' nd' br' dn → (∀ q, (q < 29 * s ∨ 29 * s + 29 ≤ q) → sl' q = sl q) → (cw_vl sl s → ∀ j, j < 29 → sl' (29 * s + j) = sl (29 * s + j)) → (¬ cw_vl sl s → ∀ j, j < 29 → sl' (29 * s + j) = 0) → post (li, up, pr', iu', ha, nh, nu, ro', no, nr', nd', br', lb, lv, ld, de, dn, sl')) : wpX_takeSlot post (li, up, pr, iu, ha, nh, nu, ro, no, nr, nd, br, lb, lv, ld, de, dn, sl) (nI s) x2 := by
  unfold wpX_takeSlot
  -- behind the loop
  have fin : ∀ R' pr' iu' ro' nr' nd' br' x3, (∀ g, R' g = if 24 * e ≤ g ∧ g < 24 * e + 24 then V (g - 24 * e) else if ¬ x2 = 0 ∧ g < 24 then V g else R g) → (x2 = 0 → pr' = pr) → (¬ x2 = 0 → pr' = sl (29 * s + 25)) → cw_Iv L R' iu' ro' no nr' nd' br' dn → (x3 = 0 → ¬ cw_vl sl s) → (¬ x3 = 0 → cw_vl sl s) → wX_takeSlot_84 post (nI s) x3 li up pr' iu' ha nh nu ro' no nr' nd' br' lb lv ld de dn sl := by
    intro R' pr' iu' ro' nr' nd' br' x3 g1 g2 g3 g4 g5 g6
    unfold wX_takeSlot_84
    by_cases z : x3 = 0
    · refine br_t z (nm_r (cw_x29 s) ⟨30, ?_⟩)
      have ee : nI s * 29 + 29 = nI (29 * s + 29) := by rw [cw_x29, show (29 : Int32) = nI 29 from rfl, nI_add]
      have key : ∀ d j q sl', j + d = 29 → d < q → (∀ q, (q < 29 * s ∨ 29 * s + 29 ≤ q) → sl' q = sl q) → (∀ i, i < j → sl' (29 * s + i) = 0) → wX_takeSlot_94 post (nI s) li up pr' iu' ha nh nu q (nI (29 * s + j)) ro' no nr' nd' br' lb lv ld de dn sl' := by
        intro d
        induction d with
        | zero =>
          intro j q sl' hj hq k1 k2
          obtain ⟨q, rfl⟩ : ∃ s, q = s + 1 := ⟨q - 1, by omega⟩
          have ej : j = 29 := by omega
          subst ej
          exact br_t (by rw [ee]; exact nI_le (by omega) (by omega)) (H R' pr' iu' ro' nr' nd' br' sl' g1 g2 g3 g4 k1 (fun v => absurd v (g5 z)) (fun _ => k2))
        | succ d ih =>
          intro j q sl' hj hq k1 k2
          obtain ⟨q, rfl⟩ : ∃ s, q = s + 1 := ⟨q - 1, by omega⟩
          refine br_f (by rw [ee]; exact nI_ge (by omega) (by omega)) ⟨vp_in_nI (by omega) (by decide), nm_r (e' := upd sl' (29 * s + j) 0) (by rw [nI_clamp (by omega)]) (nm_r (nI_1 _) (ih (j + 1) q _ (by omega) (by omega) (fun p hp => ?_) (fun i hi => ?_)))⟩
          · rw [pk_un (by omega)]; exact k1 p hp
          · by_cases w : i = j
            · rw [w, pk_us]
            · rw [pk_un (by omega)]; exact k2 i (by omega)
      exact key 29 0 30 sl (by omega) (by omega) (fun _ _ => rfl) (fun i hi => absurd hi (Nat.not_lt_zero i))
    · exact br_f z (H R' pr' iu' ro' nr' nd' br' sl g1 g2 g3 g4 (fun _ _ => rfl) (fun _ _ _ => rfl) (fun v => absurd (g6 z) v))
  -- the loop
  have loop : ∀ x3, (x3 = 0 → ¬ cw_vl sl s) → (¬ x3 = 0 → cw_vl sl s) → ∀ d j q R' iu' ro' nr' nd' br', j + d = 24 → d < q → (∀ g, R' g = if 24 * e ≤ g ∧ g < 24 * e + j then V (g - 24 * e) else if ¬ x2 = 0 ∧ g < j then V g else R g) → cw_Iv L R' iu' ro' no nr' nd' br' dn → wX_takeSlot_9 post (nI s) x2 x3 q (nI j) li up pr iu' ha nh nu ro' no nr' nd' br' lb lv ld de dn sl := by
    intro x3 g5 g6 d
    induction d with
    | zero =>
      intro j q R' iu' ro' nr' nd' br' hj hq k1 k2
      obtain ⟨q, rfl⟩ : ∃ s, q = s + 1 := ⟨q - 1, by omega⟩
      have ej : j = 24 := by omega
      subst ej
      refine br_t (nI_le (a := 24) (by omega) (by omega)) ?_
      by_cases z : x2 = 0
      · exact br_t z (fin R' pr iu' ro' nr' nd' br' x3 k1 (fun _ => rfl) (fun w => absurd z w) k2 g5 g6)
      · have ei : nI s * 29 + 25 = nI (29 * s + 25) := by rw [cw_x29, show (25 : Int32) = nI 25 from rfl, nI_add]
        refine br_f z ?_
        rw [ei]
        exact ⟨vp_in_nI (by omega) (by decide), nm_r (e' := sl (29 * s + 25)) (by rw [nI_clamp (by omega)]) (fin R' _ iu' ro' nr' nd' br' x3 k1 (fun w => absurd w z) (fun _ => rfl) k2 g5 g6)⟩
    | succ d ih =>
      intro j q R' iu' ro' nr' nd' br' hj hq k1 k2
      obtain ⟨q, rfl⟩ : ∃ s, q = s + 1 := ⟨q - 1, by omega⟩
      have step : wX_takeSlot_38 post (wX_takeSlot_9 post (nI s) x2 x3 q) (nI s) x2 x3 (nI j) (V j) li up pr iu' ha nh nu ro' no nr' nd' br' lb lv ld de dn sl := by
        unfold wX_takeSlot_38
        have hj0 : R' (24 * e + j) = -1 := by rw [k1, if_neg (by omega), if_neg (by omega)]; exact h0 j (by omega)
        obtain ⟨i1, i2, i3, i4, i5, i6, i7⟩ := k2
        refine cw_hold i5 (g := 24 * e + j) (by omega) hj0 (hV j) (fun iu1 nr1 br1 m1 => ?_)
        have I1 : cw_Iv L (upd R' (24 * e + j) (V j)) iu1 ro' no nr1 nd' br1 dn := by
          refine cw_IvM (fun g => ?_) (fun g hg => ?_) (fun k hk => ?_) i4 m1 hd
          · by_cases z : g = 24 * e + j
            · rw [z, pk_us]; exact hV j
            · rw [pk_un z]; exact i1 g
          · rw [pk_un (by omega)]; exact i2 g hg
          · rw [pk_un (by omega)]; exact i3 k hk
        by_cases z : x2 = 0
        · refine br_t z (nm_r (nI_1 _) (ih (j + 1) q _ iu1 ro' nr1 nd' br1 (by omega) (by omega) (fun g => ?_) I1))
          by_cases y : g = 24 * e + j
          · rw [y, pk_us, if_pos (by omega)]
            exact congrArg V (by omega)
          · rw [pk_un y, k1]
            by_cases w : 24 * e ≤ g ∧ g < 24 * e + j
            · rw [if_pos w, if_pos (by omega)]
            · rw [if_neg w, if_neg (show ¬ (24 * e ≤ g ∧ g < 24 * e + (j + 1)) by omega), if_neg (fun u => u.1 z), if_neg (fun u => u.1 z)]
        · refine br_f z ?_
          refine cw_setRoot I1 (by omega) (Or.inr ⟨24 * e + j, by omega, by rw [pk_us]⟩) (fun iu2 nr2 nd2 br2 I2 => ?_)
          refine nm_r (nI_1 _) (ih (j + 1) q _ iu2 _ nr2 nd2 br2 (by omega) (by omega) (fun g => ?_) I2)
          by_cases y : g = j
          · rw [y, pk_us, if_neg (by omega), if_pos ⟨z, by omega⟩]
          · rw [pk_un y]
            by_cases y2 : g = 24 * e + j
            · rw [y2, pk_us, if_pos (by omega)]
              exact congrArg V (by omega)
            · rw [pk_un y2, k1]
              by_cases w : 24 * e ≤ g ∧ g < 24 * e + j
              · rw [if_pos w, if_pos (by omega)]
              · rw [if_neg w, if_neg (show ¬ (24 * e ≤ g ∧ g < 24 * e + (j + 1)) by omega)]
                by_cases u : ¬ x2 = 0 ∧ g < j
                · rw [if_pos u, if_pos ⟨u.1, by omega⟩]
                · rw [if_neg u, if_neg (fun t => u ⟨t.1, by omega⟩)]
      refine br_f (nI_ge (b := 24) (by omega) (by omega)) ?_
      by_cases z : x3 = 0
      · rw [hn (g5 z) j (by omega)] at step
        exact br_t z step
      · have ei : nI s * 29 + 1 + nI j = nI (29 * s + 1 + j) := by rw [cw_x29, nI_1, nI_add]
        refine br_f z ?_
        rw [ei]
        refine ⟨vp_in_nI (by omega) (by decide), ?_⟩
        rw [nI_clamp (by omega), hv (g6 z) j (by omega)]
        exact step
  have k0 : ∀ g, R g = if 24 * e ≤ g ∧ g < 24 * e + 0 then V (g - 24 * e) else if ¬ x2 = 0 ∧ g < 0 then V g else R g := fun g => by
    rw [if_neg (by omega), if_neg (fun u => absurd u.2 (Nat.not_lt_zero g))]
  exact cw_valid hs (fun v => ⟨25, loop 1 (fun z => absurd z (by decide)) (fun _ => v) 24 0 25 R iu ro nr nd br (by omega) (by omega) k0 I⟩) (fun v => ⟨25, loop 0 (fun _ => v) (fun z => absurd rfl z) 24 0 25 R iu ro nr nd br (by omega) (by omega) k0 I⟩)
theorem cw_mount_s {post : Int32 → SX → Prop} {L s e n : Nat} {R V : Nat → Int32} {x1 : Int32} (I : cw_Iv L R iu ro no nr nd br dn) (hd : ∀ k, k < 288 → dn k = no k) (hs : s < 2) (he : e = 1 ∨ e = 2) (hV : ∀ k, cw_o 72 (V k)) (hv : cw_vl sl s → ∀ k, k < 24 → sl (29 * s + 1 + k) = V k) (hn : ¬ cw_vl sl s → ∀ k, k < 24 → V k = -1) (h0 : ∀ k, k < 24 → R (24 * e + k) = -1)
    (K : ∀ R' pr' iu' ro' nr' nd' br' sl', (∀ g, R' g = if 24 * e ≤ g ∧ g < 24 * e + 24 then V (g - 24 * e) else if nI s = x1 ∧ g < 24 then V g else R g) → (¬ nI s = x1 → pr' = pr) → (nI s = x1 → pr' = sl (29 * s + 25)) → cw_Iv L R' iu' ro' no nr' nd' br' dn → (∀ q, (q < 29 * s ∨ 29 * s + 29 ≤ q) → sl' q = sl q) → (cw_vl sl s → ∀ j, j < 29 → sl' (29 * s + j) = sl (29 * s + j)) → (¬ cw_vl sl s → ∀ j, j < 29 → sl' (29 * s + j) = 0) → wX_mount_47 post x1 n (nI (s + 1)) li up pr' iu' ha nh nu ro' no nr' nd' br' lb lv ld de dn sl') : wX_mount_47 post x1 (n + 1) (nI s) li up pr iu ha nh nu ro no nr nd br lb lv ld de dn sl := by
  refine br_f (nI_ge (b := 2) (by omega) (by omega)) ?_
  by_cases z : nI s = x1
  · refine br_t z ?_
    unfold wX_mount_64
    refine cw_takeSlot (x2 := 1) I hd hs he hV hv hn h0 (fun R' pr' iu' ro' nr' nd' br' sl' g1 g2 g3 g4 g5 g6 g7 => nm_r (nI_1 _) (K R' pr' iu' ro' nr' nd' br' sl' (fun g => ?_) (fun w => absurd z w) (fun _ => g3 (by decide)) g4 g5 g6 g7))
    rw [g1]
    by_cases w : 24 * e ≤ g ∧ g < 24 * e + 24
    · rw [if_pos w, if_pos w]
    · rw [if_neg w, if_neg w]
      by_cases u : g < 24
      · rw [if_pos ⟨by decide, u⟩, if_pos ⟨z, u⟩]
      · rw [if_neg (fun t => u t.2), if_neg (fun t => u t.2)]
  · refine br_f z ?_
    unfold wX_mount_64
    refine cw_takeSlot (x2 := 0) I hd hs he hV hv hn h0 (fun R' pr' iu' ro' nr' nd' br' sl' g1 g2 g3 g4 g5 g6 g7 => nm_r (nI_1 _) (K R' pr' iu' ro' nr' nd' br' sl' (fun g => ?_) (fun _ => g2 rfl) (fun w => absurd w z) g4 g5 g6 g7))
    rw [g1]
    by_cases w : 24 * e ≤ g ∧ g < 24 * e + 24
    · rw [if_pos w, if_pos w]
    · rw [if_neg w, if_neg w, if_neg (fun t => t.1 rfl), if_neg (fun t => z t.1)]
/-- from the device: the nodes, then the slots -/
theorem cw_mount0 {post : Int32 → SX → Prop} {L : Nat} (hL : L ≤ 24) (hdn : ∀ k, k < 288 → cw_o L (dn k)) (hu : up = 0)
    (H : ∀ ro' no' nr' nd' br' lb' ld', (∀ k, k < 288 → dn k = no' k) → cw_Iv L (fun _ => -1) 0 ro' no' nr' nd' br' dn → (∀ l, l < 8 → lb' l = -1 ∧ ld' l = 0) → wpX_newest (fun r => ∃ n, wX_mount_47 post r n 0 li up 0 0 0 71 nu ro' no' nr' nd' br' lb' lv ld' de dn sl) (li, up, 0, 0, 0, 71, nu, ro', no', nr', nd', br', lb', lv, ld', de, dn, sl)) : wpX_mount post (li, up, pr, iu, ha, nh, nu, ro, no, nr, nd, br, lb, lv, ld, de, dn, sl) := by
  unfold wpX_mount
  refine br_t hu ?_
  refine cw_startMemory (fun ro' nr' nd' br' lb' ld' g1 g2 g3 => ⟨289, ?_⟩)
  have key : ∀ d j q no', j + d = 288 → d < q → (∀ k, k < j → dn k = no' k) → wX_mount_15 post li up 0 0 0 71 nu q (nI j) ro' no' nr' nd' br' lb' lv ld' de dn sl := by
    intro d
    induction d with
    | zero =>
      intro j q no' hj hq k1
      obtain ⟨q, rfl⟩ : ∃ s, q = s + 1 := ⟨q - 1, by omega⟩
      have ej : j = 288 := by omega
      subst ej
      have hno : ∀ k, k < 288 → cw_o L (no' k) := fun k hk => by rw [← k1 k hk]; exact hdn k hk
      exact br_t (nI_le (a := 288) (by omega) (by omega)) (H ro' no' nr' nd' br' lb' ld' k1 (cw_IvM (fun _ => Or.inl rfl) (fun _ _ => rfl) (fun k hk => (g1 k hk).1) hno (cw_Cnt0 (fun n hn => (g2 n hn).1) (fun b hb => (g1 b hb).2) (fun k hk => cw_o_up (hno k hk) hL)) k1) g3)
    | succ d ih =>
      intro j q no' hj hq k1
      obtain ⟨q, rfl⟩ : ∃ s, q = s + 1 := ⟨q - 1, by omega⟩
      have hv : vp_in (nI j) 288 := vp_in_nI (by omega) (by decide)
      refine br_f (nI_ge (b := 288) (by omega) (by omega)) ⟨hv, hv, nm_r (e' := upd no' j (dn j)) (by rw [nI_clamp (by omega), cw_o_by (hdn j (by omega)) (by omega)]) (nm_r (nI_1 _) (ih (j + 1) q _ (by omega) (by omega) (fun k hk => ?_)))⟩
      by_cases z : k = j
      · rw [z, pk_us]
      · rw [pk_un z]; exact k1 k (by omega)
  exact key 288 0 289 no (by omega) (by omega) (fun k hk => absurd hk (Nat.not_lt_zero k))
end
end
section
/-! mount: both sides -/
section
variable {li up pr iu ha nh nu : Int32} {ro no nr nd br lb lv ld de dn sl : Nat → Int32}
variable {nx bk : Int32} {st : Int64} {sp : Nat → Int64} {va hs th nm : Nat → Int32}
theorem cw_xmount {post : Int32 → SX → Prop} {k L a : Nat} {R : Nat → Int32} (hL : L ≤ 24) (hdn : ∀ q, q < 288 → cw_o L (dn q)) (hR : ∀ g, cw_o 72 (R g)) (h72 : ∀ g, 72 ≤ g → R g = -1) (hCs : cw_Cs k a R sl hs th nm) (hu : up = 0)
    (H : ∀ R2 r nu' pr' iu' ro' no' nr' nd' br' lb' ld' sl', (∀ g, R2 g = R (if g < 24 then g + 24 else g)) → (th 1 = 1 → r = sl (29 * a) ∧ nu' = sl (29 * a) + 1 ∧ pr' = sl (29 * a + 25)) → (¬ th 1 = 1 → r = 0 ∧ nu' = 1 ∧ pr' = 0) → (∀ q, q < 288 → dn q = no' q) → cw_Iv L R2 iu' ro' no' nr' nd' br' dn → (∀ l, l < 8 → lb' l = -1 ∧ ld' l = 0) → (∀ s, s < 2 → (cw_vl sl s → ∀ j, j < 29 → sl' (29 * s + j) = sl (29 * s + j)) ∧ (¬ cw_vl sl s → ∀ j, j < 29 → sl' (29 * s + j) = 0)) → post r (li, 1, pr', iu', 0, 71, nu', ro', no', nr', nd', br', lb', lv, ld', de, dn, sl')) : wpX_mount post (li, up, pr, iu, ha, nh, nu, ro, no, nr, nd, br, lb, lv, ld, de, dn, sl) := by
  have Nw := cw_Cs_Nw hCs
  obtain ⟨d1, d2, d3, d4, d5⟩ := hCs
  refine cw_mount0 hL hdn hu (fun ro0 no0 nr0 nd0 br0 lb0 ld0 e0 I0 g0 => ?_)
  have sf : ∀ s, s < 2 → (cw_vl sl s → ∀ k, k < 24 → sl (29 * s + 1 + k) = R (24 * (if s = a then 1 else 2) + k)) ∧ (¬ cw_vl sl s → ∀ k, k < 24 → R (24 * (if s = a then 1 else 2) + k) = -1) := fun s hs2 => by
    by_cases e : s = a
    · rw [if_pos e, e]
      rcases d2 with ⟨_, v, _, _, z⟩ | ⟨_, v, _, _, z⟩
      · exact ⟨fun _ k hk => (z k hk).symm, fun w => absurd v w⟩
      · exact ⟨fun w => absurd w v, fun _ k hk => z k hk⟩
    · rw [if_neg e, show s = 1 - a by omega]
      rcases d3 with ⟨_, v, _, _, z⟩ | ⟨_, v, _, _, z⟩
      · exact ⟨fun _ k hk => (z k hk).symm, fun w => absurd v w⟩
      · exact ⟨fun w => absurd w v, fun _ k hk => z k hk⟩
  have ev : ∀ s : Nat, (if s = a then 1 else 2) = 1 ∨ (if s = a then 1 else 2) = 2 := fun s => by
    by_cases e : s = a
    · rw [if_pos e]; exact Or.inl rfl
    · rw [if_neg e]; exact Or.inr rfl
  have run : ∀ x1, (th 1 = 1 ∧ x1 = nI a) ∨ (¬ th 1 = 1 ∧ x1 = -1) → wX_mount_47 post x1 3 (nI 0) li up 0 0 0 71 nu ro0 no0 nr0 nd0 br0 lb0 lv ld0 de dn sl := by
    intro x1 hx
    have P : ∀ s, s < 2 → (nI s = x1 ↔ th 1 = 1 ∧ s = a) := fun s hs2 => by
      rcases hx with ⟨t, e⟩ | ⟨t, e⟩
      · rw [e, nI_eq (by omega) (by omega)]
        exact ⟨fun z => ⟨t, z⟩, fun z => z.2⟩
      · rw [e]
        exact ⟨fun z => absurd z (cw_m1' (by omega)), fun z => absurd z.1 t⟩
    refine cw_mount_s (s := 0) (e := if 0 = a then 1 else 2) (V := fun k => R (24 * (if 0 = a then 1 else 2) + k)) I0 e0 (by omega) (ev 0) (fun k => hR _) (sf 0 (by omega)).1 (sf 0 (by omega)).2 (fun _ _ => rfl) (fun R1 pr1 iu1 ro1 nr1 nd1 br1 sl1 a1 a2 a3 a4 a5 a6 a7 => ?_)
    have c1 : ∀ j, j < 29 → sl1 (29 * 1 + j) = sl (29 * 1 + j) := fun j hj => a5 _ (by omega)
    have v1 := cw_vl_c (s := 1) c1
    have ne : (if 0 = a then 1 else 2) ≠ (if 1 = a then 1 else 2) := by
      by_cases e : 0 = a
      · rw [if_pos e, if_neg (by omega)]; decide
      · rw [if_neg e, if_pos (by omega)]; decide
    refine cw_mount_s (s := 1) (e := if 1 = a then 1 else 2) (V := fun k => R (24 * (if 1 = a then 1 else 2) + k)) a4 e0 (by omega) (ev 1) (fun k => hR _) (fun v k hk => ?_) (fun v => (sf 1 (by omega)).2 (fun w => v (v1.mpr w))) (fun k hk => ?_) (fun R2 pr2 iu2 ro2 nr2 nd2 br2 sl2 b1 b2 b3 b4 b5 b6 b7 => ?_)
    · rw [Nat.add_assoc, c1 _ (by omega), ← Nat.add_assoc]
      exact (sf 1 (by omega)).1 (v1.mp v) k hk
    · rw [a1]
      rcases ev 0 with z | z <;> rcases ev 1 with y | y
      · rw [z, y] at ne; exact absurd rfl ne
      · rw [z, y, if_neg (by omega), if_neg (fun u => by omega)]
      · rw [z, y, if_neg (by omega), if_neg (fun u => by omega)]
      · rw [z, y] at ne; exact absurd rfl ne
    · have slf : ∀ s, s < 2 → (cw_vl sl s → ∀ j, j < 29 → sl2 (29 * s + j) = sl (29 * s + j)) ∧ (¬ cw_vl sl s → ∀ j, j < 29 → sl2 (29 * s + j) = 0) := fun s hs2 => by
        have e : s = 0 ∨ s = 1 := by omega
        rcases e with rfl | rfl
        · exact ⟨fun v j hj => by rw [b5 _ (by omega), a6 v j hj], fun v j hj => by rw [b5 _ (by omega), a7 v j hj]⟩
        · exact ⟨fun v j hj => by rw [b6 (v1.mpr v) j hj, c1 j hj], fun v j hj => b7 (fun w => v (v1.mp w)) j hj⟩
      have hR2 : ∀ g, R2 g = R (if g < 24 then g + 24 else g) := fun g => by
        rw [b1, a1]
        by_cases e : 0 = a
        · have e1 : ¬ 1 = a := by omega
          rw [if_pos e, if_neg e1]
          by_cases z : g < 24
          · rw [if_pos z, if_neg (show ¬ (24 * 2 ≤ g ∧ g < 24 * 2 + 24) by omega), if_neg (fun u => e1 ((P 1 (by omega)).mp u.1).2), if_neg (show ¬ (24 * 1 ≤ g ∧ g < 24 * 1 + 24) by omega)]
            by_cases t : th 1 = 1
            · rw [if_pos ⟨(P 0 (by omega)).mpr ⟨t, e⟩, z⟩]
              exact congrArg R (by omega)
            · rw [if_neg (fun u => t ((P 0 (by omega)).mp u.1).1)]
              rcases d2 with ⟨w, _⟩ | ⟨_, _, _, _, w⟩
              · exact absurd w t
              · rw [Nat.add_comm]; exact (w g z).symm
          · rw [if_neg z]
            by_cases y : g < 48
            · rw [if_neg (show ¬ (24 * 2 ≤ g ∧ g < 24 * 2 + 24) by omega), if_neg (fun u => z u.2), if_pos (show 24 * 1 ≤ g ∧ g < 24 * 1 + 24 by omega)]
              exact congrArg R (by omega)
            · by_cases x : g < 72
              · rw [if_pos (show 24 * 2 ≤ g ∧ g < 24 * 2 + 24 by omega)]
                exact congrArg R (by omega)
              · rw [if_neg (show ¬ (24 * 2 ≤ g ∧ g < 24 * 2 + 24) by omega), if_neg (fun u => z u.2), if_neg (show ¬ (24 * 1 ≤ g ∧ g < 24 * 1 + 24) by omega), if_neg (fun u => z u.2), h72 g (by omega)]
        · have e1 : 1 = a := by omega
          rw [if_neg e, if_pos e1]
          by_cases z : g < 24
          · rw [if_pos z, if_neg (show ¬ (24 * 1 ≤ g ∧ g < 24 * 1 + 24) by omega)]
            by_cases t : th 1 = 1
            · rw [if_pos ⟨(P 1 (by omega)).mpr ⟨t, e1⟩, z⟩]
              exact congrArg R (by omega)
            · rw [if_neg (fun u => t ((P 1 (by omega)).mp u.1).1), if_neg (show ¬ (24 * 2 ≤ g ∧ g < 24 * 2 + 24) by omega), if_neg (fun u => t ((P 0 (by omega)).mp u.1).1)]
              rcases d2 with ⟨w, _⟩ | ⟨_, _, _, _, w⟩
              · exact absurd w t
              · rw [Nat.add_comm]; exact (w g z).symm
          · rw [if_neg z]
            by_cases y : g < 48
            · rw [if_pos (show 24 * 1 ≤ g ∧ g < 24 * 1 + 24 by omega)]
              exact congrArg R (by omega)
            · rw [if_neg (show ¬ (24 * 1 ≤ g ∧ g < 24 * 1 + 24) by omega), if_neg (fun u => z u.2)]
              by_cases x : g < 72
              · rw [if_pos (show 24 * 2 ≤ g ∧ g < 24 * 2 + 24 by omega)]
                exact congrArg R (by omega)
              · rw [if_neg (show ¬ (24 * 2 ≤ g ∧ g < 24 * 2 + 24) by omega), if_neg (fun u => z u.2), h72 g (by omega)]
      refine br_t (nI_le (a := 2) (by omega) (by omega)) ?_
      rcases hx with ⟨t, e⟩ | ⟨t, e⟩
      · have va := Nw.2.1.mp t
        have s0 : sl2 (29 * a) = sl (29 * a) := (slf a d1).1 va 0 (by omega)
        rw [e]
        refine br_t (nI_pos' (by omega)) ?_
        rw [cw_x29]
        refine ⟨vp_in_nI (by omega) (by decide), nm_r (e' := sl (29 * a) + 1) (by rw [nI_clamp (by omega), s0]) ?_⟩
        rw [Int32.add_sub_cancel]
        refine H R2 _ _ pr2 iu2 ro2 no0 nr2 nd2 br2 lb0 ld0 sl2 hR2 (fun _ => ⟨rfl, rfl, ?_⟩) (fun z => absurd t z) e0 b4 g0 slf
        by_cases ea : 0 = a
        · rw [b2 (fun u => by have := ((P 1 (by omega)).mp u).2; omega), a3 ((P 0 (by omega)).mpr ⟨t, ea⟩), ← ea]
        · have e1 : 1 = a := by omega
          rw [b3 ((P 1 (by omega)).mpr ⟨t, e1⟩), c1 25 (by omega), ← e1]
      · rw [e]
        refine br_f cw_m1n0 ?_
        refine H R2 _ _ pr2 iu2 ro2 no0 nr2 nd2 br2 lb0 ld0 sl2 hR2 (fun z => absurd z t) (fun _ => ⟨by decide, rfl, ?_⟩) e0 b4 g0 slf
        rw [b2 (fun u => t ((P 1 (by omega)).mp u).1), a2 (fun u => t ((P 0 (by omega)).mp u).1)]
  exact cw_newest' Nw (fun t => ⟨3, run _ (Or.inl ⟨t, rfl⟩)⟩) (fun t _ => ⟨3, run _ (Or.inr ⟨t, rfl⟩)⟩)
theorem cw_Ck_w {f : Int32} {s e : Nat} {sl sl' hs hs' nm nm' R R' : Nat → Int32} (h : cw_Ck f s sl hs nm R e) (h1 : (cw_vl sl s → ∀ j, j < 29 → sl' (29 * s + j) = sl (29 * s + j)) ∧ (¬ cw_vl sl s → ∀ j, j < 29 → sl' (29 * s + j) = 0)) (h2 : ∀ j, j < 6 → hs' (6 * e + j) = hs (6 * e + j)) (h3 : nm' e = nm e) (h4 : ∀ k, k < 24 → R' (24 * e + k) = R (24 * e + k)) : cw_Ck f s sl' hs' nm' R' e := by
  have h0 := h
  rcases h with ⟨a1, a2, a3, a4, a5⟩ | ⟨a1, a2, a3, a4, a5⟩
  · exact cw_Ck_sh h0 (h1.1 a2) h2 h3 h4
  · refine Or.inr ⟨a1, fun v => ?_, by rw [h3, a3], fun j hj => by rw [h2 j hj]; exact a4 j hj, fun k hk => by rw [h4 k hk]; exact a5 k hk⟩
    have z := h1.2 a2 0 (by omega)
    rw [Nat.add_zero] at z
    exact v.1 (by rw [z]; decide)
theorem cw_vc_mount {k : Nat} (I : cw_Rel k li up pr iu ha nh nu ro no nr nd br lb lv ld de dn sl nx st bk sp va hs th nm) (hk5 : k + 5 ≤ 2561) : wpX_mount (fun r u' => wpY_mount (fun r' v' => r' = r ∧ i_Rel (k + 5) u' v') (nx, st, bk, sp, va, hs, th, nm)) (li, up, pr, iu, ha, nh, nu, ro, no, nr, nd, br, lb, lv, ld, de, dn, sl) := by
  have I0 := I
  have I5 := cw_up (Nat.le_add_right k 5) I0
  obtain ⟨hh01, ht01⟩ := cw_th01 I0
  obtain ⟨L, a, R, T, h1, h2, h3, h4, h5, h6, h7⟩ := I
  rcases h7 with ⟨eT, U⟩ | ⟨eT, D⟩
  · unfold wpX_mount
    refine br_f (by rw [U.1]; decide) ?_
    unfold wpY_mount
    exact br_f (by rw [U.2.1]; decide) ⟨rfl, I5⟩
  · rw [eT] at h2 h4 h5
    have hL := h1.2.2.2
    refine cw_xmount hL h2.2.1 h2.2.2.1 h2.2.2.2 h3 D.1 (fun R2 r nu' pr' iu' ro' no' nr' nd' br' lb' ld' sl' hR2 c1 c0 e0 I' g0 slf => ?_)
    have Nw := cw_Cs_Nw h3
    obtain ⟨d1, d2, d3, d4, d5⟩ := h3
    have hBc : ∀ c, cw_B R2 no' c = cw_B R2 dn c := fun c => by
      rcases I'.1 (c / 4) with y | ⟨n, hn, y⟩
      · rw [cw_B_m y, cw_B_m y]
      · rw [cw_B_n y hn, cw_B_n y hn, e0 _ (by omega)]
    have hB : ∀ c, cw_B R2 no' c = cw_B R dn (4 * (if c / 4 < 24 then c / 4 + 24 else c / 4) + c % 4) := fun c => by
      rw [hBc, cw_B_re hR2 c]
    have hC : cw_Ca lb' lv ld' de := fun l hl => Or.inl (g0 l hl)
    have R2h : ∀ g, 24 ≤ g → R2 g = R g := fun g hg => by rw [hR2, if_neg (by omega)]
    have fin : ∀ nx' sp' va' hs' th' nm', nu' = nx' → (∀ c, cw_S sp' c = cw_S sp (4 * (if c / 4 < 24 then c / 4 + 24 else c / 4) + c % 4)) → (∀ c b, b < 24 → cw_B R2 no' c = nI b → va' c = de b) → cw_Hs hs' 0 pr' → (∀ j, 6 ≤ j → hs' j = hs j) → th' 0 = 1 → th' 1 = th 1 → th' 2 = th 2 → nm' 1 = nm 1 → nm' 2 = nm 2 → cw_Rel (k + 5) li 1 pr' iu' 0 71 nu' ro' no' nr' nd' br' lb' lv ld' de dn sl' nx' st bk sp' va' hs' th' nm' := by
      intro nx' sp' va' hs' th' nm' n0 s1 v1 hh1 hh2 t0 t1 t2 m1 m2
      refine ⟨L, a, R2, no', h1, ⟨I'.2.2.2.1, h2.2.1, I'.1, I'.2.1⟩, ⟨d1, ?_, ?_, ?_, ?_⟩, cw_Sm_re _ h4 s1 hB, fun c b _ hb e => v1 c b hb e, cw_St_up (cw_St_re h6 (fun c hc => by rw [← s1 c, cw_S_t hc])) (by omega), Or.inl ⟨rfl, rfl, t0, hh1, I', ⟨0, by have := h1.2.2.1; omega, rfl⟩, ⟨71, by omega, rfl⟩, hC, ?_, n0, ?_⟩⟩
      · rw [t1]
        exact cw_Ck_w d2 (slf a d1) (fun j _ => hh2 _ (by omega)) m1 (fun k _ => R2h _ (by omega))
      · rw [t2]
        exact cw_Ck_w d3 (slf (1 - a) (by omega)) (fun j _ => hh2 _ (by omega)) m2 (fun k _ => R2h _ (by omega))
      · intro z
        rw [t2] at z
        obtain ⟨y, lt⟩ := d4 z
        refine ⟨t1.trans y, ?_⟩
        have e1 := (slf (1 - a) (by omega)).1 (Nw.2.2.1.mp z) 0 (by omega)
        have e2 := (slf a d1).1 (Nw.2.1.mp y) 0 (by omega)
        rw [Nat.add_zero] at e1 e2
        rw [e1, e2]
        exact lt
      · intro z
        rw [t1] at z
        obtain ⟨q, hq, e⟩ := d5 z
        have e2 := (slf a d1).1 (Nw.2.1.mp z) 0 (by omega)
        rw [Nat.add_zero] at e2
        exact ⟨q, by omega, by rw [e2, e]⟩
      · intro c b hb e
        rw [v1 c b hb e, cw_ctn_f]
        intro z
        rw [(g0 (b % 8) (by omega)).1] at z
        exact cw_m1 (by omega) z
      · by_cases t : th 1 = 1
        · obtain ⟨q, hq, e⟩ := d5 t
          have va := Nw.2.1.mp t
          refine ⟨q + 1, by omega, by omega, by rw [(c1 t).2.1, e, nI_1], fun s hs2 => ?_⟩
          by_cases v : cw_vl sl s
          · rw [(slf s hs2).1 v 28 (by omega), ← v.2.1]
            by_cases ea : s = a
            · rw [ea, e]; exact nI_lt (by omega) (by omega)
            · have es : s = 1 - a := by omega
              rw [es] at v ⊢
              have lt := (d4 (Nw.2.2.1.mpr v)).2
              rw [e] at lt
              exact Int32.lt_trans lt (nI_lt (by omega) (by omega))
          · rw [(slf s hs2).2 v 28 (by omega)]
            exact nI_lt (a := 0) (by omega) (by omega)
        · refine ⟨1, by omega, by omega, (c0 t).2.1, fun s hs2 => ?_⟩
          have v : ¬ cw_vl sl s := fun v => by
            have e : s = a ∨ s = 1 - a := by omega
            rcases e with e | e
            · rw [e] at v; exact t (Nw.2.1.mpr v)
            · rw [e] at v; exact t (d4 (Nw.2.2.1.mpr v)).1
          rw [(slf s hs2).2 v 28 (by omega)]
          exact nI_lt (a := 0) (b := 1) (by omega) (by omega)
    unfold wpY_mount
    refine br_t D.2.1 ?_
    rcases ht01 1 (by omega) with t | t
    · have t' : ¬ th 1 = 1 := by rw [t]; decide
      obtain ⟨er, en, ep⟩ := c0 t'
      refine br_t t (nm_r (e' := upd th 0 1) (by rw [cw_bl1]) (nm_r (e' := upd hs 0 1) (by rw [cw_bl1]) (nm_r (e' := upd (upd hs 0 1) 3 1) (by rw [cw_bl1]) ⟨er.symm, ?_⟩)))
      have neg : ∀ g, g < 48 → R g = -1 := fun g hg => by
        rcases Nat.lt_or_ge g 24 with z | z
        · exact D.2.2.2 g z
        · rcases d2 with ⟨w, _⟩ | ⟨_, _, _, _, w⟩
          · exact absurd w t'
          · have := w (g - 24) (by omega)
            rw [show 24 * 1 + (g - 24) = g by omega] at this
            exact this
      have s0 : ∀ c, c < 192 → cw_S sp c = 0 := fun c hc => (cw_Sm_0 h4 h2.2.2.2 c).mpr (cw_B_m (neg _ (by omega)))
      refine fin _ _ _ _ _ _ en (fun c => ?_) (fun c b hb e => ?_) ⟨?_, ?_, fun v t hv ht => ?_⟩ (fun j hj => ?_) pk_us (pk_un (by omega)) (pk_un (by omega)) rfl rfl
      · by_cases z : c / 4 < 24
        · rw [if_pos z, s0 c (by omega), s0 _ (by omega)]
        · rw [if_neg z, show 4 * (c / 4) + c % 4 = c by omega]
      · rw [hB] at e
        by_cases z : c / 4 < 24
        · rw [if_pos z, cw_B_m (neg _ (by omega))] at e
          exact absurd e (cw_m1 (by omega))
        · rw [if_neg z, show 4 * (c / 4) + c % 4 = c by omega] at e
          exact h5 c b (by omega) hb e
      · rw [pk_un (by omega), pk_us]
      · rw [Nat.zero_add, pk_us]
      · rw [pk_un (by omega), pk_un (by omega), D.2.2.1 _ (by omega), ep, cw_pb0 _ (by omega)]
      · rw [pk_un (by omega), pk_un (by omega)]
    · obtain ⟨er, en, ep⟩ := c1 t
      have nm1 : nm 1 = sl (29 * a) := by
        rcases d2 with w | w
        · exact w.2.2.1
        · exact absurd (w.1.symm.trans t) (by decide)
      refine br_f (by rw [t]; decide) ?_
      refine cw_copyState (f := 1) (t := 0) (by omega) (by omega) (by omega) hh01 ht01 (fun sp' va' hs' e1 e2 e3 => ?_)
      have n1 : upd nm 0 (nm 1) 1 = nm 1 := pk_un (by omega)
      refine nm_r (e' := nm 1 + 1) (by rw [n1]) ⟨by rw [n1, nm1, er], ?_⟩
      refine fin _ _ _ _ _ _ (by rw [en, nm1]) (fun c => ?_) (fun c b hb e => ?_) ⟨?_, ?_, fun v t' hv ht => ?_⟩ (fun j hj => ?_) (by rw [pk_us, t]) (pk_un (by omega)) (pk_un (by omega)) n1 (pk_un (by omega))
      · by_cases z : c / 4 < 24
        · rw [if_pos z, cw_S_t (by omega), cw_S_t (by omega), e1, cw_mv_i (by omega) (by omega)]
          exact congrArg sp (by omega)
        · rw [if_neg z, show 4 * (c / 4) + c % 4 = c by omega]
          unfold cw_S
          rw [e1, cw_mv_o (by omega)]
      · rw [hB] at e
        rw [e2]
        by_cases z : c / 4 < 24
        · rw [if_pos z] at e
          rw [cw_mv_i (by omega) (by omega), show c - 96 * 0 + 96 * 1 = 4 * (c / 4 + 24) + c % 4 by omega]
          exact h5 _ b (by omega) hb e
        · rw [if_neg z, show 4 * (c / 4) + c % 4 = c by omega] at e
          rw [cw_mv_o (by omega)]
          exact h5 c b (by omega) hb e
      · rcases d2 with w | w
        · rw [e3, cw_mv_i (by omega) (by omega)]; exact w.2.2.2.1.1
        · exact absurd (w.1.symm.trans t) (by decide)
      · rcases d2 with w | w
        · rw [e3, cw_mv_i (by omega) (by omega)]; exact w.2.2.2.1.2.1
        · exact absurd (w.1.symm.trans t) (by decide)
      · rcases d2 with w | w
        · rw [e3, cw_mv_i (by omega) (by omega), ep, ← w.2.2.2.1.2.2 v t' hv ht]
          exact congrArg hs (by omega)
        · exact absurd (w.1.symm.trans t) (by decide)
      · rw [e3, cw_mv_o (by omega)]
end
end
section
theorem i_vc_write {k : Nat} {u : SX} {v : SY} (I : i_Rel k u v) (hk : k + 5 ≤ 2561) (v1 : Int32) (v2 : Int32) (v3 : Int32) (v4 : Int32) : wpX_write (fun r u' => wpY_write (fun r' v' => r' = r ∧ i_Rel (k + 5) u' v') v v1 v2 v3 v4) u v1 v2 v3 v4 :=
  match u, v, I with
  | (li, up, pr, iu, ha, nh, nu, ro, no, nr, nd, br, lb, lv, ld, de, dn, sl), (nx, st, bk, sp, va, hs, th, nm), I => cw_vc_write I hk v1 v2 v3 v4
theorem i_vc_cut {k : Nat} {u : SX} {v : SY} (I : i_Rel k u v) (hk : k + 5 ≤ 2561) (v1 : Int32) (v2 : Int32) (v3 : Int32) : wpX_cut (fun r u' => wpY_cut (fun r' v' => r' = r ∧ i_Rel (k + 5) u' v') v v1 v2 v3) u v1 v2 v3 :=
  match u, v, I with
  | (li, up, pr, iu, ha, nh, nu, ro, no, nr, nd, br, lb, lv, ld, de, dn, sl), (nx, st, bk, sp, va, hs, th, nm), I => cw_vc_cut I v1 v2 v3
theorem i_vc_copy {k : Nat} {u : SX} {v : SY} (I : i_Rel k u v) (hk : k + 5 ≤ 2561) (v1 : Int32) (v2 : Int32) (v3 : Int32) : wpX_copy (fun r u' => wpY_copy (fun r' v' => r' = r ∧ i_Rel (k + 5) u' v') v v1 v2 v3) u v1 v2 v3 :=
  match u, v, I with
  | (li, up, pr, iu, ha, nh, nu, ro, no, nr, nd, br, lb, lv, ld, de, dn, sl), (nx, st, bk, sp, va, hs, th, nm), I => cw_vc_copy I v1 v2 v3
theorem i_vc_swap {k : Nat} {u : SX} {v : SY} (I : i_Rel k u v) (hk : k + 5 ≤ 2561) (v1 : Int32) (v2 : Int32) (v3 : Int32) : wpX_swap (fun r u' => wpY_swap (fun r' v' => r' = r ∧ i_Rel (k + 5) u' v') v v1 v2 v3) u v1 v2 v3 :=
  match u, v, I with
  | (li, up, pr, iu, ha, nh, nu, ro, no, nr, nd, br, lb, lv, ld, de, dn, sl), (nx, st, bk, sp, va, hs, th, nm), I => cw_vc_swap I v1 v2 v3
theorem i_vc_move {k : Nat} {u : SX} {v : SY} (I : i_Rel k u v) (hk : k + 5 ≤ 2561) (v1 : Int32) (v2 : Int32) : wpX_move (fun r u' => wpY_move (fun r' v' => r' = r ∧ i_Rel (k + 5) u' v') v v1 v2) u v1 v2 :=
  match u, v, I with
  | (li, up, pr, iu, ha, nh, nu, ro, no, nr, nd, br, lb, lv, ld, de, dn, sl), (nx, st, bk, sp, va, hs, th, nm), I => cw_vc_move I v1 v2
theorem i_vc_snapshot {k : Nat} {u : SX} {v : SY} (I : i_Rel k u v) (hk : k + 5 ≤ 2561) (v1 : Int32) (v2 : Int32) : wpX_snapshot (fun r u' => wpY_snapshot (fun r' v' => r' = r ∧ i_Rel (k + 5) u' v') v v1 v2) u v1 v2 :=
  match u, v, I with
  | (li, up, pr, iu, ha, nh, nu, ro, no, nr, nd, br, lb, lv, ld, de, dn, sl), (nx, st, bk, sp, va, hs, th, nm), I => cw_vc_snapshot I v1 v2
theorem i_vc_drop {k : Nat} {u : SX} {v : SY} (I : i_Rel k u v) (hk : k + 5 ≤ 2561) (v1 : Int32) (v2 : Int32) : wpX_drop (fun r u' => wpY_drop (fun r' v' => r' = r ∧ i_Rel (k + 5) u' v') v v1 v2) u v1 v2 :=
  match u, v, I with
  | (li, up, pr, iu, ha, nh, nu, ro, no, nr, nd, br, lb, lv, ld, de, dn, sl), (nx, st, bk, sp, va, hs, th, nm), I => cw_vc_drop I v1 v2
theorem i_vc_revert {k : Nat} {u : SX} {v : SY} (I : i_Rel k u v) (hk : k + 5 ≤ 2561) (v1 : Int32) (v2 : Int32) : wpX_revert (fun r u' => wpY_revert (fun r' v' => r' = r ∧ i_Rel (k + 5) u' v') v v1 v2) u v1 v2 :=
  match u, v, I with
  | (li, up, pr, iu, ha, nh, nu, ro, no, nr, nd, br, lb, lv, ld, de, dn, sl), (nx, st, bk, sp, va, hs, th, nm), I => cw_vc_revert I v1 v2
theorem i_vc_read {k : Nat} {u : SX} {v : SY} (I : i_Rel k u v) (hk : k + 5 ≤ 2561) (v1 : Int32) (v2 : Int32) (v3 : Int32) (v4 : Int32) : wpX_read (fun r u' => wpY_read (fun r' => r' = r ∧ i_Rel (k + 5) u' v) v v1 v2 v3 v4) u v1 v2 v3 v4 :=
  match u, v, I with
  | (li, up, pr, iu, ha, nh, nu, ro, no, nr, nd, br, lb, lv, ld, de, dn, sl), (nx, st, bk, sp, va, hs, th, nm), I => cw_vc_read I v1 v2 v3 v4
theorem i_vc_shared {k : Nat} {u : SX} {v : SY} (I : i_Rel k u v) (hk : k + 5 ≤ 2561) (v1 : Int32) (v2 : Int32) (v3 : Int32) : wpX_shared (fun r => wpY_shared (fun r' => r' = r ∧ i_Rel (k + 5) u v) v v1 v2 v3) u v1 v2 v3 :=
  match u, v, I with
  | (li, up, pr, iu, ha, nh, nu, ro, no, nr, nd, br, lb, lv, ld, de, dn, sl), (nx, st, bk, sp, va, hs, th, nm), I => cw_vc_shared I v1 v2 v3
theorem i_vc_used {k : Nat} {u : SX} {v : SY} (I : i_Rel k u v) (hk : k + 5 ≤ 2561) : wpX_used (fun r => wpY_used (fun r' => r' = r ∧ i_Rel (k + 5) u v) v) u :=
  match u, v, I with
  | (li, up, pr, iu, ha, nh, nu, ro, no, nr, nd, br, lb, lv, ld, de, dn, sl), (nx, st, bk, sp, va, hs, th, nm), I => cw_vc_used I
theorem i_vc_sync {k : Nat} {u : SX} {v : SY} (I : i_Rel k u v) (hk : k + 5 ≤ 2561) (v1 : Int32) : wpX_sync (fun r u' => wpY_sync (fun r' v' => r' = r ∧ i_Rel (k + 5) u' v') v v1) u v1 :=
  match u, v, I with
  | (li, up, pr, iu, ha, nh, nu, ro, no, nr, nd, br, lb, lv, ld, de, dn, sl), (nx, st, bk, sp, va, hs, th, nm), I => cw_vc_sync I hk v1
theorem i_vc_crash {k : Nat} {u : SX} {v : SY} (I : i_Rel k u v) (hk : k + 5 ≤ 2561) : wpX_crash (fun r u' => wpY_crash (fun r' v' => r' = r ∧ i_Rel (k + 5) u' v') v) u :=
  match u, v, I with
  | (li, up, pr, iu, ha, nh, nu, ro, no, nr, nd, br, lb, lv, ld, de, dn, sl), (nx, st, bk, sp, va, hs, th, nm), I => cw_vc_crash I
theorem i_vc_damage {k : Nat} {u : SX} {v : SY} (I : i_Rel k u v) (hk : k + 5 ≤ 2561) (v1 : Int32) : wpX_damage (fun r u' => wpY_damage (fun r' v' => r' = r ∧ i_Rel (k + 5) u' v') v v1) u v1 :=
  match u, v, I with
  | (li, up, pr, iu, ha, nh, nu, ro, no, nr, nd, br, lb, lv, ld, de, dn, sl), (nx, st, bk, sp, va, hs, th, nm), I => cw_vc_damage I hk v1
theorem i_vc_mount {k : Nat} {u : SX} {v : SY} (I : i_Rel k u v) (hk : k + 5 ≤ 2561) : wpX_mount (fun r u' => wpY_mount (fun r' v' => r' = r ∧ i_Rel (k + 5) u' v') v) u :=
  match u, v, I with
  | (li, up, pr, iu, ha, nh, nu, ro, no, nr, nd, br, lb, lv, ld, de, dn, sl), (nx, st, bk, sp, va, hs, th, nm), I => cw_vc_mount I hk
theorem i_vc_info {k : Nat} {u : SX} {v : SY} (I : i_Rel k u v) (hk : k + 5 ≤ 2561) (v1 : Int32) : wpX_info (fun r => wpY_info (fun r' => r' = r ∧ i_Rel (k + 5) u v) v v1) u v1 :=
  match u, v, I with
  | (li, up, pr, iu, ha, nh, nu, ro, no, nr, nd, br, lb, lv, ld, de, dn, sl), (nx, st, bk, sp, va, hs, th, nm), I => cw_vc_info I v1
end
