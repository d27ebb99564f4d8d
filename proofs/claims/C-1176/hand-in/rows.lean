section
/-! pure rows to paste: stores, nI and lN arithmetic, masks, shifts, narrowing, branches by naturals (pk_le, pk_lt, pk_eq), loops (lp1 .. lp16: the measure of the state; rp1 ..: recursion), negatives. Take what you need -/
theorem pk_us {f : Nat → Int32} {k : Nat} {x : Int32} : upd f k x k = x := if_pos rfl
theorem pk_un {f : Nat → Int32} {k j : Nat} {x : Int32} (h : j ≠ k) : upd f k x j = f j := if_neg h
theorem pk_uLs {f : Nat → Int64} {k : Nat} {x : Int64} : vp_updL f k x k = x := if_pos rfl
theorem pk_uLn {f : Nat → Int64} {k j : Nat} {x : Int64} (h : j ≠ k) : vp_updL f k x j = f j := if_neg h
theorem pk_sub {a b : Nat} (h : b ≤ a) : nI a - nI b = nI (a - b) := by
  obtain ⟨c, rfl⟩ : ∃ c, a = c + b := ⟨a - b, by omega⟩
  rw [← nI_add, Int32.add_sub_cancel, Nat.add_sub_cancel]
theorem pk_m1 (n : Nat) : nI (n + 1) + (-1) = nI n := by
  rw [← nI_1, Int32.add_assoc, show (1 : Int32) + (-1) = 0 from rfl, Int32.add_zero]
theorem pk_mul (a b : Nat) : nI a * nI b = nI (a * b) := (Int32.ofNat_mul a b).symm
theorem pk_div {a d : Nat} (ha : a < 2 ^ 31) (h0 : 0 < d) (hd : d < 2 ^ 31) : nI a / nI d = nI (a / d) := by
  apply Int32.toInt_inj.mp
  rw [lg_idiv_nonneg (by rw [nI_toInt ha]; omega) (by rw [nI_toInt hd]; omega), nI_toInt ha, nI_toInt hd, nI_toInt (Nat.lt_of_le_of_lt (Nat.div_le_self a d) ha)]
  first | rfl | exact (Int.natCast_ediv _ _).symm
theorem pk_rem {a d : Nat} (ha : a < 2 ^ 31) (h0 : 0 < d) (hd : d < 2 ^ 31) : nI a - nI a / nI d * nI d = nI (a % d) := by
  rw [pk_div ha h0 hd, pk_mul, pk_sub (Nat.div_mul_le_self a d)]
  exact congrArg nI (by have := Nat.div_add_mod' a d; omega)
theorem pk_sub_toInt {a b : Nat} (ha : a < 2 ^ 30) (hb : b < 2 ^ 30) : (nI a - nI b).toInt = (a : Int) - b := by
  rw [Int32.toInt_sub, nI_toInt (by omega), nI_toInt (by omega)]
  exact Int.bmod_eq_of_le (by omega) (by omega)
theorem pk_sneg {a b : Nat} (hb : b < 2 ^ 30) (h : a < b) : nI a - nI b < 0 := by
  rw [Int32.lt_iff_toInt_lt, pk_sub_toInt (by omega) hb, show (0 : Int32).toInt = 0 from by decide]
  omega
theorem pk_ix (x : Int32) {n : Nat} (hn : n < 2 ^ 31) : x < 0 ∨ nI n ≤ x ∨ ∃ j : Nat, j < n ∧ x = nI j := by
  by_cases h : x < 0
  · exact Or.inl h
  · obtain ⟨j, hj, rfl⟩ := nI_of h
    by_cases h2 : j < n
    · exact Or.inr (Or.inr ⟨j, h2, rfl⟩)
    · exact Or.inr (Or.inl (nI_le (by omega) hj))
theorem pk_le {x y : Int32} {A B : Prop} (a b : Nat) (f : a ≤ b → A) (g : b < a → B) (hx : x = nI a := by rfl) (hy : y = nI b := by rfl) (ha : a < 2 ^ 31 := by omega) (hb : b < 2 ^ 31 := by omega) : (x ≤ y → A) ∧ (¬ x ≤ y → B) := by
  subst hx hy
  rw [nI_leI ha hb]
  exact ⟨f, fun z => g (by omega)⟩
theorem pk_lt {x y : Int32} {A B : Prop} (a b : Nat) (f : a < b → A) (g : b ≤ a → B) (hx : x = nI a := by rfl) (hy : y = nI b := by rfl) (ha : a < 2 ^ 31 := by omega) (hb : b < 2 ^ 31 := by omega) : (x < y → A) ∧ (¬ x < y → B) := by
  subst hx hy
  rw [nI_ltI ha hb]
  exact ⟨f, fun z => g (by omega)⟩
theorem pk_eq {x y : Int32} {A B : Prop} (a b : Nat) (f : a = b → A) (g : a ≠ b → B) (hx : x = nI a := by rfl) (hy : y = nI b := by rfl) (ha : a < 2 ^ 31 := by omega) (hb : b < 2 ^ 31 := by omega) : (x = y → A) ∧ (¬ x = y → B) := by
  subst hx hy
  rw [nI_eq ha hb]
  exact ⟨f, g⟩
theorem pk_in {x : Int32} (n N : Nat) (h : n < N) (hx : x = nI n := by rfl) (hN : N < 2 ^ 31 := by omega) : vp_in x N := by
  subst hx
  exact vp_in_nI h hN
theorem pk_cl {x : Int32} (n : Nat) (hx : x = nI n := by rfl) (h : n < 2 ^ 31 := by omega) : x.toNatClampNeg = n := by
  subst hx
  exact nI_clamp h
theorem pk_tn {n : Nat} (h : n < 2 ^ 32) : (nI n).toBitVec.toNat = n := Nat.mod_eq_of_lt h
theorem pk_and (x : Int32) {m : Int32} (k : Nat) (hm : m.toBitVec.toNat = 2 ^ k - 1) : x &&& m = nI (x.toBitVec.toNat % 2 ^ k) := by
  apply Int32.toBitVec_inj.mp
  apply BitVec.eq_of_toNat_eq
  rw [Int32.toBitVec_and, BitVec.toNat_and, hm, Nat.and_two_pow_sub_one_eq_mod]
  show _ = (BitVec.ofNat 32 _).toNat
  rw [BitVec.toNat_ofNat]
  exact (Nat.mod_eq_of_lt (Nat.lt_of_le_of_lt (Nat.mod_le _ _) x.toBitVec.isLt)).symm
theorem pk_andN {n : Nat} (h : n < 2 ^ 32) {m : Int32} (k : Nat) (hm : m.toBitVec.toNat = 2 ^ k - 1) : nI n &&& m = nI (n % 2 ^ k) := by
  rw [pk_and _ k hm, pk_tn h]
theorem pk_andE (x : Int32) {m : Int32} (k : Nat) (hm : m.toBitVec.toNat = 2 ^ k - 1) : ∃ j : Nat, j < 2 ^ k ∧ x &&& m = nI j := ⟨_, Nat.mod_lt _ (Nat.two_pow_pos k), pk_and x k hm⟩
theorem pk_andIn (x : Int32) {m : Int32} (k : Nat) (hm : m.toBitVec.toNat = 2 ^ k - 1) (hk : k ≤ 30) : vp_in (x &&& m) (2 ^ k) := by
  obtain ⟨j, hj, e⟩ := pk_andE x k hm
  rw [e]
  exact vp_in_nI hj (Nat.lt_of_le_of_lt (Nat.pow_le_pow_right (by decide) hk) (by decide))
theorem pk_shl (a s : Int32) (k : Nat) (hs : (s.toBitVec.smod 32).toNat = k) : (a <<< s).toBitVec.toNat = a.toBitVec.toNat * 2 ^ k % 2 ^ 32 := by
  show (a.toBitVec <<< (s.toBitVec.smod 32).toNat).toNat = _
  rw [hs, BitVec.toNat_shiftLeft, Nat.shiftLeft_eq]
theorem pk_shlN {n : Nat} (s : Int32) (k : Nat) (hs : (s.toBitVec.smod 32).toNat = k) (h : n * 2 ^ k < 2 ^ 32) : nI n <<< s = nI (n * 2 ^ k) := by
  apply Int32.toBitVec_inj.mp
  apply BitVec.eq_of_toNat_eq
  have hn : n < 2 ^ 32 := Nat.lt_of_le_of_lt (Nat.le_mul_of_pos_right n (Nat.two_pow_pos k)) h
  rw [pk_shl _ _ k hs, pk_tn hn, pk_tn h, Nat.mod_eq_of_lt h]
theorem pk_shr (a s : Int32) (k : Nat) (hs : (s.toBitVec.smod 32).toNat = k) : (a >>> s).toInt = a.toInt >>> k := by
  show (a.toBitVec.sshiftRight (s.toBitVec.smod 32).toNat).toInt = _
  rw [hs, BitVec.toInt_sshiftRight]
  rfl
theorem pk_shrN {n : Nat} (h : n < 2 ^ 31) (s : Int32) (k : Nat) (hs : (s.toBitVec.smod 32).toNat = k) : nI n >>> s = nI (n / 2 ^ k) := by
  apply Int32.toInt_inj.mp
  have h2 : n / 2 ^ k ≤ n := Nat.div_le_self _ _
  rw [pk_shr _ _ k hs, nI_toInt h, nI_toInt (by omega), Int.shiftRight_eq_div_pow]
  rfl
theorem pk_ushr (x s : Int32) (k : Nat) (hs : ((s.toUInt32 &&& Int32.toUInt32 31).toBitVec % 32).toNat = k) : (x.toUInt32 >>> (s.toUInt32 &&& Int32.toUInt32 31)).toInt32.toBitVec.toNat = x.toBitVec.toNat / 2 ^ k := by
  have e : (x.toUInt32 >>> (s.toUInt32 &&& Int32.toUInt32 31)).toInt32.toBitVec = x.toBitVec >>> k := by
    rw [← hs]
    exact UInt32.toBitVec_shiftRight _ _
  rw [e, BitVec.toNat_ushiftRight, Nat.shiftRight_eq_div_pow]
theorem pk_ushrN {n : Nat} (hn : n < 2 ^ 32) (s : Int32) (k : Nat) (hs : ((s.toUInt32 &&& Int32.toUInt32 31).toBitVec % 32).toNat = k) : ((nI n).toUInt32 >>> (s.toUInt32 &&& Int32.toUInt32 31)).toInt32 = nI (n / 2 ^ k) := by
  apply Int32.toBitVec_inj.mp
  apply BitVec.eq_of_toNat_eq
  rw [pk_ushr _ s k hs, pk_tn hn, pk_tn (Nat.lt_of_le_of_lt (Nat.div_le_self _ _) hn)]
theorem pk_nb (z : Int32) : narrow .byte (.int z.toInt8.toInt32) = .int z.toInt8.toInt32 := congrArg Value.int (by simp)
theorem pk_ns (z : Int32) : narrow .short (.int z.toInt16.toInt32) = .int z.toInt16.toInt32 := congrArg Value.int (by simp)
theorem pk_fb (r : Int32) : fits .byte (.int r.toInt8.toInt32) = true := by
  have ⟨a, b⟩ := lg_i2b_range r
  have h1 : (-128 : Int32).toInt = -128 := by decide
  have h2 : (127 : Int32).toInt = 127 := by decide
  simp only [fits, Bool.and_eq_true, decide_eq_true_eq, Int32.le_iff_toInt_le, h1, h2]
  omega
theorem pk_fs (r : Int32) : fits .short (.int r.toInt16.toInt32) = true := by
  have ⟨a, b⟩ := lg_i2s_range r
  have h1 : (-32768 : Int32).toInt = -32768 := by decide
  have h2 : (32767 : Int32).toInt = 32767 := by decide
  simp only [fits, Bool.and_eq_true, decide_eq_true_eq, Int32.le_iff_toInt_le, h1, h2]
  omega
theorem pk_charN {q : Nat} (hq : q < 65536) : narrow .char (.int (nI q)) = .int (nI q) ∧ fits .char (.int (nI q)) = true := by
  constructor
  · have e : (nI q).toUInt32.toUInt16.toUInt32.toInt32 = nI q := by
      apply Int32.toBitVec_inj.mp
      apply BitVec.eq_of_toNat_eq
      show (nI q).toUInt32.toUInt16.toUInt32.toNat = q % 2 ^ 32
      rw [UInt16.toNat_toUInt32, UInt32.toNat_toUInt16, show (nI q).toUInt32.toNat = q % 2 ^ 32 from rfl]
      omega
    exact congrArg Value.int e
  · have a : (0 : Int32) ≤ nI q := nI_pos' (by omega)
    have b : nI q ≤ 65535 := nI_le (b := 65535) (by omega) (by decide)
    show (decide ((0 : Int32) ≤ nI q) && decide (nI q ≤ 65535)) = true
    rw [decide_eq_true a, decide_eq_true b]
    rfl
theorem pk_char (x : Int32) : (x.toUInt32 % 65536).toInt32 = nI (x.toBitVec.toNat % 65536) := by
  apply Int32.toBitVec_inj.mp
  apply BitVec.eq_of_toNat_eq
  rw [pk_tn (by omega)]
  show (x.toUInt32 % 65536).toNat = _
  rw [UInt32.toNat_mod]
  rfl
theorem pk_nc (x : Int32) : narrow .char (.int (x.toUInt32 % 65536).toInt32) = .int (x.toUInt32 % 65536).toInt32 := by
  rw [pk_char]
  exact (pk_charN (Nat.mod_lt _ (by decide))).1
theorem pk_fc (x : Int32) : fits .char (.int (x.toUInt32 % 65536).toInt32) = true := by
  rw [pk_char]
  exact (pk_charN (Nat.mod_lt _ (by decide))).2
theorem pk_vb (z : Int32) : vp_nar .byte z.toInt8.toInt32 = z.toInt8.toInt32 := by rw [vp_nar_byte]; simp
theorem pk_vs (z : Int32) : vp_nar .short z.toInt16.toInt32 = z.toInt16.toInt32 := by rw [vp_nar_short]; simp
theorem pk_vc (z : Int32) : vp_nar .char (z.toUInt32 % 65536).toInt32 = (z.toUInt32 % 65536).toInt32 := Value.int.inj (pk_nc z)
theorem pk_lT {n : Nat} (h : n < 2 ^ 63) : (lN n).toInt = (n : Int) := lg_ofNat_toInt h
theorem pk_lLT {a b : Nat} (ha : a < 2 ^ 63) (hb : b < 2 ^ 63) : lN a < lN b ↔ a < b := by
  rw [Int64.lt_iff_toInt_lt, pk_lT ha, pk_lT hb]; omega
theorem pk_lLE {a b : Nat} (ha : a < 2 ^ 63) (hb : b < 2 ^ 63) : lN a ≤ lN b ↔ a ≤ b := by
  rw [Int64.le_iff_toInt_le, pk_lT ha, pk_lT hb]; omega
theorem pk_lEQ {a b : Nat} (ha : a < 2 ^ 63) (hb : b < 2 ^ 63) : lN a = lN b ↔ a = b := by
  rw [← Int64.toInt_inj, pk_lT ha, pk_lT hb]; omega
theorem pk_lOf {x : Int64} (h : ¬ x < 0) : ∃ k : Nat, k < 2 ^ 63 ∧ x = lN k := by
  rw [Int64.lt_iff_toInt_lt] at h
  have h0 : (0 : Int64).toInt = 0 := by decide
  have hx := Int64.toInt_lt x
  refine ⟨x.toInt.toNat, by omega, Int64.toInt_inj.mp ?_⟩
  rw [pk_lT (by omega)]
  omega
theorem pk_lDiv {a b : Nat} (ha : a < 2 ^ 63) (h0 : 0 < b) (hb : b < 2 ^ 63) : lN a / lN b = lN (a / b) := by
  apply Int64.toInt_inj.mp
  rw [lg_ldiv_nonneg (by rw [pk_lT ha]; omega) (by rw [pk_lT hb]; omega), pk_lT ha, pk_lT hb, pk_lT (Nat.lt_of_le_of_lt (Nat.div_le_self a b) ha)]
  rfl
theorem pk_lRem {a b : Nat} (ha : a < 2 ^ 63) (h0 : 0 < b) (hb : b < 2 ^ 63) : lN a - lN a / lN b * lN b = lN (a % b) := by
  rw [pk_lDiv ha h0 hb, lN_mul, lN_sub (Nat.div_mul_le_self a b)]
  exact congrArg lN (by have := Nat.div_add_mod' a b; omega)
theorem pk_loop {σ : Type} (W : Nat → Nat → σ → Prop) (I : Nat → σ → Prop) (e i0 : Nat) (s : σ) (hi : i0 ≤ e) (h0 : I i0 s) (hx : ∀ n s, I e s → W (n + 1) e s)
    (hs : ∀ n i s, i < e → I i s → (∀ s', I (i + 1) s' → W n (i + 1) s') → W (n + 1) i s) : ∃ n, W n i0 s :=
  ⟨e + 1, loop_i W I e hx hs (e + 1) i0 s hi (by omega) h0⟩
/-! ===== Int32 by its bits: bt x i ===== -/
def bt (x : Int32) (i : Nat) : Bool := x.toBitVec.getLsbD i
theorem b_ext {x y : Int32} (h : ∀ i, i < 32 → bt x i = bt y i) : x = y := Int32.toBitVec_inj.mp (BitVec.eq_of_getLsbD_eq (fun i hi => h i hi))
theorem b_or (x y : Int32) (i : Nat) : bt (x ||| y) i = (bt x i || bt y i) := by unfold bt; rw [Int32.toBitVec_or, BitVec.getLsbD_or]
theorem b_and (x y : Int32) (i : Nat) : bt (x &&& y) i = (bt x i && bt y i) := by unfold bt; rw [Int32.toBitVec_and, BitVec.getLsbD_and]
theorem b_xor (x y : Int32) (i : Nat) : bt (x ^^^ y) i = (bt x i ^^ bt y i) := by unfold bt; rw [Int32.toBitVec_xor, BitVec.getLsbD_xor]
theorem b_big {x : Int32} {i : Nat} (h : 32 ≤ i) : bt x i = false := BitVec.getLsbD_of_ge _ _ h
theorem b_255 (i : Nat) : bt 255 i = decide (i < 8) := by
  rcases Nat.lt_or_ge i 32 with h | h
  · exact (by decide +kernel : ∀ i, i < 32 → bt 255 i = decide (i < 8)) i h
  · rw [b_big h, decide_eq_false (by omega)]
theorem b_65535 (i : Nat) : bt 65535 i = decide (i < 16) := by
  rcases Nat.lt_or_ge i 32 with h | h
  · exact (by decide +kernel : ∀ i, i < 32 → bt 65535 i = decide (i < 16)) i h
  · rw [b_big h, decide_eq_false (by omega)]
theorem b_m1 : ∀ i, i < 32 → bt (-1) i = true := by decide +kernel
theorem b_0 (i : Nat) : bt 0 i = false := BitVec.getLsbD_zero
theorem s_l : ∀ n, n < 32 → ((nI n &&& 31).toBitVec.smod 32).toNat = n := by decide +kernel
theorem s_u : ∀ n, n < 32 → (((nI n).toUInt32 &&& Int32.toUInt32 31).toBitVec % 32).toNat = n := by decide +kernel
theorem b_shl (n : Nat) (hn : n < 32) (x : Int32) {i : Nat} (hi : i < 32) : bt (x <<< (nI n &&& 31)) i = (decide (n ≤ i) && bt x (i - n)) := by
  unfold bt
  rw [Int32.toBitVec_shiftLeft]
  show (x.toBitVec <<< ((nI n &&& 31).toBitVec.smod 32).toNat).getLsbD i = _
  rw [s_l n hn, BitVec.getLsbD_shiftLeft]
  rcases Nat.lt_or_ge i n with h | h
  · simp [h, Nat.not_le.mpr h]
  · simp [hi, h, Nat.not_lt.mpr h]
theorem b_ushr (n : Nat) (hn : n < 32) (x : Int32) (i : Nat) : bt ((x.toUInt32 >>> ((nI n).toUInt32 &&& Int32.toUInt32 31)).toInt32) i = bt x (n + i) := by
  show (x.toUInt32 >>> ((nI n).toUInt32 &&& Int32.toUInt32 31)).toBitVec.getLsbD i = x.toUInt32.toBitVec.getLsbD (n + i)
  rw [UInt32.toBitVec_shiftRight]
  show (x.toUInt32.toBitVec >>> (((nI n).toUInt32 &&& Int32.toUInt32 31).toBitVec % 32).toNat).getLsbD i = _
  rw [s_u n hn, BitVec.getLsbD_ushiftRight]
theorem b_sshr (n : Nat) (hn : n < 32) (x : Int32) {i : Nat} (hi : i < 32) : bt (x >>> (nI n &&& 31)) i = if n + i < 32 then bt x (n + i) else bt x 31 := by
  unfold bt
  rw [Int32.toBitVec_shiftRight]
  show (x.toBitVec.sshiftRight ((nI n &&& 31).toBitVec.smod 32).toNat).getLsbD i = _
  rw [s_l n hn, BitVec.getLsbD_sshiftRight, BitVec.msb_eq_getLsbD_last]
  simp [hi]
theorem b_shl8 (x : Int32) {i : Nat} (hi : i < 32) : bt (x <<< ((8 : Int32) &&& 31)) i = (decide (8 ≤ i) && bt x (i - 8)) := b_shl 8 (by omega) x hi
theorem b_shl16 (x : Int32) {i : Nat} (hi : i < 32) : bt (x <<< ((16 : Int32) &&& 31)) i = (decide (16 ≤ i) && bt x (i - 16)) := b_shl 16 (by omega) x hi
theorem b_shl24 (x : Int32) {i : Nat} (hi : i < 32) : bt (x <<< ((24 : Int32) &&& 31)) i = (decide (24 ≤ i) && bt x (i - 24)) := b_shl 24 (by omega) x hi
theorem b_sshr8 (x : Int32) {i : Nat} (hi : i < 32) : bt (x >>> ((8 : Int32) &&& 31)) i = if 8 + i < 32 then bt x (8 + i) else bt x 31 := b_sshr 8 (by omega) x hi
/-! ===== nI under and, xor, >>>, one bit, 65535 ===== -/
theorem nx_and (a b : Nat) : nI a &&& nI b = nI (a &&& b) := by
  apply Int32.toBitVec_inj.1
  show BitVec.ofNat 32 a &&& BitVec.ofNat 32 b = BitVec.ofNat 32 (a &&& b)
  apply BitVec.eq_of_getLsbD_eq
  intro i hi
  simp [hi]
theorem nx_mod (k : Nat) : nI k &&& 65535 = nI (k % 65536) := by
  show nI k &&& nI 65535 = _
  rw [nx_and, show (65535 : Nat) = 2 ^ 16 - 1 from rfl, Nat.and_two_pow_sub_one_eq_mod]
theorem nx_m16 {k : Nat} (h : k < 65536) : nI k &&& 65535 = nI k := by rw [nx_mod, Nat.mod_eq_of_lt h]
end
section
theorem zz_by {n : Nat} (h : n < 128) : (nI n).toInt8.toInt32 = nI n := by
  have e := nI_toInt (n := n) (by omega)
  exact lg_i2b_small (by omega) (by omega)
theorem zz_sh {n : Nat} (h : n < 32768) : (nI n).toInt16.toInt32 = nI n := by
  have e := nI_toInt (n := n) (by omega)
  exact lg_i2s_small (by omega) (by omega)
theorem zz_vb {n : Nat} (h : n < 128) : vp_nar .byte (nI n).toInt8.toInt32 = nI n := by rw [pk_vb, zz_by h]
theorem zz_vs {n : Nat} (h : n < 32768) : vp_nar .short (nI n).toInt16.toInt32 = nI n := by rw [pk_vs, zz_sh h]
/-- a short that is -1 or a small number -/
theorem zz_vs1 : vp_nar .short (-1 : Int32).toInt16.toInt32 = -1 := by rw [pk_vs]; decide
theorem zz_nor (a b : Nat) : nI a ||| nI b = nI (a ||| b) := by
  apply Int32.toBitVec_inj.1
  show BitVec.ofNat 32 a ||| BitVec.ofNat 32 b = BitVec.ofNat 32 (a ||| b)
  apply BitVec.eq_of_getLsbD_eq
  intro i hi
  simp [hi]
theorem zz_or {x q : Nat} (h : x < 65536) : nI x ||| nI (q * 65536) = nI (x + q * 65536) := by
  rw [zz_nor]
  have e := Nat.two_pow_add_eq_or_of_lt (b := x) (i := 16) (by omega) q
  have e2 : x ||| q * 65536 = x + q * 65536 := by
    rw [Nat.or_comm, Nat.mul_comm q 65536, Nat.add_comm x]
    exact e.symm
  rw [e2]
theorem zz_lo {x q : Nat} (h : x < 65536) (hq : q < 32768) : nI (x + q * 65536) &&& 65535 = nI x := by
  rw [pk_andN (n := x + q * 65536) (by omega) 16 (by decide)]
  congr 1
  omega
theorem zz_hi {x q : Nat} (h : x < 65536) (hq : q < 32768) : nI (x + q * 65536) >>> ((16 : Int32) &&& 31) = nI q := by
  rw [pk_shrN (n := x + q * 65536) (by omega) _ 16 (by decide)]
  congr 1
  omega
theorem zz_hi0 {q : Nat} (hq : q < 32768) : nI (q * 65536) >>> ((16 : Int32) &&& 31) = nI q := by
  have := zz_hi (x := 0) (q := q) (by omega) hq
  rwa [Nat.zero_add] at this
theorem zz_sl {q : Nat} (hq : q < 32768) : nI q <<< ((16 : Int32) &&& 31) = nI (q * 65536) :=
  pk_shlN (n := q) _ 16 (by decide) (by omega)
theorem zz_b1 : ∀ i, i < 32 → bt 1 i = decide (i = 0) := by decide +kernel
theorem zz_bit1 (y : Int32) : (y &&& 1) = 1 ↔ bt y 0 = true := by
  constructor
  · intro h
    have e := congrArg (fun z => bt z 0) h
    simp only [b_and, zz_b1 0 (by omega)] at e
    simpa using e
  · intro h
    apply b_ext
    intro i hi
    rw [b_and, zz_b1 i hi]
    by_cases z : i = 0
    · subst z; simp [h]
    · simp [z]
theorem zz_bit0 (y : Int32) : (y &&& 1) = 0 ↔ bt y 0 = false := by
  constructor
  · intro h
    have e := congrArg (fun z => bt z 0) h
    simp only [b_and, zz_b1 0 (by omega), b_0] at e
    simpa using e
  · intro h
    apply b_ext
    intro i hi
    rw [b_and, zz_b1 i hi, b_0]
    by_cases z : i = 0
    · subst z; simp [h]
    · simp [z]
theorem zz_bs {x : Int32} {s : Nat} (h : s < 32) : bt (x >>> (nI s &&& 31)) 0 = bt x s := by
  rw [b_sshr s h x (by omega), if_pos (by omega)]; rfl
theorem zz_bit {x : Int32} {s : Nat} (h : s < 32) : ((x >>> (nI s &&& 31)) &&& 1) = 1 ↔ bt x s = true := by rw [zz_bit1, zz_bs h]
theorem zz_bitz {x : Int32} {s : Nat} (h : s < 32) : ((x >>> (nI s &&& 31)) &&& 1) = 0 ↔ bt x s = false := by rw [zz_bit0, zz_bs h]
theorem zz_b1s {s j : Nat} (h : s < 32) (hj : j < 32) : bt ((1 : Int32) <<< (nI s &&& 31)) j = decide (j = s) := by
  rw [b_shl s h 1 hj, zz_b1 (j - s) (by omega)]
  by_cases z : j = s
  · subst z; simp
  · by_cases w : s ≤ j
    · have : ¬ j - s = 0 := by omega
      simp [z, this]
    · simp [z, w]
theorem zz_set {x : Int32} {s j : Nat} (h : s < 32) (hj : j < 32) : bt (x ||| ((1 : Int32) <<< (nI s &&& 31))) j = (bt x j || decide (j = s)) := by
  rw [b_or, zz_b1s h hj]
theorem zz_clr {x : Int32} {s j : Nat} (h : s < 32) (hj : j < 32) : bt (x &&& (((1 : Int32) <<< (nI s &&& 31)) ^^^ (-1))) j = (bt x j && !decide (j = s)) := by
  rw [b_and, b_xor, zz_b1s h hj, b_m1 j hj]
  cases bt x j <;> cases decide (j = s) <;> rfl
/-! values: a kind and an int as one long -/
def zz_en (k v : Int32) : Int64 := if k = 0 then v.toInt64 else if k = 1 then 30000000000 + v.toInt64 else 20000000000
def zz_V (nc : Nat) (k v : Int32) : Prop := k = 0 ∨ (k = 1 ∧ ∃ c, c < nc ∧ v = nI c)
def zz_W (nc : Nat) (k v : Int32) : Prop := zz_V nc k v ∨ k = 2
theorem zz_en0 (v : Int32) : zz_en 0 v = v.toInt64 := rfl
theorem zz_en1 (v : Int32) : zz_en 1 v = 30000000000 + v.toInt64 := rfl
theorem zz_en2 (v : Int32) : zz_en 2 v = 20000000000 := rfl
theorem zz_3e : (30000000000 : Int64).toInt = 30000000000 := by decide
theorem zz_2e : (20000000000 : Int64).toInt = 20000000000 := by decide
theorem zz_enc {c : Nat} (h : c < 1000) : (zz_en 1 (nI c)).toInt = 30000000000 + c := by
  have e : zz_en 1 (nI c) = lN (30000000000 + c) := by
    rw [zz_en1, nI_l (by omega)]
    exact lN_add 30000000000 c
  rw [e, pk_lT (by omega)]
  omega
theorem zz_enT0 (v : Int32) : (zz_en 0 v).toInt = v.toInt := by rw [zz_en0, Int32.toInt_toInt64]
theorem zz_ge {nc : Nat} {k v : Int32} (hn : nc < 1000) (h : zz_W nc k v) : 30000000000 ≤ zz_en k v ↔ k = 1 := by
  rw [Int64.le_iff_toInt_le, zz_3e]
  rcases h with (h | ⟨h, c, hc, e⟩) | h
  · subst h
    have := v.toInt_lt
    rw [zz_enT0]
    constructor
    · intro z; omega
    · intro z; exact absurd z (by decide)
  · subst h e
    rw [zz_enc (by omega)]
    constructor
    · intro _; rfl
    · intro _; omega
  · subst h
    rw [zz_en2, zz_2e]
    constructor
    · intro z; omega
    · intro z; exact absurd z (by decide)
theorem zz_lt {nc : Nat} {k v : Int32} (hn : nc < 1000) (h : zz_W nc k v) : zz_en k v < 30000000000 ↔ ¬ k = 1 := by
  rw [← zz_ge hn h, Int64.not_le]
theorem zz_eq2 {nc : Nat} {k v : Int32} (hn : nc < 1000) (h : zz_W nc k v) : zz_en k v = 20000000000 ↔ k = 2 := by
  rw [← Int64.toInt_inj, zz_2e]
  rcases h with (h | ⟨h, c, hc, e⟩) | h
  · subst h
    have := v.toInt_lt
    rw [zz_enT0]
    constructor
    · intro z; omega
    · intro z; exact absurd z (by decide)
  · subst h e
    rw [zz_enc (by omega)]
    constructor
    · intro z; omega
    · intro z; exact absurd z (by decide)
  · subst h
    rw [zz_en2, zz_2e]
    simp
theorem zz_eq0 {nc : Nat} {k v : Int32} (hn : nc < 1000) (h : zz_V nc k v) : zz_en k v = 0 ↔ (k = 0 ∧ v = 0) := by
  have z0 : (0 : Int64).toInt = 0 := by decide
  have z1 : (0 : Int32).toInt = 0 := by decide
  rw [← Int64.toInt_inj, z0]
  rcases h with h | ⟨h, c, hc, e⟩
  · subst h
    rw [zz_enT0, ← Int32.toInt_inj (x := v), z1]
    simp
  · subst h e
    rw [zz_enc (by omega)]
    constructor
    · intro z; omega
    · intro z; exact absurd z.1 (by decide)
theorem zz_cl {c : Nat} (h : c < 1000) : (zz_en 1 (nI c) - 30000000000).toInt32 = nI c := by
  have e : zz_en 1 (nI c) = lN (30000000000 + c) := by
    rw [zz_en1, nI_l (by omega)]
    exact lN_add 30000000000 c
  have e2 : lN (30000000000 + c) - lN 30000000000 = lN c := by
    rw [lN_sub (Nat.le_add_right _ _), Nat.add_sub_cancel_left]
  rw [e]
  show (lN (30000000000 + c) - lN 30000000000).toInt32 = nI c
  rw [e2, lN_i]
theorem zz_add (x y : Int32) : ((zz_en 0 x + zz_en 0 y).toInt32).toInt64 = zz_en 0 (x + y) := by
  rw [zz_en0, zz_en0, zz_en0, Int64.toInt32_add, Int32.toInt32_toInt64, Int32.toInt32_toInt64]
theorem zz_sub (x y : Int32) : ((zz_en 0 x - zz_en 0 y).toInt32).toInt64 = zz_en 0 (x - y) := by
  rw [zz_en0, zz_en0, zz_en0, Int64.toInt32_sub, Int32.toInt32_toInt64, Int32.toInt32_toInt64]
theorem zz_les (x y : Int32) : zz_en 0 y ≤ zz_en 0 x ↔ y ≤ x := by
  rw [Int64.le_iff_toInt_le, zz_enT0, zz_enT0, Int32.le_iff_toInt_le]
theorem zz_Vm {n n' : Nat} {k v : Int32} (h : n ≤ n') (H : zz_V n k v) : zz_V n' k v := by
  rcases H with H | ⟨H, c, hc, e⟩
  · exact Or.inl H
  · exact Or.inr ⟨H, c, by omega, e⟩
theorem zz_Wm {n n' : Nat} {k v : Int32} (h : n ≤ n') (H : zz_W n k v) : zz_W n' k v := H.elim (fun z => Or.inl (zz_Vm h z)) Or.inr
theorem zz_V2 {n : Nat} {k v : Int32} (H : zz_V n k v) : ¬ k = 2 := by
  rcases H with H | ⟨H, _⟩ <;> subst H <;> decide
/-! an array that holds a list: its last at 0, its head on top -/
def zz_R {α β : Type} (a : Nat → α) (g : β → α) : List β → Prop
  | [] => True
  | x :: l => a l.length = g x ∧ zz_R a g l
theorem zz_Rc {α β : Type} {a a' : Nat → α} {g : β → α} : ∀ {l : List β}, (∀ i, i < l.length → a' i = a i) → zz_R a g l → zz_R a' g l
  | [], _, _ => trivial
  | x :: l, h, H => ⟨(h l.length (Nat.lt_succ_self _)).trans H.1, zz_Rc (fun i hi => h i (Nat.lt_succ_of_lt hi)) H.2⟩
theorem zz_Rk {β : Type} {a : Nat → Int32} {g : β → Int32} {l : List β} {k : Nat} {v : Int32} (hk : l.length ≤ k) (H : zz_R a g l) : zz_R (upd a k v) g l :=
  zz_Rc (fun i hi => pk_un (by omega)) H
theorem zz_RkL {β : Type} {a : Nat → Int64} {g : β → Int64} {l : List β} {k : Nat} {v : Int64} (hk : l.length ≤ k) (H : zz_R a g l) : zz_R (vp_updL a k v) g l :=
  zz_Rc (fun i hi => pk_uLn (by omega)) H
theorem zz_Rp {β : Type} {a : Nat → Int32} {g : β → Int32} {l : List β} {x : β} {v : Int32} (e : v = g x) (H : zz_R a g l) : zz_R (upd a l.length v) g (x :: l) :=
  ⟨pk_us.trans e, zz_Rk (Nat.le_refl _) H⟩
theorem zz_RpL {β : Type} {a : Nat → Int64} {g : β → Int64} {l : List β} {x : β} {v : Int64} (e : v = g x) (H : zz_R a g l) : zz_R (vp_updL a l.length v) g (x :: l) :=
  ⟨pk_uLs.trans e, zz_RkL (Nat.le_refl _) H⟩
/-! operands and limits of a kind -/
def zz_op (k : Nat) : Nat := if k = 0 ∨ k = 1 ∨ k = 18 then 0 else if k = 2 ∨ k = 4 ∨ k = 6 ∨ k = 12 ∨ k = 13 ∨ k = 16 ∨ k = 17 then 1 else if k = 8 then 3 else 2
def zz_lm (k : Nat) : Nat := if k = 1 ∨ k = 2 ∨ k = 3 ∨ k = 4 ∨ k = 17 then 8 else if k = 6 ∨ k = 12 ∨ k = 13 then 4 else if k = 16 then 3 else 0
theorem zz_op4 (k : Nat) : zz_op k < 4 := by
  unfold zz_op
  repeat' split
  all_goals omega
theorem zz_k19 {Q : Nat → Prop} (h0 : Q 0) (h1 : Q 1) (h2 : Q 2) (h3 : Q 3) (h4 : Q 4) (h5 : Q 5) (h6 : Q 6) (h7 : Q 7) (h8 : Q 8) (h9 : Q 9) (h10 : Q 10) (h11 : Q 11) (h12 : Q 12) (h13 : Q 13) (h14 : Q 14) (h15 : Q 15) (h16 : Q 16) (h17 : Q 17) (h18 : Q 18) : ∀ k, k < 19 → Q k
  | 0, _ => h0 | 1, _ => h1 | 2, _ => h2 | 3, _ => h3 | 4, _ => h4 | 5, _ => h5 | 6, _ => h6 | 7, _ => h7 | 8, _ => h8 | 9, _ => h9 | 10, _ => h10 | 11, _ => h11 | 12, _ => h12 | 13, _ => h13 | 14, _ => h14 | 15, _ => h15 | 16, _ => h16 | 17, _ => h17 | 18, _ => h18
  | n + 19, h => absurd h (by omega)
theorem zx_operands {P : Int32 → Prop} : ∀ k, k < 19 → P (nI (zz_op k)) → wpX_operands P (nI k) := by
  apply zz_k19 (Q := fun k => P (nI (zz_op k)) → wpX_operands P (nI k))
  all_goals (intro h; unfold wpX_operands; refine br_f (by decide) (br_f (by decide) ?_))
  all_goals (repeat (first | exact br_t (by decide) h | refine br_f (by decide) ?_))
theorem zy_operands {P : Int32 → Prop} : ∀ k, k < 19 → P (nI (zz_op k)) → wpY_operands P (nI k) := by
  apply zz_k19 (Q := fun k => P (nI (zz_op k)) → wpY_operands P (nI k))
  all_goals (intro h; unfold wpY_operands)
  all_goals (repeat (first | exact br_t (by decide) h | refine br_f (by decide) ?_ | exact h))
theorem zx_in {P : Int32 → Prop} {x : Int32} {n : Nat} (hn : n < 2 ^ 31) (h1 : ∀ j, j < n → x = nI j → P 1) (h0 : (x < 0 ∨ nI n ≤ x) → P 0) : wpX_in P x (nI n) := by
  refine br_c (fun h => h0 (Or.inl h)) (fun h => br_c (fun z => h0 (Or.inr z)) (fun z => ?_))
  obtain ⟨j, hj, e⟩ := nI_of h
  subst e
  rw [nI_leI hn hj] at z
  exact h1 j (by omega) rfl
theorem zy_in {P : Int32 → Prop} {x : Int32} {n : Nat} (hn : n < 2 ^ 31) (h1 : ∀ j, j < n → x = nI j → P 1) (h0 : (x < 0 ∨ nI n ≤ x) → P 0) : wpY_in P x (nI n) := by
  refine br_c (fun h => h0 (Or.inl h)) (fun h => br_c (fun z => h0 (Or.inr z)) (fun z => ?_))
  obtain ⟨j, hj, e⟩ := nI_of h
  subst e
  rw [nI_leI hn hj] at z
  exact h1 j (by omega) rfl
theorem zz_ni {x : Int32} {n j : Nat} (hj : j < n) (hn : n < 2 ^ 31) (e : x = nI j) (h : x < 0 ∨ nI n ≤ x) : False := by
  subst e
  rcases h with h | h
  · exact nI_pos (by omega) h
  · rw [nI_leI hn (by omega)] at h; omega
end
section
/-! code of a token: CD region fuel token address end scope -/
def zz_ix (s : Nat) : List Nat → Option Nat
  | [] => none
  | x :: l => if x = s then some 0 else (zz_ix s l).map (· + 1)
def zz_lk (S : Nat → Int32) (s : Nat) (sc : List Nat) : Option Nat := if S s = 0 then zz_ix s sc else none
def zz_ex (S : Nat → Int32) (s : Nat) (sc : List Nat) : List Nat := if S s = 0 then s :: sc else sc
def zz_rc (S : Nat → Int32) (near far : Int32) (s : Nat) (sc : List Nat) : Int32 × Int32 := match zz_lk S s sc with
  | some i => (near, nI i)
  | none => (far, nI s)
def zz_RC (op ar S : Nat → Int32) (near far : Int32) (p s : Nat) (sc : List Nat) : Prop := op p = (zz_rc S near far s sc).1 ∧ ar p = (zz_rc S near far s sc).2
def zz_CB (op ar K N E S : Nat → Int32) (D : Nat → Nat → Nat → List Nat → Prop) (t a e : Nat) (sc : List Nat) : Prop :=
  (K t = 0 ∧ op (a + 1) = 0 ∧ ar (a + 1) = N t ∧ e = a + 2)
  ∨ (K t = 1 ∧ ∃ s, s < 8 ∧ N t = nI s ∧ zz_RC op ar S 31 1 (a + 1) s sc ∧ e = a + 2)
  ∨ (K t = 18 ∧ op (a + 1) = 18 ∧ e = a + 2)
  ∨ (K t = 4 ∧ ∃ s e1, s < 8 ∧ N t = nI s ∧ op (a + 1) = 4 ∧ ar (a + 1) = nI (a + 3 + s * 65536) ∧ op (a + 2) = 23 ∧ ar (a + 2) = nI (e * 65536) ∧ D (t + 1) (a + 3) e1 (zz_ex S s sc) ∧ op e1 = 24 ∧ e = e1 + 1)
  ∨ (K t = 2 ∧ ∃ s e1, s < 8 ∧ N t = nI s ∧ D (t + 1) (a + 1) e1 sc ∧ zz_RC op ar S 32 2 e1 s sc ∧ e = e1 + 1)
  ∨ ((K t = 6 ∨ K t = 13 ∨ K t = 17) ∧ ∃ s e1, s < 8 ∧ (K t = 17 ∨ s < 4) ∧ N t = nI s ∧ D (t + 1) (a + 1) e1 sc ∧ op e1 = K t ∧ ar e1 = nI s ∧ e = e1 + 1)
  ∨ ((K t = 5 ∨ K t = 9 ∨ K t = 10 ∨ K t = 11) ∧ ∃ t2 e1 e2, E (t + 1) = nI t2 ∧ D (t + 1) (a + 1) e1 sc ∧ D t2 e1 e2 sc ∧ op e2 = K t ∧ e = e2 + 1)
  ∨ (K t = 3 ∧ ∃ s t2 e1 e2, s < 8 ∧ N t = nI s ∧ E (t + 1) = nI t2 ∧ D (t + 1) (a + 1) e1 sc ∧ op e1 = 21 ∧ ar e1 = nI s ∧ D t2 (e1 + 1) e2 (zz_ex S s sc) ∧ op e2 = 22 ∧ e = e2 + 1)
  ∨ (K t = 7 ∧ ∃ t2 e1, E (t + 1) = nI t2 ∧ D (t + 1) (a + 1) e1 sc ∧ op e1 = 30 ∧ D t2 (e1 + 1) e sc)
  ∨ (K t = 8 ∧ ∃ t2 t3 e1 e2, E (t + 1) = nI t2 ∧ E t2 = nI t3 ∧ D (t + 1) (a + 1) e1 sc ∧ op e1 = 8 ∧ ar e1 = nI ((e2 + 1) * 65536) ∧ D t2 (e1 + 1) e2 sc ∧ op e2 = 23 ∧ ar e2 = nI (e * 65536) ∧ D t3 (e2 + 1) e sc)
  ∨ (K t = 12 ∧ ∃ s e1, s < 4 ∧ N t = nI s ∧ op (a + 1) = 25 ∧ ar (a + 1) = nI (s + e * 65536) ∧ D (t + 1) (a + 2) e1 sc ∧ op e1 = 26 ∧ e = e1 + 1)
  ∨ (K t = 14 ∧ ∃ t2 e1, E (t + 1) = nI t2 ∧ op (a + 1) = 35 ∧ ar (a + 1) = nI ((e1 + 2) * 65536) ∧ D (t + 1) (a + 2) e1 sc ∧ op e1 = 26 ∧ op (e1 + 1) = 23 ∧ ar (e1 + 1) = nI (e * 65536) ∧ D t2 (e1 + 2) e sc)
  ∨ (K t = 15 ∧ ∃ t2 e1 e2, E (t + 1) = nI t2 ∧ op (a + 1) = 27 ∧ ar (a + 1) = nI ((e1 + 1) * 65536) ∧ D (t + 1) (a + 2) e1 sc ∧ op e1 = 28 ∧ D t2 (e1 + 1) e2 sc ∧ op e2 = 29 ∧ e = e2 + 1)
  ∨ (K t = 16 ∧ ∃ s e1, s < 3 ∧ N t = nI s ∧ op (a + 1) = 33 ∧ ar (a + 1) = nI s ∧ D (t + 1) (a + 2) e1 sc ∧ op e1 = 34 ∧ e = e1 + 1)
def zz_CD (op ar K N E S : Nat → Int32) (r : Nat) : Nat → Nat → Nat → Nat → List Nat → Prop
  | 0 => fun _ _ _ _ => False
  | n + 1 => fun t a e sc => (48 * r ≤ t ∧ t < 48 * r + 48 ∧ 256 * r ≤ a ∧ a < e ∧ e < 256 * r + 256) ∧ op a = 20 ∧ zz_CB op ar K N E S (zz_CD op ar K N E S r n) t a e sc
/-- code at [a, e) that reads its region's tokens alone -/
theorem zz_CDc {op ar K N E S op' ar' K' N' E' : Nat → Int32} {r : Nat} (hT : ∀ t, 48 * r ≤ t → t < 48 * r + 48 → K' t = K t ∧ N' t = N t ∧ E' t = E t) :
    ∀ n t a e sc, (∀ i, a ≤ i → i < e → op' i = op i ∧ ar' i = ar i) → zz_CD op ar K N E S r n t a e sc → zz_CD op' ar' K' N' E' S r n t a e sc := by
  intro n
  induction n with
  | zero => intro t a e sc _ h; exact h
  | succ n ih =>
    intro t a e sc ho ⟨hb, h20, hB⟩
    obtain ⟨t1, t2, a1, a2, e2⟩ := hb
    obtain ⟨eK, eN, eE⟩ := hT t t1 t2
    have hE : ∀ {q : Nat} {a0 e0 : Nat} {s0 : List Nat}, zz_CD op ar K N E S r n q a0 e0 s0 → E' q = E q := by
      intro q a0 e0 s0 hq
      cases n with
      | zero => exact hq.elim
      | succ n => exact (hT q hq.1.1 hq.1.2.1).2.2
    have hl : ∀ {q : Nat} {a0 e0 : Nat} {s0 : List Nat}, zz_CD op ar K N E S r n q a0 e0 s0 → a0 < e0 := by
      intro q a0 e0 s0 hq
      cases n with
      | zero => exact hq.elim
      | succ n => exact hq.1.2.2.2.1
    have hD : ∀ {q : Nat} {a0 e0 : Nat} {s0 : List Nat}, a ≤ a0 → e0 ≤ e → zz_CD op ar K N E S r n q a0 e0 s0 → zz_CD op' ar' K' N' E' S r n q a0 e0 s0 :=
      fun h1 h2 hq => ih _ _ _ _ (fun i hi hj => ho i (by omega) (by omega)) hq
    have oo : ∀ {i : Nat} {x : Int32}, a ≤ i → i < e → op i = x → op' i = x := fun h1 h2 z => (ho _ h1 h2).1.trans z
    have oa : ∀ {i : Nat} {x : Int32}, a ≤ i → i < e → ar i = x → ar' i = x := fun h1 h2 z => (ho _ h1 h2).2.trans z
    have oR : ∀ {i s : Nat} {x y : Int32}, a ≤ i → i < e → zz_RC op ar S x y i s sc → zz_RC op' ar' S x y i s sc := fun h1 h2 z => ⟨oo h1 h2 z.1, oa h1 h2 z.2⟩
    refine ⟨⟨t1, t2, a1, a2, e2⟩, oo (Nat.le_refl _) a2 h20, ?_⟩
    unfold zz_CB at hB ⊢
    rw [eK, eN]
    rcases hB with h | h | h | h | h | h | h | h | h | h | h | h | h | h
    · obtain ⟨h1, h2, h3, h4⟩ := h
      exact Or.inl ⟨h1, oo (by omega) (by omega) h2, oa (by omega) (by omega) h3, h4⟩
    · obtain ⟨h1, s, h2, h3, h4, h5⟩ := h
      exact Or.inr (Or.inl ⟨h1, s, h2, h3, oR (by omega) (by omega) h4, h5⟩)
    · obtain ⟨h1, h2, h3⟩ := h
      exact Or.inr (Or.inr (Or.inl ⟨h1, oo (by omega) (by omega) h2, h3⟩))
    · obtain ⟨h1, s, e1, h2, h3, h4, h5, h6, h7, h8, h9, h10⟩ := h
      have := hl h8
      exact Or.inr (Or.inr (Or.inr (Or.inl ⟨h1, s, e1, h2, h3, oo (by omega) (by omega) h4, oa (by omega) (by omega) h5, oo (by omega) (by omega) h6, oa (by omega) (by omega) h7, hD (by omega) (by omega) h8, oo (by omega) (by omega) h9, h10⟩)))
    · obtain ⟨h1, s, e1, h2, h3, h4, h5, h6⟩ := h
      have := hl h4
      exact Or.inr (Or.inr (Or.inr (Or.inr (Or.inl ⟨h1, s, e1, h2, h3, hD (by omega) (by omega) h4, oR (by omega) (by omega) h5, h6⟩))))
    · obtain ⟨h1, s, e1, h2, h3, h4, h5, h6, h7, h8⟩ := h
      have := hl h5
      exact Or.inr (Or.inr (Or.inr (Or.inr (Or.inr (Or.inl ⟨h1, s, e1, h2, h3, h4, hD (by omega) (by omega) h5, oo (by omega) (by omega) h6, oa (by omega) (by omega) h7, h8⟩)))))
    · obtain ⟨h1, t2, e1, e2, h2, h3, h4, h5, h6⟩ := h
      have := hl h3
      have := hl h4
      exact Or.inr (Or.inr (Or.inr (Or.inr (Or.inr (Or.inr (Or.inl ⟨h1, t2, e1, e2, (hE h3).trans h2, hD (by omega) (by omega) h3, hD (by omega) (by omega) h4, oo (by omega) (by omega) h5, h6⟩))))))
    · obtain ⟨h1, s, t2, e1, e2, h2, h3, h4, h5, h6, h7, h8, h9, h10⟩ := h
      have := hl h5
      have := hl h8
      exact Or.inr (Or.inr (Or.inr (Or.inr (Or.inr (Or.inr (Or.inr (Or.inl ⟨h1, s, t2, e1, e2, h2, h3, (hE h5).trans h4, hD (by omega) (by omega) h5, oo (by omega) (by omega) h6, oa (by omega) (by omega) h7, hD (by omega) (by omega) h8, oo (by omega) (by omega) h9, h10⟩)))))))
    · obtain ⟨h1, t2, e1, h2, h3, h4, h5⟩ := h
      have := hl h3
      have := hl h5
      exact Or.inr (Or.inr (Or.inr (Or.inr (Or.inr (Or.inr (Or.inr (Or.inr (Or.inl ⟨h1, t2, e1, (hE h3).trans h2, hD (by omega) (by omega) h3, oo (by omega) (by omega) h4, hD (by omega) (by omega) h5⟩))))))))
    · obtain ⟨h1, t2, t3, e1, e2, h2, h3, h4, h5, h6, h7, h8, h9, h10⟩ := h
      have := hl h4
      have := hl h7
      have := hl h10
      exact Or.inr (Or.inr (Or.inr (Or.inr (Or.inr (Or.inr (Or.inr (Or.inr (Or.inr (Or.inl ⟨h1, t2, t3, e1, e2, (hE h4).trans h2, (hE h7).trans h3, hD (by omega) (by omega) h4, oo (by omega) (by omega) h5, oa (by omega) (by omega) h6, hD (by omega) (by omega) h7, oo (by omega) (by omega) h8, oa (by omega) (by omega) h9, hD (by omega) (by omega) h10⟩)))))))))
    · obtain ⟨h1, s, e1, h2, h3, h4, h5, h6, h7, h8⟩ := h
      have := hl h6
      exact Or.inr (Or.inr (Or.inr (Or.inr (Or.inr (Or.inr (Or.inr (Or.inr (Or.inr (Or.inr (Or.inl ⟨h1, s, e1, h2, h3, oo (by omega) (by omega) h4, oa (by omega) (by omega) h5, hD (by omega) (by omega) h6, oo (by omega) (by omega) h7, h8⟩))))))))))
    · obtain ⟨h1, t2, e1, h2, h3, h4, h5, h6, h7, h8, h9⟩ := h
      have := hl h5
      have := hl h9
      exact Or.inr (Or.inr (Or.inr (Or.inr (Or.inr (Or.inr (Or.inr (Or.inr (Or.inr (Or.inr (Or.inr (Or.inl ⟨h1, t2, e1, (hE h5).trans h2, oo (by omega) (by omega) h3, oa (by omega) (by omega) h4, hD (by omega) (by omega) h5, oo (by omega) (by omega) h6, oo (by omega) (by omega) h7, oa (by omega) (by omega) h8, hD (by omega) (by omega) h9⟩)))))))))))
    · obtain ⟨h1, t2, e1, e2, h2, h3, h4, h5, h6, h7, h8, h9⟩ := h
      have := hl h5
      have := hl h7
      exact Or.inr (Or.inr (Or.inr (Or.inr (Or.inr (Or.inr (Or.inr (Or.inr (Or.inr (Or.inr (Or.inr (Or.inr (Or.inl ⟨h1, t2, e1, e2, (hE h5).trans h2, oo (by omega) (by omega) h3, oa (by omega) (by omega) h4, hD (by omega) (by omega) h5, oo (by omega) (by omega) h6, hD (by omega) (by omega) h7, oo (by omega) (by omega) h8, h9⟩))))))))))))
    · obtain ⟨h1, s, e1, h2, h3, h4, h5, h6, h7, h8⟩ := h
      have := hl h6
      exact Or.inr (Or.inr (Or.inr (Or.inr (Or.inr (Or.inr (Or.inr (Or.inr (Or.inr (Or.inr (Or.inr (Or.inr (Or.inr (⟨h1, s, e1, h2, h3, oo (by omega) (by omega) h4, oa (by omega) (by omega) h5, hD (by omega) (by omega) h6, oo (by omega) (by omega) h7, h8⟩)))))))))))))
/-- some region's code -/
def zz_CE (op ar K N E S : Nat → Int32) (t a e : Nat) (sc : List Nat) : Prop := ∃ r n, r < 5 ∧ zz_CD op ar K N E S r n t a e sc
theorem zz_CEb {op ar K N E S : Nat → Int32} {t a e : Nat} {sc : List Nat} (h : zz_CE op ar K N E S t a e sc) : t < 240 ∧ a < e ∧ e < 1280 ∧ op a = 20 := by
  obtain ⟨r, n, hr, h⟩ := h
  cases n with
  | zero => exact h.elim
  | succ n => obtain ⟨⟨h1, h2, h3, h4, h5⟩, h6, _⟩ := h; exact ⟨by omega, h4, by omega, h6⟩
theorem zz_CBm {op ar K N E S : Nat → Int32} {D D' : Nat → Nat → Nat → List Nat → Prop} (hD : ∀ {t a e : Nat} {sc : List Nat}, D t a e sc → D' t a e sc) {t a e : Nat} {sc : List Nat} (h : zz_CB op ar K N E S D t a e sc) : zz_CB op ar K N E S D' t a e sc := by
  unfold zz_CB at h ⊢
  rcases h with h | h | h | h | h | h | h | h | h | h | h | h | h | h
  · exact Or.inl h
  · exact Or.inr (Or.inl h)
  · exact Or.inr (Or.inr (Or.inl h))
  · obtain ⟨h1, s, e1, h2, h3, h4, h5, h6, h7, h8, h9, h10⟩ := h
    exact Or.inr (Or.inr (Or.inr (Or.inl ⟨h1, s, e1, h2, h3, h4, h5, h6, h7, hD h8, h9, h10⟩)))
  · obtain ⟨h1, s, e1, h2, h3, h4, h5, h6⟩ := h
    exact Or.inr (Or.inr (Or.inr (Or.inr (Or.inl ⟨h1, s, e1, h2, h3, hD h4, h5, h6⟩))))
  · obtain ⟨h1, s, e1, h2, h3, h4, h5, h6, h7, h8⟩ := h
    exact Or.inr (Or.inr (Or.inr (Or.inr (Or.inr (Or.inl ⟨h1, s, e1, h2, h3, h4, hD h5, h6, h7, h8⟩)))))
  · obtain ⟨h1, t2, e1, e2, h2, h3, h4, h5, h6⟩ := h
    exact Or.inr (Or.inr (Or.inr (Or.inr (Or.inr (Or.inr (Or.inl ⟨h1, t2, e1, e2, h2, hD h3, hD h4, h5, h6⟩))))))
  · obtain ⟨h1, s, t2, e1, e2, h2, h3, h4, h5, h6, h7, h8, h9, h10⟩ := h
    exact Or.inr (Or.inr (Or.inr (Or.inr (Or.inr (Or.inr (Or.inr (Or.inl ⟨h1, s, t2, e1, e2, h2, h3, h4, hD h5, h6, h7, hD h8, h9, h10⟩)))))))
  · obtain ⟨h1, t2, e1, h2, h3, h4, h5⟩ := h
    exact Or.inr (Or.inr (Or.inr (Or.inr (Or.inr (Or.inr (Or.inr (Or.inr (Or.inl ⟨h1, t2, e1, h2, hD h3, h4, hD h5⟩))))))))
  · obtain ⟨h1, t2, t3, e1, e2, h2, h3, h4, h5, h6, h7, h8, h9, h10⟩ := h
    exact Or.inr (Or.inr (Or.inr (Or.inr (Or.inr (Or.inr (Or.inr (Or.inr (Or.inr (Or.inl ⟨h1, t2, t3, e1, e2, h2, h3, hD h4, h5, h6, hD h7, h8, h9, hD h10⟩)))))))))
  · obtain ⟨h1, s, e1, h2, h3, h4, h5, h6, h7, h8⟩ := h
    exact Or.inr (Or.inr (Or.inr (Or.inr (Or.inr (Or.inr (Or.inr (Or.inr (Or.inr (Or.inr (Or.inl ⟨h1, s, e1, h2, h3, h4, h5, hD h6, h7, h8⟩))))))))))
  · obtain ⟨h1, t2, e1, h2, h3, h4, h5, h6, h7, h8, h9⟩ := h
    exact Or.inr (Or.inr (Or.inr (Or.inr (Or.inr (Or.inr (Or.inr (Or.inr (Or.inr (Or.inr (Or.inr (Or.inl ⟨h1, t2, e1, h2, h3, h4, hD h5, h6, h7, h8, hD h9⟩)))))))))))
  · obtain ⟨h1, t2, e1, e2, h2, h3, h4, h5, h6, h7, h8, h9⟩ := h
    exact Or.inr (Or.inr (Or.inr (Or.inr (Or.inr (Or.inr (Or.inr (Or.inr (Or.inr (Or.inr (Or.inr (Or.inr (Or.inl ⟨h1, t2, e1, e2, h2, h3, h4, hD h5, h6, hD h7, h8, h9⟩))))))))))))
  · obtain ⟨h1, s, e1, h2, h3, h4, h5, h6, h7, h8⟩ := h
    exact Or.inr (Or.inr (Or.inr (Or.inr (Or.inr (Or.inr (Or.inr (Or.inr (Or.inr (Or.inr (Or.inr (Or.inr (Or.inr (⟨h1, s, e1, h2, h3, h4, h5, hD h6, h7, h8⟩)))))))))))))
theorem zz_CEu {op ar K N E S : Nat → Int32} {t a e : Nat} {sc : List Nat} (h : zz_CE op ar K N E S t a e sc) : zz_CB op ar K N E S (zz_CE op ar K N E S) t a e sc := by
  obtain ⟨r, n, hr, h⟩ := h
  cases n with
  | zero => exact h.elim
  | succ n => exact zz_CBm (fun z => ⟨r, n, hr, z⟩) h.2.2
/-- more fuel -/
theorem zz_CDm {op ar K N E S : Nat → Int32} {r : Nat} : ∀ n m t a e sc, n ≤ m → zz_CD op ar K N E S r n t a e sc → zz_CD op ar K N E S r m t a e sc := by
  intro n
  induction n with
  | zero => intro m t a e sc _ h; exact h.elim
  | succ n ih =>
    intro m t a e sc hm h
    cases m with
    | zero => omega
    | succ m => exact ⟨h.1, h.2.1, zz_CBm (fun z => ih m _ _ _ _ (by omega) z) h.2.2⟩
/-! a forest of m expressions from token a to token b, in reading order -/
def zz_PO (kd : Nat → Nat) : Nat → Nat → Nat → Nat → Prop
  | 0 => fun m a b => m = 0 ∧ a = b
  | n + 1 => fun m a b => (m = 0 ∧ a = b) ∨ ∃ m' c, m = m' + 1 ∧ zz_PO kd n (zz_op (kd a)) (a + 1) c ∧ zz_PO kd n m' c b
def zz_PE (kd : Nat → Nat) (E : Nat → Int32) (B : Nat) : Nat → Nat → Nat → Nat → Prop
  | 0 => fun m a b => m = 0 ∧ a = b
  | n + 1 => fun m a b => (m = 0 ∧ a = b) ∨ ∃ m' c, m = m' + 1 ∧ E (B + a) = nI (B + c) ∧ zz_PE kd E B n (zz_op (kd a)) (a + 1) c ∧ zz_PE kd E B n m' c b
theorem zz_PO0 {kd : Nat → Nat} (n a : Nat) : zz_PO kd n 0 a a := by
  cases n with
  | zero => exact ⟨rfl, rfl⟩
  | succ n => exact Or.inl ⟨rfl, rfl⟩
theorem zz_POm {kd : Nat → Nat} : ∀ n n' m a b, n ≤ n' → zz_PO kd n m a b → zz_PO kd n' m a b := by
  intro n
  induction n with
  | zero => intro n' m a b _ h; obtain ⟨h1, h2⟩ := h; subst h1 h2; exact zz_PO0 _ _
  | succ n ih =>
    intro n' m a b hn h
    cases n' with
    | zero => omega
    | succ n' =>
      rcases h with h | ⟨m', c, h1, h2, h3⟩
      · exact Or.inl h
      · exact Or.inr ⟨m', c, h1, ih _ _ _ _ (by omega) h2, ih _ _ _ _ (by omega) h3⟩
theorem zz_POs {kd : Nat → Nat} : ∀ p n q a b, zz_PO kd n (p + q) a b → ∃ c, zz_PO kd n p a c ∧ zz_PO kd n q c b := by
  intro p
  induction p with
  | zero => intro n q a b h; rw [Nat.zero_add] at h; exact ⟨a, zz_PO0 _ _, h⟩
  | succ p ih =>
    intro n q a b h
    cases n with
    | zero => obtain ⟨h, _⟩ := h; omega
    | succ n =>
      rcases h with ⟨h, _⟩ | ⟨m', c, h1, h2, h3⟩
      · omega
      · have e : m' = p + q := by omega
        subst e
        obtain ⟨d, h4, h5⟩ := ih n q c b h3
        exact ⟨d, Or.inr ⟨p, c, rfl, h2, h4⟩, zz_POm _ _ _ _ _ (Nat.le_succ _) h5⟩
theorem zz_POl {kd : Nat → Nat} : ∀ n m a b, zz_PO kd n m a b → a + m ≤ b := by
  intro n
  induction n with
  | zero => intro m a b h; obtain ⟨h1, h2⟩ := h; omega
  | succ n ih =>
    intro m a b h
    rcases h with h | ⟨m', c, h1, h2, h3⟩
    · omega
    · have := ih _ _ _ h2
      have := ih _ _ _ h3
      omega
theorem zz_PEl {kd : Nat → Nat} {E : Nat → Int32} {B : Nat} : ∀ n m a b, zz_PE kd E B n m a b → a + m ≤ b := by
  intro n
  induction n with
  | zero => intro m a b h; obtain ⟨h1, h2⟩ := h; omega
  | succ n ih =>
    intro m a b h
    rcases h with h | ⟨m', c, h1, _, h2, h3⟩
    · omega
    · have := ih _ _ _ h2
      have := ih _ _ _ h3
      omega
/-- the check with a count of what is wanting -/
def zz_OK (kd : Nat → Nat) : Nat → Nat → Nat → Prop
  | 0 => fun m _ => m = 0
  | d + 1 => fun m a => ∃ m', m = m' + 1 ∧ zz_OK kd d (m' + zz_op (kd a)) (a + 1)
theorem zz_OKp {kd : Nat → Nat} : ∀ d m a, zz_OK kd d m a → zz_PO kd d m a (a + d) := by
  intro d
  induction d with
  | zero => intro m a h; exact ⟨h, rfl⟩
  | succ d ih =>
    intro m a h
    obtain ⟨m', h1, h2⟩ := h
    have h3 := ih _ _ h2
    rw [Nat.add_comm m'] at h3
    obtain ⟨c, h4, h5⟩ := zz_POs _ _ _ _ _ h3
    exact Or.inr ⟨m', c, h1, h4, by rw [show a + (d + 1) = a + 1 + d from by omega]; exact h5⟩
/-- each token begins an expression -/
theorem zz_POi {kd : Nat → Nat} : ∀ n m a b, zz_PO kd n m a b → ∀ k, a ≤ k → k < b → ∃ c, c ≤ b ∧ zz_PO kd n (zz_op (kd k)) (k + 1) c := by
  intro n
  induction n with
  | zero => intro m a b h k h1 h2; obtain ⟨_, h⟩ := h; omega
  | succ n ih =>
    intro m a b h k h1 h2
    rcases h with h | ⟨m', c, h3, h4, h5⟩
    · omega
    · have l1 := zz_POl _ _ _ _ h4
      have l2 := zz_POl _ _ _ _ h5
      by_cases z : k = a
      · subst z; exact ⟨c, by omega, zz_POm _ _ _ _ _ (Nat.le_succ _) h4⟩
      · by_cases w : k < c
        · obtain ⟨c', h6, h7⟩ := ih _ _ _ h4 k (by omega) w
          exact ⟨c', by omega, zz_POm _ _ _ _ _ (Nat.le_succ _) h7⟩
        · obtain ⟨c', h6, h7⟩ := ih _ _ _ h5 k (by omega) h2
          exact ⟨c', h6, zz_POm _ _ _ _ _ (Nat.le_succ _) h7⟩
/-- a forest with known ends -/
theorem zz_POE {kd : Nat → Nat} {E : Nat → Int32} {B b0 : Nat} (hE : ∀ n k c, k < b0 → c ≤ b0 → zz_PO kd n (zz_op (kd k)) (k + 1) c → E (B + k) = nI (B + c)) : ∀ n m a b, b ≤ b0 → zz_PO kd n m a b → zz_PE kd E B n m a b := by
  intro n
  induction n with
  | zero => intro m a b _ h; exact h
  | succ n ih =>
    intro m a b hb h
    rcases h with h | ⟨m', c, h1, h2, h3⟩
    · exact Or.inl h
    · have l1 := zz_POl _ _ _ _ h2
      have l2 := zz_POl _ _ _ _ h3
      exact Or.inr ⟨m', c, h1, hE n a c (by omega) (by omega) h2, ih _ _ _ (by omega) h2, ih _ _ _ hb h3⟩
end
section
def zz_xs (S : Nat → Int32) (s n : Nat) (so : Nat → Int32) : Nat → Int32 := if S s = 0 then upd so n (nI s) else so
theorem zz_xsR {S so : Nat → Int32} {s : Nat} {sc : List Nat} (h : zz_R so nI sc) : zz_R (zz_xs S s sc.length so) nI (zz_ex S s sc) := by
  by_cases z : S s = 0
  · rw [zz_xs, zz_ex, if_pos z, if_pos z]; exact zz_Rp rfl h
  · rw [zz_xs, zz_ex, if_neg z, if_neg z]; exact h
theorem zz_xsB {S : Nat → Int32} {s : Nat} {sc : List Nat} (hs : s < 8) (h : ∀ x, x ∈ sc → x < 8) : ∀ x, x ∈ zz_ex S s sc → x < 8 := by
  by_cases z : S s = 0
  · rw [zz_ex, if_pos z]
    intro x hx
    rcases List.mem_cons.mp hx with e | e
    · omega
    · exact h x e
  · rw [zz_ex, if_neg z]; exact h
theorem zz_exl {S : Nat → Int32} {s : Nat} {sc : List Nat} : (zz_ex S s sc).length ≤ sc.length + 1 := by
  by_cases z : S s = 0
  · rw [zz_ex, if_pos z]; exact Nat.le_refl _
  · rw [zz_ex, if_neg z]; omega
theorem zz_exR {S so : Nat → Int32} {s : Nat} {sc : List Nat} (h : zz_R so nI (zz_ex S s sc)) : zz_R so nI sc := by
  by_cases z : S s = 0
  · rw [zz_ex, if_pos z] at h; exact h.2
  · rw [zz_ex, if_neg z] at h; exact h
def zz_SP (x : Int32) (S : Nat → Int32) : Prop := ∀ s, s < 8 → (bt x s = true ↔ ¬ S s = 0)
section
variable {xdrafted xspecial xdefined xhere xdepth xscoped xcells xclosures xtop xundo xpc xenv xbuffer xtaken xoutcome xrunning xclosed : Int32} {xgiven : Int64} {Xdraft XdraftValues Xop Xarg Xparameter Xwaiting Xdone Xhole Xscope Xlocals Xparent Xbodies Xbinds Xscopes Xwhat Xfirst Xsecond Xthird : Nat → Int32} {Xplace Xstack Xcell Xkept : Nat → Int64} {P : SX → Prop} {S : Nat → Int32}
theorem zx_emit {h k : Nat} {a : Int32} (hh : h < 1280) (hk : k < 128) (H : P (xdrafted, xspecial, xdefined, nI (h + 1), xdepth, xscoped, xcells, xclosures, xtop, xundo, xpc, xenv, xbuffer, xtaken, xoutcome, xrunning, xgiven, xclosed, Xdraft, XdraftValues, upd Xop h (nI k), upd Xarg h a, Xparameter, Xwaiting, Xdone, Xhole, Xscope, Xplace, Xlocals, Xstack, Xcell, Xparent, Xbodies, Xbinds, Xscopes, Xwhat, Xfirst, Xsecond, Xthird, Xkept)) : wpX_emit P (xdrafted, xspecial, xdefined, nI h, xdepth, xscoped, xcells, xclosures, xtop, xundo, xpc, xenv, xbuffer, xtaken, xoutcome, xrunning, xgiven, xclosed, Xdraft, XdraftValues, Xop, Xarg, Xparameter, Xwaiting, Xdone, Xhole, Xscope, Xplace, Xlocals, Xstack, Xcell, Xparent, Xbodies, Xbinds, Xscopes, Xwhat, Xfirst, Xsecond, Xthird, Xkept) (nI k) a := by
  refine And.intro (vp_in_nI hh (by omega)) (nm_r (e' := upd Xop h (nI k)) ?_ (nm_r (e' := nI (h + 1)) (nI_1 h) (And.intro (vp_in_nI hh (by omega)) (nm_r (e' := upd Xarg h a) ?_ H))))
  · rw [nI_clamp (by omega), zz_vb hk]
  · rw [nI_clamp (by omega)]
theorem zx_isSp {Q : Int32 → Prop} {s : Nat} (hS : zz_SP xspecial S) (hs : s < 8) (h1 : ¬ S s = 0 → Q 1) (h0 : S s = 0 → Q 0) : wpX_isSpecial Q (xdrafted, xspecial, xdefined, xhere, xdepth, xscoped, xcells, xclosures, xtop, xundo, xpc, xenv, xbuffer, xtaken, xoutcome, xrunning, xgiven, xclosed, Xdraft, XdraftValues, Xop, Xarg, Xparameter, Xwaiting, Xdone, Xhole, Xscope, Xplace, Xlocals, Xstack, Xcell, Xparent, Xbodies, Xbinds, Xscopes, Xwhat, Xfirst, Xsecond, Xthird, Xkept) (nI s) :=
  br_c (fun z => h1 ((hS s hs).mp ((zz_bit (by omega)).mp z))) (fun z => h0 (Classical.byContradiction fun w => z ((zz_bit (by omega)).mpr ((hS s hs).mpr w))))
theorem zx_mark {h d : Nat} (hh : h < 1280) (hd : d < 48) (H : P (xdrafted, xspecial, xdefined, nI h, nI d, xscoped, xcells, xclosures, xtop, xundo, xpc, xenv, xbuffer, xtaken, xoutcome, xrunning, xgiven, xclosed, Xdraft, XdraftValues, Xop, Xarg, Xparameter, Xwaiting, Xdone, upd Xhole d (nI h), Xscope, Xplace, Xlocals, Xstack, Xcell, Xparent, Xbodies, Xbinds, Xscopes, Xwhat, Xfirst, Xsecond, Xthird, Xkept)) : wpX_mark P (xdrafted, xspecial, xdefined, nI h, nI d, xscoped, xcells, xclosures, xtop, xundo, xpc, xenv, xbuffer, xtaken, xoutcome, xrunning, xgiven, xclosed, Xdraft, XdraftValues, Xop, Xarg, Xparameter, Xwaiting, Xdone, Xhole, Xscope, Xplace, Xlocals, Xstack, Xcell, Xparent, Xbodies, Xbinds, Xscopes, Xwhat, Xfirst, Xsecond, Xthird, Xkept) := by
  refine And.intro (vp_in_nI hd (by omega)) (nm_r (e' := upd Xhole d (nI h)) ?_ H)
  rw [nI_clamp (by omega), zz_vs (by omega)]
theorem zx_fill {h d q x a : Nat} (hh : h + a < 1280) (hd : d < 48) (hq : Xhole d = nI q) (hq2 : q < 1280) (hx : Xarg q = nI x) (hx2 : x < 65536) (H : P (xdrafted, xspecial, xdefined, nI h, nI (d + 1), xscoped, xcells, xclosures, xtop, xundo, xpc, xenv, xbuffer, xtaken, xoutcome, xrunning, xgiven, xclosed, Xdraft, XdraftValues, Xop, upd Xarg q (nI (x + (h + a) * 65536)), Xparameter, Xwaiting, Xdone, Xhole, Xscope, Xplace, Xlocals, Xstack, Xcell, Xparent, Xbodies, Xbinds, Xscopes, Xwhat, Xfirst, Xsecond, Xthird, Xkept)) : wpX_fill P (xdrafted, xspecial, xdefined, nI h, nI (d + 1), xscoped, xcells, xclosures, xtop, xundo, xpc, xenv, xbuffer, xtaken, xoutcome, xrunning, xgiven, xclosed, Xdraft, XdraftValues, Xop, Xarg, Xparameter, Xwaiting, Xdone, Xhole, Xscope, Xplace, Xlocals, Xstack, Xcell, Xparent, Xbodies, Xbinds, Xscopes, Xwhat, Xfirst, Xsecond, Xthird, Xkept) (nI a) := by
  have e1 : nI (d + 1) - 1 = nI d := nI_pred d
  have e2 : (nI d).toNatClampNeg = d := nI_clamp (by omega)
  have e3 : (nI q).toNatClampNeg = q := nI_clamp (by omega)
  have i1 : vp_in (nI (d + 1) - 1) 48 := by rw [e1]; exact vp_in_nI hd (by omega)
  have i2 : vp_in (Xhole (nI (d + 1) - 1).toNatClampNeg) 1280 := by rw [e1, e2, hq]; exact vp_in_nI hq2 (by omega)
  refine And.intro i1 (And.intro i2 (And.intro i2 (nm_r (e' := upd Xarg q (nI (x + (h + a) * 65536))) ?_ H)))
  rw [e1, e2, hq, e3, hx, nI_add, zz_sl (by omega), zz_or hx2]
theorem zx_reach_far {s far h : Nat} (hh : h < 1280) (hf : far < 128) (H : P (xdrafted, xspecial, xdefined, nI (h + 1), xdepth, xscoped, xcells, xclosures, xtop, xundo, xpc, xenv, xbuffer, xtaken, xoutcome, xrunning, xgiven, xclosed, Xdraft, XdraftValues, upd Xop h (nI far), upd Xarg h (nI s), Xparameter, Xwaiting, Xdone, Xhole, Xscope, Xplace, Xlocals, Xstack, Xcell, Xparent, Xbodies, Xbinds, Xscopes, Xwhat, Xfirst, Xsecond, Xthird, Xkept)) : wX_reach_60 P (nI s) (nI far) xdrafted xspecial xdefined (nI h) xdepth xscoped xcells xclosures xtop xundo xpc xenv xbuffer xtaken xoutcome xrunning xgiven xclosed Xdraft XdraftValues Xop Xarg Xparameter Xwaiting Xdone Xhole Xscope Xplace Xlocals Xstack Xcell Xparent Xbodies Xbinds Xscopes Xwhat Xfirst Xsecond Xthird Xkept := by
  unfold wX_reach_60
  exact zx_emit hh hf H
theorem zx_reachL {s near far h : Nat} {sc : List Nat} (hS : zz_SP xspecial S) (hs : s < 8) (hh : h < 1280) (hn : near < 128) (hf : far < 128) (hl : sc.length ≤ 49) :
    ∀ (l : List Nat) (q : Nat), q + l.length = sc.length → zz_R Xscope nI l → (∀ x, x ∈ l → x < 8) → ((zz_ix s l = none ∨ ¬ S s = 0) → P (xdrafted, xspecial, xdefined, nI (h + 1), xdepth, nI sc.length, xcells, xclosures, xtop, xundo, xpc, xenv, xbuffer, xtaken, xoutcome, xrunning, xgiven, xclosed, Xdraft, XdraftValues, upd Xop h (nI far), upd Xarg h (nI s), Xparameter, Xwaiting, Xdone, Xhole, Xscope, Xplace, Xlocals, Xstack, Xcell, Xparent, Xbodies, Xbinds, Xscopes, Xwhat, Xfirst, Xsecond, Xthird, Xkept)) → (∀ i, zz_ix s l = some i → S s = 0 → P (xdrafted, xspecial, xdefined, nI (h + 1), xdepth, nI sc.length, xcells, xclosures, xtop, xundo, xpc, xenv, xbuffer, xtaken, xoutcome, xrunning, xgiven, xclosed, Xdraft, XdraftValues, upd Xop h (nI near), upd Xarg h (nI (q + i)), Xparameter, Xwaiting, Xdone, Xhole, Xscope, Xplace, Xlocals, Xstack, Xcell, Xparent, Xbodies, Xbinds, Xscopes, Xwhat, Xfirst, Xsecond, Xthird, Xkept)) → wX_reach_8 P (nI s) (nI near) (nI far) xdrafted xspecial xdefined (nI h) xdepth (nI sc.length) xcells xclosures xtop xundo xpc xenv xbuffer xtaken xoutcome xrunning xgiven xclosed Xdraft XdraftValues Xop Xarg Xparameter Xwaiting Xdone Xhole Xscope Xplace Xlocals Xstack Xcell Xparent Xbodies Xbinds Xscopes Xwhat Xfirst Xsecond Xthird Xkept (l.length + 1) (nI l.length - 1) := by
  intro l
  induction l with
  | nil =>
    intro q hq hr hb h1 h2
    have z : (nI 0 - 1 : Int32) < 0 := by decide
    refine br_t z ?_
    unfold wX_reach_30
    exact br_t z (zx_reach_far hh hf (h1 (Or.inl rfl)))
  | cons x l ih =>
    intro q hq hr hb h1 h2
    have hx := hb x (List.mem_cons_self)
    have hll : l.length < 49 := by simp only [List.length_cons] at hq; omega
    rw [show nI (x :: l).length - 1 = nI l.length from nI_pred l.length]
    have z : ¬ nI l.length < 0 := nI_pos (by omega)
    have ea : Xscope (nI l.length).toNatClampNeg = nI x := by rw [nI_clamp (by omega)]; exact hr.1
    refine br_f z (And.intro (vp_in_nI hll (by omega)) ?_)
    by_cases w : x = s
    · have ix : zz_ix s (x :: l) = some 0 := by simp [zz_ix, w]
      refine br_t (by rw [ea, w]) ?_
      unfold wX_reach_30
      refine br_f z (zx_isSp hS hs (fun u => ?_) (fun u => ?_))
      · exact br_f (by decide) (zx_reach_far hh hf (h1 (Or.inr u)))
      · refine br_t rfl ?_
        have e : (nI sc.length - 1) - nI l.length = nI q := by
          have : sc.length = q + l.length + 1 := by simp only [List.length_cons] at hq; omega
          rw [this, nI_pred, pk_sub (by omega)]
          congr 1; omega
        rw [e]
        exact zx_emit hh hn (h2 0 ix u)
    · refine br_f (by rw [ea, nI_eq (by omega) (by omega)]; exact w) (nm_r (e' := nI l.length - 1) (by rw [Int32.sub_eq_add_neg]) ?_)
      have ix : zz_ix s (x :: l) = (zz_ix s l).map (· + 1) := by simp [zz_ix, w]
      refine ih (q + 1) (by simp only [List.length_cons] at hq; omega) hr.2 (fun y hy => hb y (List.mem_cons_of_mem _ hy)) (fun u => h1 ?_) (fun i hi u => ?_)
      · rcases u with u | u
        · exact Or.inl (by rw [ix, u]; rfl)
        · exact Or.inr u
      · have := h2 (i + 1) (by rw [ix, hi]; rfl) u
        rw [show q + 1 + i = q + (i + 1) from by omega]
        exact this
theorem zx_reach {s near far h : Nat} {sc : List Nat} (hS : zz_SP xspecial S) (hs : s < 8) (hh : h < 1280) (hn : near < 128) (hf : far < 128) (hl : sc.length ≤ 49) (hr : zz_R Xscope nI sc) (hb : ∀ x, x ∈ sc → x < 8)
    (H : P (xdrafted, xspecial, xdefined, nI (h + 1), xdepth, nI sc.length, xcells, xclosures, xtop, xundo, xpc, xenv, xbuffer, xtaken, xoutcome, xrunning, xgiven, xclosed, Xdraft, XdraftValues, upd Xop h (zz_rc S (nI near) (nI far) s sc).1, upd Xarg h (zz_rc S (nI near) (nI far) s sc).2, Xparameter, Xwaiting, Xdone, Xhole, Xscope, Xplace, Xlocals, Xstack, Xcell, Xparent, Xbodies, Xbinds, Xscopes, Xwhat, Xfirst, Xsecond, Xthird, Xkept)) : wpX_reach P (xdrafted, xspecial, xdefined, nI h, xdepth, nI sc.length, xcells, xclosures, xtop, xundo, xpc, xenv, xbuffer, xtaken, xoutcome, xrunning, xgiven, xclosed, Xdraft, XdraftValues, Xop, Xarg, Xparameter, Xwaiting, Xdone, Xhole, Xscope, Xplace, Xlocals, Xstack, Xcell, Xparent, Xbodies, Xbinds, Xscopes, Xwhat, Xfirst, Xsecond, Xthird, Xkept) (nI s) (nI near) (nI far) := by
  refine nm_e ⟨sc.length + 1, ?_⟩
  refine zx_reachL hS hs hh hn hf hl sc 0 (by omega) hr hb (fun u => ?_) (fun i hi u => ?_)
  · have : zz_rc S (nI near) (nI far) s sc = (nI far, nI s) := by
      rcases u with u | u
      · by_cases v : S s = 0
        · simp [zz_rc, zz_lk, u, v]
        · simp [zz_rc, zz_lk, v]
      · simp [zz_rc, zz_lk, u]
    rw [this] at H
    exact H
  · have : zz_rc S (nI near) (nI far) s sc = (nI near, nI i) := by simp [zz_rc, zz_lk, u, hi]
    rw [this] at H
    rw [Nat.zero_add]
    exact H
end
end
section
def zx_cl (post : SX → Prop) (n : Nat) (x2 : Int32) (u : SX) : Prop := match u with
  | (xdrafted, xspecial, xdefined, xhere, xdepth, xscoped, xcells, xclosures, xtop, xundo, xpc, xenv, xbuffer, xtaken, xoutcome, xrunning, xgiven, xclosed, Xdraft, XdraftValues, Xop, Xarg, Xparameter, Xwaiting, Xdone, Xhole, Xscope, Xplace, Xlocals, Xstack, Xcell, Xparent, Xbodies, Xbinds, Xscopes, Xwhat, Xfirst, Xsecond, Xthird, Xkept) => wX_compile_12 post n x2 xdrafted xspecial xdefined xhere xdepth xscoped xcells xclosures xtop xundo xpc xenv xbuffer xtaken xoutcome xrunning xgiven xclosed Xdraft XdraftValues Xop Xarg Xparameter Xwaiting Xdone Xhole Xscope Xplace Xlocals Xstack Xcell Xparent Xbodies Xbinds Xscopes Xwhat Xfirst Xsecond Xthird Xkept
def zx_ck (post : SX → Prop) (n : Nat) (x2 : Int32) (u : SX) : Prop := match u with
  | (xdrafted, xspecial, xdefined, xhere, xdepth, xscoped, xcells, xclosures, xtop, xundo, xpc, xenv, xbuffer, xtaken, xoutcome, xrunning, xgiven, xclosed, Xdraft, XdraftValues, Xop, Xarg, Xparameter, Xwaiting, Xdone, Xhole, Xscope, Xplace, Xlocals, Xstack, Xcell, Xparent, Xbodies, Xbinds, Xscopes, Xwhat, Xfirst, Xsecond, Xthird, Xkept) => ∀ y : Int32, y = x2 + 1 → wX_compile_12 post n y xdrafted xspecial xdefined xhere xdepth xscoped xcells xclosures xtop xundo xpc xenv xbuffer xtaken xoutcome xrunning xgiven xclosed Xdraft XdraftValues Xop Xarg Xparameter Xwaiting Xdone Xhole Xscope Xplace Xlocals Xstack Xcell Xparent Xbodies Xbinds Xscopes Xwhat Xfirst Xsecond Xthird Xkept
section
variable {xdrafted xspecial xdefined xhere xdepth xscoped xcells xclosures xtop xundo xpc xenv xbuffer xtaken xoutcome xrunning xclosed : Int32} {xgiven : Int64} {Xdraft XdraftValues Xop Xarg Xparameter Xwaiting Xdone Xhole Xscope Xlocals Xparent Xbodies Xbinds Xscopes Xwhat Xfirst Xsecond Xthird : Nat → Int32} {Xplace Xstack Xcell Xkept : Nat → Int64} {xdrafted1 xspecial1 xdefined1 xhere1 xdepth1 xscoped1 xcells1 xclosures1 xtop1 xundo1 xpc1 xenv1 xbuffer1 xtaken1 xoutcome1 xrunning1 xclosed1 : Int32} {xgiven1 : Int64} {Xdraft1 XdraftValues1 Xop1 Xarg1 Xparameter1 Xwaiting1 Xdone1 Xhole1 Xscope1 Xlocals1 Xparent1 Xbodies1 Xbinds1 Xscopes1 Xwhat1 Xfirst1 Xsecond1 Xthird1 : Nat → Int32} {Xplace1 Xstack1 Xcell1 Xkept1 : Nat → Int64} {P post : SX → Prop}
theorem zx_begin_d {h k : Nat} {v : Int32} (hk : k = 2 ∨ k = 3 ∨ k = 5 ∨ k = 6 ∨ k = 7 ∨ k = 8 ∨ k = 9 ∨ k = 10 ∨ k = 11 ∨ k = 13 ∨ k = 17) (hh : h < 1280) (H : P (xdrafted, xspecial, xdefined, nI (h + 1), xdepth, xscoped, xcells, xclosures, xtop, xundo, xpc, xenv, xbuffer, xtaken, xoutcome, xrunning, xgiven, xclosed, Xdraft, XdraftValues, upd Xop h (nI 20), upd Xarg h 0, Xparameter, Xwaiting, Xdone, Xhole, Xscope, Xplace, Xlocals, Xstack, Xcell, Xparent, Xbodies, Xbinds, Xscopes, Xwhat, Xfirst, Xsecond, Xthird, Xkept)) : wpX_begin P (xdrafted, xspecial, xdefined, nI h, xdepth, xscoped, xcells, xclosures, xtop, xundo, xpc, xenv, xbuffer, xtaken, xoutcome, xrunning, xgiven, xclosed, Xdraft, XdraftValues, Xop, Xarg, Xparameter, Xwaiting, Xdone, Xhole, Xscope, Xplace, Xlocals, Xstack, Xcell, Xparent, Xbodies, Xbinds, Xscopes, Xwhat, Xfirst, Xsecond, Xthird, Xkept) (nI k) v := by
  unfold wpX_begin
  refine zx_emit (k := 20) hh (by omega) ?_
  rcases hk with e | e | e | e | e | e | e | e | e | e | e <;> subst e
  · exact br_f (by decide) (br_f (by decide) (br_f (by decide) (br_f (by decide) (br_t (by decide) (br_f (by decide) H)))))
  · exact br_f (by decide) (br_f (by decide) (br_f (by decide) (br_f (by decide) (br_f (by decide) (br_t (by decide) H)))))
  · exact br_f (by decide) (br_f (by decide) (br_f (by decide) (br_f (by decide) (br_f (by decide) (br_f (by decide) (br_f (by decide) (br_t (by decide) H)))))))
  · exact br_f (by decide) (br_f (by decide) (br_f (by decide) (br_f (by decide) (br_f (by decide) (br_f (by decide) (br_f (by decide) (br_f (by decide) (br_t (by decide) H))))))))
  · exact br_f (by decide) (br_f (by decide) (br_f (by decide) (br_f (by decide) (br_f (by decide) (br_f (by decide) (br_f (by decide) (br_f (by decide) (br_f (by decide) (br_t (by decide) H)))))))))
  · exact br_f (by decide) (br_f (by decide) (br_f (by decide) (br_f (by decide) (br_f (by decide) (br_f (by decide) (br_f (by decide) (br_f (by decide) (br_f (by decide) (br_f (by decide) (br_t (by decide) H))))))))))
  · exact br_f (by decide) (br_f (by decide) (br_f (by decide) (br_f (by decide) (br_f (by decide) (br_f (by decide) (br_f (by decide) (br_f (by decide) (br_f (by decide) (br_f (by decide) (br_f (by decide) (br_t (by decide) H)))))))))))
  · exact br_f (by decide) (br_f (by decide) (br_f (by decide) (br_f (by decide) (br_f (by decide) (br_f (by decide) (br_f (by decide) (br_f (by decide) (br_f (by decide) (br_f (by decide) (br_f (by decide) (br_f (by decide) (br_t (by decide) H))))))))))))
  · exact br_f (by decide) (br_f (by decide) (br_f (by decide) (br_f (by decide) (br_f (by decide) (br_f (by decide) (br_f (by decide) (br_f (by decide) (br_f (by decide) (br_f (by decide) (br_f (by decide) (br_f (by decide) (br_f (by decide) (br_t (by decide) H)))))))))))))
  · exact br_f (by decide) (br_f (by decide) (br_f (by decide) (br_f (by decide) (br_f (by decide) (br_f (by decide) (br_f (by decide) (br_f (by decide) (br_f (by decide) (br_f (by decide) (br_f (by decide) (br_f (by decide) (br_f (by decide) (br_f (by decide) (br_f (by decide) (br_t (by decide) H)))))))))))))))
  · exact br_f (by decide) (br_f (by decide) (br_f (by decide) (br_f (by decide) (br_f (by decide) (br_f (by decide) (br_f (by decide) (br_f (by decide) (br_f (by decide) (br_f (by decide) (br_f (by decide) (br_f (by decide) (br_f (by decide) (br_f (by decide) (br_f (by decide) (br_f (by decide) (br_f (by decide) (br_f (by decide) (br_f (by decide) (br_t (by decide) H)))))))))))))))))))
theorem zx_begin_0 {h : Nat} {v : Int32} (hh : h + 1 < 1280) (H : P (xdrafted, xspecial, xdefined, nI (h + 1 + 1), xdepth, xscoped, xcells, xclosures, xtop, xundo, xpc, xenv, xbuffer, xtaken, xoutcome, xrunning, xgiven, xclosed, Xdraft, XdraftValues, upd (upd Xop h (nI 20)) (h + 1) (nI 0), upd (upd Xarg h 0) (h + 1) v, Xparameter, Xwaiting, Xdone, Xhole, Xscope, Xplace, Xlocals, Xstack, Xcell, Xparent, Xbodies, Xbinds, Xscopes, Xwhat, Xfirst, Xsecond, Xthird, Xkept)) : wpX_begin P (xdrafted, xspecial, xdefined, nI h, xdepth, xscoped, xcells, xclosures, xtop, xundo, xpc, xenv, xbuffer, xtaken, xoutcome, xrunning, xgiven, xclosed, Xdraft, XdraftValues, Xop, Xarg, Xparameter, Xwaiting, Xdone, Xhole, Xscope, Xplace, Xlocals, Xstack, Xcell, Xparent, Xbodies, Xbinds, Xscopes, Xwhat, Xfirst, Xsecond, Xthird, Xkept) (nI 0) v := by
  unfold wpX_begin
  refine zx_emit (k := 20) (by omega) (by omega) ?_
  exact br_f (by decide) (br_f (by decide) (br_t (by decide) (zx_emit (k := 0) hh (by omega) H)))
theorem zx_begin_1 {S : Nat → Int32} {h s : Nat} {sc : List Nat} (hS : zz_SP xspecial S) (hs : s < 8) (hl : sc.length ≤ 49) (hr : zz_R Xscope nI sc) (hb : ∀ x, x ∈ sc → x < 8) (hh : h + 1 < 1280) (H : P (xdrafted, xspecial, xdefined, nI (h + 1 + 1), xdepth, nI sc.length, xcells, xclosures, xtop, xundo, xpc, xenv, xbuffer, xtaken, xoutcome, xrunning, xgiven, xclosed, Xdraft, XdraftValues, upd (upd Xop h (nI 20)) (h + 1) (zz_rc S (nI 31) (nI 1) s sc).1, upd (upd Xarg h 0) (h + 1) (zz_rc S (nI 31) (nI 1) s sc).2, Xparameter, Xwaiting, Xdone, Xhole, Xscope, Xplace, Xlocals, Xstack, Xcell, Xparent, Xbodies, Xbinds, Xscopes, Xwhat, Xfirst, Xsecond, Xthird, Xkept)) : wpX_begin P (xdrafted, xspecial, xdefined, nI h, xdepth, nI sc.length, xcells, xclosures, xtop, xundo, xpc, xenv, xbuffer, xtaken, xoutcome, xrunning, xgiven, xclosed, Xdraft, XdraftValues, Xop, Xarg, Xparameter, Xwaiting, Xdone, Xhole, Xscope, Xplace, Xlocals, Xstack, Xcell, Xparent, Xbodies, Xbinds, Xscopes, Xwhat, Xfirst, Xsecond, Xthird, Xkept) (nI 1) (nI s) := by
  unfold wpX_begin
  refine zx_emit (k := 20) (by omega) (by omega) ?_
  refine br_f (by decide) (br_f (by decide) (br_f (by decide) (br_t (by decide) ?_)))
  exact br_t (by decide) (zx_reach (near := 31) (far := 1) hS hs hh (by omega) (by omega) hl hr hb H)
theorem zx_begin_18 {h : Nat} {v : Int32} (hh : h + 1 < 1280) (H : P (xdrafted, xspecial, xdefined, nI (h + 1 + 1), xdepth, xscoped, xcells, xclosures, xtop, xundo, xpc, xenv, xbuffer, xtaken, xoutcome, xrunning, xgiven, xclosed, Xdraft, XdraftValues, upd (upd Xop h (nI 20)) (h + 1) (nI 18), upd (upd Xarg h 0) (h + 1) 0, Xparameter, Xwaiting, Xdone, Xhole, Xscope, Xplace, Xlocals, Xstack, Xcell, Xparent, Xbodies, Xbinds, Xscopes, Xwhat, Xfirst, Xsecond, Xthird, Xkept)) : wpX_begin P (xdrafted, xspecial, xdefined, nI h, xdepth, xscoped, xcells, xclosures, xtop, xundo, xpc, xenv, xbuffer, xtaken, xoutcome, xrunning, xgiven, xclosed, Xdraft, XdraftValues, Xop, Xarg, Xparameter, Xwaiting, Xdone, Xhole, Xscope, Xplace, Xlocals, Xstack, Xcell, Xparent, Xbodies, Xbinds, Xscopes, Xwhat, Xfirst, Xsecond, Xthird, Xkept) (nI 18) v := by
  unfold wpX_begin
  refine zx_emit (k := 20) (by omega) (by omega) ?_
  exact br_f (by decide) (br_f (by decide) (br_f (by decide) (br_f (by decide) (br_f (by decide) (br_f (by decide) (br_f (by decide) (br_f (by decide) (br_f (by decide) (br_f (by decide) (br_f (by decide) (br_f (by decide) (br_f (by decide) (br_f (by decide) (br_f (by decide) (br_f (by decide) (br_f (by decide) (br_f (by decide) (br_f (by decide) (br_f (by decide) (br_t (by decide) (zx_emit (k := 18) hh (by omega) H)))))))))))))))))))))
theorem zx_begin_16 {h s : Nat} (hh : h + 1 < 1280) (H : P (xdrafted, xspecial, xdefined, nI (h + 1 + 1), xdepth, xscoped, xcells, xclosures, xtop, xundo, xpc, xenv, xbuffer, xtaken, xoutcome, xrunning, xgiven, xclosed, Xdraft, XdraftValues, upd (upd Xop h (nI 20)) (h + 1) (nI 33), upd (upd Xarg h 0) (h + 1) (nI s), Xparameter, Xwaiting, Xdone, Xhole, Xscope, Xplace, Xlocals, Xstack, Xcell, Xparent, Xbodies, Xbinds, Xscopes, Xwhat, Xfirst, Xsecond, Xthird, Xkept)) : wpX_begin P (xdrafted, xspecial, xdefined, nI h, xdepth, xscoped, xcells, xclosures, xtop, xundo, xpc, xenv, xbuffer, xtaken, xoutcome, xrunning, xgiven, xclosed, Xdraft, XdraftValues, Xop, Xarg, Xparameter, Xwaiting, Xdone, Xhole, Xscope, Xplace, Xlocals, Xstack, Xcell, Xparent, Xbodies, Xbinds, Xscopes, Xwhat, Xfirst, Xsecond, Xthird, Xkept) (nI 16) (nI s) := by
  unfold wpX_begin
  refine zx_emit (k := 20) (by omega) (by omega) ?_
  exact br_f (by decide) (br_f (by decide) (br_f (by decide) (br_f (by decide) (br_f (by decide) (br_f (by decide) (br_f (by decide) (br_f (by decide) (br_f (by decide) (br_f (by decide) (br_f (by decide) (br_f (by decide) (br_f (by decide) (br_f (by decide) (br_f (by decide) (br_f (by decide) (br_f (by decide) (br_f (by decide) (br_t (by decide) (zx_emit (k := 33) hh (by omega) H)))))))))))))))))))
theorem zx_begin_12 {h d s : Nat} (hh : h + 1 < 1280) (hd : d < 48) (H : P (xdrafted, xspecial, xdefined, nI (h + 1 + 1), nI d, xscoped, xcells, xclosures, xtop, xundo, xpc, xenv, xbuffer, xtaken, xoutcome, xrunning, xgiven, xclosed, Xdraft, XdraftValues, upd (upd Xop h (nI 20)) (h + 1) (nI 25), upd (upd Xarg h 0) (h + 1) (nI s), Xparameter, Xwaiting, Xdone, upd Xhole d (nI (h + 1)), Xscope, Xplace, Xlocals, Xstack, Xcell, Xparent, Xbodies, Xbinds, Xscopes, Xwhat, Xfirst, Xsecond, Xthird, Xkept)) : wpX_begin P (xdrafted, xspecial, xdefined, nI h, nI d, xscoped, xcells, xclosures, xtop, xundo, xpc, xenv, xbuffer, xtaken, xoutcome, xrunning, xgiven, xclosed, Xdraft, XdraftValues, Xop, Xarg, Xparameter, Xwaiting, Xdone, Xhole, Xscope, Xplace, Xlocals, Xstack, Xcell, Xparent, Xbodies, Xbinds, Xscopes, Xwhat, Xfirst, Xsecond, Xthird, Xkept) (nI 12) (nI s) := by
  unfold wpX_begin
  refine zx_emit (k := 20) (by omega) (by omega) ?_
  exact br_f (by decide) (br_f (by decide) (br_f (by decide) (br_f (by decide) (br_f (by decide) (br_f (by decide) (br_f (by decide) (br_f (by decide) (br_f (by decide) (br_f (by decide) (br_f (by decide) (br_f (by decide) (br_f (by decide) (br_f (by decide) (br_t (by decide) (zx_mark hh hd (zx_emit (k := 25) hh (by omega) H))))))))))))))))
theorem zx_begin_14 {h d : Nat} {v : Int32} (hh : h + 1 < 1280) (hd : d < 48) (H : P (xdrafted, xspecial, xdefined, nI (h + 1 + 1), nI d, xscoped, xcells, xclosures, xtop, xundo, xpc, xenv, xbuffer, xtaken, xoutcome, xrunning, xgiven, xclosed, Xdraft, XdraftValues, upd (upd Xop h (nI 20)) (h + 1) (nI 35), upd (upd Xarg h 0) (h + 1) 0, Xparameter, Xwaiting, Xdone, upd Xhole d (nI (h + 1)), Xscope, Xplace, Xlocals, Xstack, Xcell, Xparent, Xbodies, Xbinds, Xscopes, Xwhat, Xfirst, Xsecond, Xthird, Xkept)) : wpX_begin P (xdrafted, xspecial, xdefined, nI h, nI d, xscoped, xcells, xclosures, xtop, xundo, xpc, xenv, xbuffer, xtaken, xoutcome, xrunning, xgiven, xclosed, Xdraft, XdraftValues, Xop, Xarg, Xparameter, Xwaiting, Xdone, Xhole, Xscope, Xplace, Xlocals, Xstack, Xcell, Xparent, Xbodies, Xbinds, Xscopes, Xwhat, Xfirst, Xsecond, Xthird, Xkept) (nI 14) v := by
  unfold wpX_begin
  refine zx_emit (k := 20) (by omega) (by omega) ?_
  exact br_f (by decide) (br_f (by decide) (br_f (by decide) (br_f (by decide) (br_f (by decide) (br_f (by decide) (br_f (by decide) (br_f (by decide) (br_f (by decide) (br_f (by decide) (br_f (by decide) (br_f (by decide) (br_f (by decide) (br_f (by decide) (br_f (by decide) (br_f (by decide) (br_t (by decide) (zx_mark hh hd (zx_emit (k := 35) hh (by omega) H))))))))))))))))))
theorem zx_begin_15 {h d : Nat} {v : Int32} (hh : h + 1 < 1280) (hd : d < 48) (H : P (xdrafted, xspecial, xdefined, nI (h + 1 + 1), nI d, xscoped, xcells, xclosures, xtop, xundo, xpc, xenv, xbuffer, xtaken, xoutcome, xrunning, xgiven, xclosed, Xdraft, XdraftValues, upd (upd Xop h (nI 20)) (h + 1) (nI 27), upd (upd Xarg h 0) (h + 1) 0, Xparameter, Xwaiting, Xdone, upd Xhole d (nI (h + 1)), Xscope, Xplace, Xlocals, Xstack, Xcell, Xparent, Xbodies, Xbinds, Xscopes, Xwhat, Xfirst, Xsecond, Xthird, Xkept)) : wpX_begin P (xdrafted, xspecial, xdefined, nI h, nI d, xscoped, xcells, xclosures, xtop, xundo, xpc, xenv, xbuffer, xtaken, xoutcome, xrunning, xgiven, xclosed, Xdraft, XdraftValues, Xop, Xarg, Xparameter, Xwaiting, Xdone, Xhole, Xscope, Xplace, Xlocals, Xstack, Xcell, Xparent, Xbodies, Xbinds, Xscopes, Xwhat, Xfirst, Xsecond, Xthird, Xkept) (nI 15) v := by
  unfold wpX_begin
  refine zx_emit (k := 20) (by omega) (by omega) ?_
  exact br_f (by decide) (br_f (by decide) (br_f (by decide) (br_f (by decide) (br_f (by decide) (br_f (by decide) (br_f (by decide) (br_f (by decide) (br_f (by decide) (br_f (by decide) (br_f (by decide) (br_f (by decide) (br_f (by decide) (br_f (by decide) (br_f (by decide) (br_f (by decide) (br_f (by decide) (br_t (by decide) (zx_mark hh hd (zx_emit (k := 27) hh (by omega) H)))))))))))))))))))
/-- FUN: its symbol comes into the scope if it is lexical -/
theorem zx_begin_4 {S : Nat → Int32} {h d s : Nat} {sc : List Nat} (hS : zz_SP xspecial S) (hs : s < 8) (hh : h + 2 < 1280) (hd : d < 48) (hn : sc.length < 49)
    (H : P (xdrafted, xspecial, xdefined, nI (h + 1 + 1 + 1), nI d, nI (zz_ex S s sc).length, xcells, xclosures, xtop, xundo, xpc, xenv, xbuffer, xtaken, xoutcome, xrunning, xgiven, xclosed, Xdraft, XdraftValues, upd (upd (upd Xop h (nI 20)) (h + 1) (nI 4)) (h + 1 + 1) (nI 23), upd (upd (upd Xarg h 0) (h + 1) (nI (h + 3 + s * 65536))) (h + 1 + 1) 0, Xparameter, Xwaiting, Xdone, upd Xhole d (nI (h + 1 + 1)), zz_xs S s sc.length Xscope, Xplace, Xlocals, Xstack, Xcell, Xparent, Xbodies, Xbinds, Xscopes, Xwhat, Xfirst, Xsecond, Xthird, Xkept)) : wpX_begin P (xdrafted, xspecial, xdefined, nI h, nI d, nI sc.length, xcells, xclosures, xtop, xundo, xpc, xenv, xbuffer, xtaken, xoutcome, xrunning, xgiven, xclosed, Xdraft, XdraftValues, Xop, Xarg, Xparameter, Xwaiting, Xdone, Xhole, Xscope, Xplace, Xlocals, Xstack, Xcell, Xparent, Xbodies, Xbinds, Xscopes, Xwhat, Xfirst, Xsecond, Xthird, Xkept) (nI 4) (nI s) := by
  unfold wpX_begin
  refine zx_emit (k := 20) (by omega) (by omega) ?_
  refine br_f (by decide) (br_f (by decide) (br_f (by decide) (br_f (by decide) (br_f (by decide) (br_f (by decide) (br_t (by decide) ?_))))))
  have e : (nI (h + 1) + 2) ||| (nI s <<< ((16 : Int32) &&& 31)) = nI (h + 3 + s * 65536) := by
    rw [zz_sl (by omega), show nI (h + 1) + 2 = nI (h + 3) from nI_add (h + 1) 2, zz_or (by omega)]
  rw [e]
  refine zx_emit (k := 4) (by omega) (by omega) (zx_mark (by omega) hd (zx_emit (k := 23) (by omega) (by omega) ?_))
  refine zx_isSp hS hs (fun z => br_f (by decide) ?_) (fun z => br_t rfl (nm_r (e' := nI (sc.length + 1)) (nI_1 _) (And.intro (vp_in_nI hn (by omega)) (nm_r (e' := upd Xscope sc.length (nI s)) ?_ ?_))))
  · rw [zz_ex, zz_xs, if_neg z, if_neg z] at H; exact H
  · rw [nI_clamp (by omega), zz_vb (by omega)]
  · rw [zz_ex, zz_xs, if_pos z, if_pos z] at H; exact H
/-! a token of the draft -/
theorem zx_cl_0 {j k n dr : Nat} (hj : j < dr) (hd : dr ≤ 48) (hk : Xdraft j = nI k) (h19 : k < 19) (h0 : zz_op k = 0) (HB : ∀ Q : SX → Prop, Q (xdrafted1, xspecial1, xdefined1, xhere1, xdepth1, xscoped1, xcells1, xclosures1, xtop1, xundo1, xpc1, xenv1, xbuffer1, xtaken1, xoutcome1, xrunning1, xgiven1, xclosed1, Xdraft1, XdraftValues1, Xop1, Xarg1, Xparameter1, Xwaiting1, Xdone1, Xhole1, Xscope1, Xplace1, Xlocals1, Xstack1, Xcell1, Xparent1, Xbodies1, Xbinds1, Xscopes1, Xwhat1, Xfirst1, Xsecond1, Xthird1, Xkept1) → wpX_begin Q (nI dr, xspecial, xdefined, xhere, xdepth, xscoped, xcells, xclosures, xtop, xundo, xpc, xenv, xbuffer, xtaken, xoutcome, xrunning, xgiven, xclosed, Xdraft, XdraftValues, Xop, Xarg, Xparameter, Xwaiting, Xdone, Xhole, Xscope, Xplace, Xlocals, Xstack, Xcell, Xparent, Xbodies, Xbinds, Xscopes, Xwhat, Xfirst, Xsecond, Xthird, Xkept) (nI k) (XdraftValues j)) (HC : wpX_close (zx_ck post n (nI j)) (xdrafted1, xspecial1, xdefined1, xhere1, xdepth1, xscoped1, xcells1, xclosures1, xtop1, xundo1, xpc1, xenv1, xbuffer1, xtaken1, xoutcome1, xrunning1, xgiven1, xclosed1, Xdraft1, XdraftValues1, Xop1, Xarg1, Xparameter1, Xwaiting1, Xdone1, Xhole1, Xscope1, Xplace1, Xlocals1, Xstack1, Xcell1, Xparent1, Xbodies1, Xbinds1, Xscopes1, Xwhat1, Xfirst1, Xsecond1, Xthird1, Xkept1)) : zx_cl post (n + 1) (nI j) (nI dr, xspecial, xdefined, xhere, xdepth, xscoped, xcells, xclosures, xtop, xundo, xpc, xenv, xbuffer, xtaken, xoutcome, xrunning, xgiven, xclosed, Xdraft, XdraftValues, Xop, Xarg, Xparameter, Xwaiting, Xdone, Xhole, Xscope, Xplace, Xlocals, Xstack, Xcell, Xparent, Xbodies, Xbinds, Xscopes, Xwhat, Xfirst, Xsecond, Xthird, Xkept) := by
  have ij : vp_in (nI j) 48 := vp_in_nI (by omega) (by omega)
  have ec : (nI j).toNatClampNeg = j := nI_clamp (by omega)
  refine br_f (nI_ge hj (by omega)) (And.intro ij ?_)
  rw [ec, hk]
  refine zx_operands k h19 (And.intro ij (And.intro ij ?_))
  exact HB _ (br_t (by rw [h0]; decide) HC)
theorem zx_cl_1 {j k n dr d : Nat} (hj : j < dr) (hd : dr ≤ 48) (hk : Xdraft j = nI k) (h19 : k < 19) (h0 : 0 < zz_op k) (hdp : d < 48) (HB : ∀ Q : SX → Prop, Q (xdrafted1, xspecial1, xdefined1, xhere1, nI d, xscoped1, xcells1, xclosures1, xtop1, xundo1, xpc1, xenv1, xbuffer1, xtaken1, xoutcome1, xrunning1, xgiven1, xclosed1, Xdraft1, XdraftValues1, Xop1, Xarg1, Xparameter1, Xwaiting1, Xdone1, Xhole1, Xscope1, Xplace1, Xlocals1, Xstack1, Xcell1, Xparent1, Xbodies1, Xbinds1, Xscopes1, Xwhat1, Xfirst1, Xsecond1, Xthird1, Xkept1) → wpX_begin Q (nI dr, xspecial, xdefined, xhere, xdepth, xscoped, xcells, xclosures, xtop, xundo, xpc, xenv, xbuffer, xtaken, xoutcome, xrunning, xgiven, xclosed, Xdraft, XdraftValues, Xop, Xarg, Xparameter, Xwaiting, Xdone, Xhole, Xscope, Xplace, Xlocals, Xstack, Xcell, Xparent, Xbodies, Xbinds, Xscopes, Xwhat, Xfirst, Xsecond, Xthird, Xkept) (nI k) (XdraftValues j)) (HC : zx_cl post n (nI (j + 1)) (xdrafted1, xspecial1, xdefined1, xhere1, nI (d + 1), xscoped1, xcells1, xclosures1, xtop1, xundo1, xpc1, xenv1, xbuffer1, xtaken1, xoutcome1, xrunning1, xgiven1, xclosed1, Xdraft1, XdraftValues1, Xop1, Xarg1, Xparameter1, upd Xwaiting1 d (nI j), upd Xdone1 d (nI 0), Xhole1, Xscope1, Xplace1, Xlocals1, Xstack1, Xcell1, Xparent1, Xbodies1, Xbinds1, Xscopes1, Xwhat1, Xfirst1, Xsecond1, Xthird1, Xkept1)) : zx_cl post (n + 1) (nI j) (nI dr, xspecial, xdefined, xhere, xdepth, xscoped, xcells, xclosures, xtop, xundo, xpc, xenv, xbuffer, xtaken, xoutcome, xrunning, xgiven, xclosed, Xdraft, XdraftValues, Xop, Xarg, Xparameter, Xwaiting, Xdone, Xhole, Xscope, Xplace, Xlocals, Xstack, Xcell, Xparent, Xbodies, Xbinds, Xscopes, Xwhat, Xfirst, Xsecond, Xthird, Xkept) := by
  have ij : vp_in (nI j) 48 := vp_in_nI (by omega) (by omega)
  have ec : (nI j).toNatClampNeg = j := nI_clamp (by omega)
  have id : vp_in (nI d) 48 := vp_in_nI hdp (by omega)
  have ed : (nI d).toNatClampNeg = d := nI_clamp (by omega)
  have ho : zz_op k < 4 := zz_op4 k
  refine br_f (nI_ge hj (by omega)) (And.intro ij ?_)
  rw [ec, hk]
  refine zx_operands k h19 (And.intro ij (And.intro ij ?_))
  refine HB _ (br_f (nI_nle h0 (by omega)) (And.intro id (nm_r (e' := upd Xwaiting1 d (nI j)) ?_ (nm_r (e' := nI (d + 1)) (nI_1 d) (And.intro id (nm_r (e' := upd Xdone1 d (nI 0)) ?_ (nm_r (e' := nI (j + 1)) (nI_1 j) HC)))))))
  · rw [ed, zz_vb (by omega)]
  · rw [ed]; exact congrArg (upd Xdone1 d) (by rw [vp_nar_byte]; decide)
theorem zx_cl_e {n dr : Nat} (H : post (nI dr, xspecial, xdefined, xhere, xdepth, xscoped, xcells, xclosures, xtop, xundo, xpc, xenv, xbuffer, xtaken, xoutcome, xrunning, xgiven, xclosed, Xdraft, XdraftValues, Xop, Xarg, Xparameter, Xwaiting, Xdone, Xhole, Xscope, Xplace, Xlocals, Xstack, Xcell, Xparent, Xbodies, Xbinds, Xscopes, Xwhat, Xfirst, Xsecond, Xthird, Xkept)) : zx_cl post (n + 1) (nI dr) (nI dr, xspecial, xdefined, xhere, xdepth, xscoped, xcells, xclosures, xtop, xundo, xpc, xenv, xbuffer, xtaken, xoutcome, xrunning, xgiven, xclosed, Xdraft, XdraftValues, Xop, Xarg, Xparameter, Xwaiting, Xdone, Xhole, Xscope, Xplace, Xlocals, Xstack, Xcell, Xparent, Xbodies, Xbinds, Xscopes, Xwhat, Xfirst, Xsecond, Xthird, Xkept) := br_t (Int32.le_refl _) H
theorem zx_ck_cl {n j : Nat} (H : zx_cl post n (nI (j + 1)) (xdrafted, xspecial, xdefined, xhere, xdepth, xscoped, xcells, xclosures, xtop, xundo, xpc, xenv, xbuffer, xtaken, xoutcome, xrunning, xgiven, xclosed, Xdraft, XdraftValues, Xop, Xarg, Xparameter, Xwaiting, Xdone, Xhole, Xscope, Xplace, Xlocals, Xstack, Xcell, Xparent, Xbodies, Xbinds, Xscopes, Xwhat, Xfirst, Xsecond, Xthird, Xkept)) : zx_ck post n (nI j) (xdrafted, xspecial, xdefined, xhere, xdepth, xscoped, xcells, xclosures, xtop, xundo, xpc, xenv, xbuffer, xtaken, xoutcome, xrunning, xgiven, xclosed, Xdraft, XdraftValues, Xop, Xarg, Xparameter, Xwaiting, Xdone, Xhole, Xscope, Xplace, Xlocals, Xstack, Xcell, Xparent, Xbodies, Xbinds, Xscopes, Xwhat, Xfirst, Xsecond, Xthird, Xkept) := nm_r (nI_1 j) H
/-! an operand is done -/
theorem zx_close_m {d w k c : Nat} (hd : d < 48) (hw : Xwaiting d = nI w) (hw2 : w < 48) (hk : Xdraft w = nI k) (h19 : k < 19) (hc : Xdone d = nI c) (hc2 : c + 1 < zz_op k) (HB : ∀ Q : SX → Prop, Q (xdrafted1, xspecial1, xdefined1, xhere1, xdepth1, xscoped1, xcells1, xclosures1, xtop1, xundo1, xpc1, xenv1, xbuffer1, xtaken1, xoutcome1, xrunning1, xgiven1, xclosed1, Xdraft1, XdraftValues1, Xop1, Xarg1, Xparameter1, Xwaiting1, Xdone1, Xhole1, Xscope1, Xplace1, Xlocals1, Xstack1, Xcell1, Xparent1, Xbodies1, Xbinds1, Xscopes1, Xwhat1, Xfirst1, Xsecond1, Xthird1, Xkept1) → wpX_behind Q (xdrafted, xspecial, xdefined, xhere, nI (d + 1), xscoped, xcells, xclosures, xtop, xundo, xpc, xenv, xbuffer, xtaken, xoutcome, xrunning, xgiven, xclosed, Xdraft, XdraftValues, Xop, Xarg, Xparameter, Xwaiting, upd Xdone d (nI (c + 1)), Xhole, Xscope, Xplace, Xlocals, Xstack, Xcell, Xparent, Xbodies, Xbinds, Xscopes, Xwhat, Xfirst, Xsecond, Xthird, Xkept) (nI k) (XdraftValues w) (nI (c + 1))) (H : P (xdrafted1, xspecial1, xdefined1, xhere1, xdepth1, xscoped1, xcells1, xclosures1, xtop1, xundo1, xpc1, xenv1, xbuffer1, xtaken1, xoutcome1, xrunning1, xgiven1, xclosed1, Xdraft1, XdraftValues1, Xop1, Xarg1, Xparameter1, Xwaiting1, Xdone1, Xhole1, Xscope1, Xplace1, Xlocals1, Xstack1, Xcell1, Xparent1, Xbodies1, Xbinds1, Xscopes1, Xwhat1, Xfirst1, Xsecond1, Xthird1, Xkept1)) : wpX_close P (xdrafted, xspecial, xdefined, xhere, nI (d + 1), xscoped, xcells, xclosures, xtop, xundo, xpc, xenv, xbuffer, xtaken, xoutcome, xrunning, xgiven, xclosed, Xdraft, XdraftValues, Xop, Xarg, Xparameter, Xwaiting, Xdone, Xhole, Xscope, Xplace, Xlocals, Xstack, Xcell, Xparent, Xbodies, Xbinds, Xscopes, Xwhat, Xfirst, Xsecond, Xthird, Xkept) := by
  have ho : zz_op k < 4 := zz_op4 k
  have e1 : nI (d + 1) - 1 = nI d := nI_pred d
  have e2 : (nI d).toNatClampNeg = d := nI_clamp (by omega)
  have e3 : (nI w).toNatClampNeg = w := nI_clamp (by omega)
  have i1 : vp_in (nI (d + 1) - 1) 48 := by rw [e1]; exact vp_in_nI hd (by omega)
  have i2 : vp_in (nI w) 48 := vp_in_nI hw2 (by omega)
  refine br_f (nI_nle (by omega) (by omega)) ⟨2, ?_⟩
  refine br_f (by decide) (And.intro i1 (nm_r (e' := nI w) (by rw [e1, e2, hw]) (And.intro i2 (nm_r (e' := nI k) (by rw [e3, hk]) (And.intro i1 (And.intro i1 (nm_r (e' := upd Xdone d (nI (c + 1))) ?_ (And.intro i1 ?_))))))))
  · rw [e1, e2, hc, nI_1, zz_vb (by omega)]
  · rw [e1, e2]
    refine zx_operands k h19 (br_f (by rw [pk_us, nI_eq (by omega) (by omega)]; omega) ?_)
    unfold wX_close_75
    refine And.intro i2 (And.intro i1 ?_)
    rw [e1, e2, e3, pk_us]
    exact HB _ (br_t rfl (br_t rfl (br_t rfl H)))
theorem zx_close_l {d w k c : Nat} (hd : d < 48) (hw : Xwaiting d = nI w) (hw2 : w < 48) (hk : Xdraft w = nI k) (h19 : k < 19) (hc : Xdone d = nI c) (hc2 : c + 1 = zz_op k) (HB : ∀ Q : SX → Prop, Q (xdrafted1, xspecial1, xdefined1, xhere1, nI (d + 1), xscoped1, xcells1, xclosures1, xtop1, xundo1, xpc1, xenv1, xbuffer1, xtaken1, xoutcome1, xrunning1, xgiven1, xclosed1, Xdraft1, XdraftValues1, Xop1, Xarg1, Xparameter1, Xwaiting1, Xdone1, Xhole1, Xscope1, Xplace1, Xlocals1, Xstack1, Xcell1, Xparent1, Xbodies1, Xbinds1, Xscopes1, Xwhat1, Xfirst1, Xsecond1, Xthird1, Xkept1) → wpX_behind Q (xdrafted, xspecial, xdefined, xhere, nI (d + 1), xscoped, xcells, xclosures, xtop, xundo, xpc, xenv, xbuffer, xtaken, xoutcome, xrunning, xgiven, xclosed, Xdraft, XdraftValues, Xop, Xarg, Xparameter, Xwaiting, upd Xdone d (nI (c + 1)), Xhole, Xscope, Xplace, Xlocals, Xstack, Xcell, Xparent, Xbodies, Xbinds, Xscopes, Xwhat, Xfirst, Xsecond, Xthird, Xkept) (nI k) (XdraftValues w) (nI (c + 1))) (H : wpX_close P (xdrafted1, xspecial1, xdefined1, xhere1, nI d, xscoped1, xcells1, xclosures1, xtop1, xundo1, xpc1, xenv1, xbuffer1, xtaken1, xoutcome1, xrunning1, xgiven1, xclosed1, Xdraft1, XdraftValues1, Xop1, Xarg1, Xparameter1, Xwaiting1, Xdone1, Xhole1, Xscope1, Xplace1, Xlocals1, Xstack1, Xcell1, Xparent1, Xbodies1, Xbinds1, Xscopes1, Xwhat1, Xfirst1, Xsecond1, Xthird1, Xkept1)) : wpX_close P (xdrafted, xspecial, xdefined, xhere, nI (d + 1), xscoped, xcells, xclosures, xtop, xundo, xpc, xenv, xbuffer, xtaken, xoutcome, xrunning, xgiven, xclosed, Xdraft, XdraftValues, Xop, Xarg, Xparameter, Xwaiting, Xdone, Xhole, Xscope, Xplace, Xlocals, Xstack, Xcell, Xparent, Xbodies, Xbinds, Xscopes, Xwhat, Xfirst, Xsecond, Xthird, Xkept) := by
  have ho : zz_op k < 4 := zz_op4 k
  have e1 : nI (d + 1) - 1 = nI d := nI_pred d
  have e2 : (nI d).toNatClampNeg = d := nI_clamp (by omega)
  have e3 : (nI w).toNatClampNeg = w := nI_clamp (by omega)
  have i1 : vp_in (nI (d + 1) - 1) 48 := by rw [e1]; exact vp_in_nI hd (by omega)
  have i2 : vp_in (nI w) 48 := vp_in_nI hw2 (by omega)
  have key : ∃ n, (nI d ≤ 0 → wX_close_13 P n 0 xdrafted1 xspecial1 xdefined1 xhere1 (nI d) xscoped1 xcells1 xclosures1 xtop1 xundo1 xpc1 xenv1 xbuffer1 xtaken1 xoutcome1 xrunning1 xgiven1 xclosed1 Xdraft1 XdraftValues1 Xop1 Xarg1 Xparameter1 Xwaiting1 Xdone1 Xhole1 Xscope1 Xplace1 Xlocals1 Xstack1 Xcell1 Xparent1 Xbodies1 Xbinds1 Xscopes1 Xwhat1 Xfirst1 Xsecond1 Xthird1 Xkept1) ∧ (¬ nI d ≤ 0 → wX_close_13 P n 1 xdrafted1 xspecial1 xdefined1 xhere1 (nI d) xscoped1 xcells1 xclosures1 xtop1 xundo1 xpc1 xenv1 xbuffer1 xtaken1 xoutcome1 xrunning1 xgiven1 xclosed1 Xdraft1 XdraftValues1 Xop1 Xarg1 Xparameter1 Xwaiting1 Xdone1 Xhole1 Xscope1 Xplace1 Xlocals1 Xstack1 Xcell1 Xparent1 Xbodies1 Xbinds1 Xscopes1 Xwhat1 Xfirst1 Xsecond1 Xthird1 Xkept1) := by
    by_cases z : nI d ≤ 0
    · obtain ⟨n, hn⟩ := H.1 z
      exact ⟨n, br_t z hn⟩
    · obtain ⟨n, hn⟩ := H.2 z
      exact ⟨n, br_f z hn⟩
  obtain ⟨n, hn⟩ := key
  refine br_f (nI_nle (by omega) (by omega)) ⟨n + 1, ?_⟩
  refine br_f (by decide) (And.intro i1 (nm_r (e' := nI w) (by rw [e1, e2, hw]) (And.intro i2 (nm_r (e' := nI k) (by rw [e3, hk]) (And.intro i1 (And.intro i1 (nm_r (e' := upd Xdone d (nI (c + 1))) ?_ (And.intro i1 ?_))))))))
  · rw [e1, e2, hc, nI_1, zz_vb (by omega)]
  · rw [e1, e2]
    refine zx_operands k h19 (br_t (by rw [pk_us, hc2]) ?_)
    unfold wX_close_75
    refine And.intro i2 (And.intro i1 ?_)
    rw [e1, e2, e3, pk_us]
    exact HB _ (br_f (by decide) (nm_r (e' := nI d) e1 (br_f (by decide) hn)))
end
end
section
section
variable {xdrafted xspecial xdefined xhere xdepth xscoped xcells xclosures xtop xundo xpc xenv xbuffer xtaken xoutcome xrunning xclosed : Int32} {xgiven : Int64} {Xdraft XdraftValues Xop Xarg Xparameter Xwaiting Xdone Xhole Xscope Xlocals Xparent Xbodies Xbinds Xscopes Xwhat Xfirst Xsecond Xthird : Nat → Int32} {Xplace Xstack Xcell Xkept : Nat → Int64} {P : SX → Prop}
theorem zx_behind_1 {h k s : Nat} (hk : k = 6 ∨ k = 13 ∨ k = 17) (hh : h < 1280) (H : P (xdrafted, xspecial, xdefined, nI (h + 1), xdepth, xscoped, xcells, xclosures, xtop, xundo, xpc, xenv, xbuffer, xtaken, xoutcome, xrunning, xgiven, xclosed, Xdraft, XdraftValues, upd Xop h (nI k), upd Xarg h (nI s), Xparameter, Xwaiting, Xdone, Xhole, Xscope, Xplace, Xlocals, Xstack, Xcell, Xparent, Xbodies, Xbinds, Xscopes, Xwhat, Xfirst, Xsecond, Xthird, Xkept)) : wpX_behind P (xdrafted, xspecial, xdefined, nI h, xdepth, xscoped, xcells, xclosures, xtop, xundo, xpc, xenv, xbuffer, xtaken, xoutcome, xrunning, xgiven, xclosed, Xdraft, XdraftValues, Xop, Xarg, Xparameter, Xwaiting, Xdone, Xhole, Xscope, Xplace, Xlocals, Xstack, Xcell, Xparent, Xbodies, Xbinds, Xscopes, Xwhat, Xfirst, Xsecond, Xthird, Xkept) (nI k) (nI s) (nI 1) := by
  rcases hk with e | e | e <;> subst e
  · have : wX_behind_280 P (nI 6) (nI s) (nI 1) xdrafted xspecial xdefined (nI h) xdepth xscoped xcells xclosures xtop xundo xpc xenv xbuffer xtaken xoutcome xrunning xgiven xclosed Xdraft XdraftValues Xop Xarg Xparameter Xwaiting Xdone Xhole Xscope Xplace Xlocals Xstack Xcell Xparent Xbodies Xbinds Xscopes Xwhat Xfirst Xsecond Xthird Xkept := zx_operands 6 (by omega) (br_t (by decide) (zx_emit (k := 6) hh (by omega) H))
    exact br_f (by decide) (br_f (by decide) (br_f (by decide) (br_f (by decide) (br_f (by decide) (br_f (by decide) (br_t (by decide) this))))))
  · have : wX_behind_280 P (nI 13) (nI s) (nI 1) xdrafted xspecial xdefined (nI h) xdepth xscoped xcells xclosures xtop xundo xpc xenv xbuffer xtaken xoutcome xrunning xgiven xclosed Xdraft XdraftValues Xop Xarg Xparameter Xwaiting Xdone Xhole Xscope Xplace Xlocals Xstack Xcell Xparent Xbodies Xbinds Xscopes Xwhat Xfirst Xsecond Xthird Xkept := zx_operands 13 (by omega) (br_t (by decide) (zx_emit (k := 13) hh (by omega) H))
    exact br_f (by decide) (br_f (by decide) (br_f (by decide) (br_f (by decide) (br_f (by decide) (br_f (by decide) (br_f (by decide) (br_f (by decide) (br_f (by decide) (br_f (by decide) (br_f (by decide) (br_f (by decide) (br_f (by decide) (br_t (by decide) this)))))))))))))
  · have : wX_behind_280 P (nI 17) (nI s) (nI 1) xdrafted xspecial xdefined (nI h) xdepth xscoped xcells xclosures xtop xundo xpc xenv xbuffer xtaken xoutcome xrunning xgiven xclosed Xdraft XdraftValues Xop Xarg Xparameter Xwaiting Xdone Xhole Xscope Xplace Xlocals Xstack Xcell Xparent Xbodies Xbinds Xscopes Xwhat Xfirst Xsecond Xthird Xkept := zx_operands 17 (by omega) (br_t (by decide) (zx_emit (k := 17) hh (by omega) H))
    exact br_f (by decide) (br_t (by decide) this)
theorem zx_behind_2a {h k : Nat} {v : Int32} (hk : k = 5 ∨ k = 9 ∨ k = 10 ∨ k = 11) (H : P (xdrafted, xspecial, xdefined, nI h, xdepth, xscoped, xcells, xclosures, xtop, xundo, xpc, xenv, xbuffer, xtaken, xoutcome, xrunning, xgiven, xclosed, Xdraft, XdraftValues, Xop, Xarg, Xparameter, Xwaiting, Xdone, Xhole, Xscope, Xplace, Xlocals, Xstack, Xcell, Xparent, Xbodies, Xbinds, Xscopes, Xwhat, Xfirst, Xsecond, Xthird, Xkept)) : wpX_behind P (xdrafted, xspecial, xdefined, nI h, xdepth, xscoped, xcells, xclosures, xtop, xundo, xpc, xenv, xbuffer, xtaken, xoutcome, xrunning, xgiven, xclosed, Xdraft, XdraftValues, Xop, Xarg, Xparameter, Xwaiting, Xdone, Xhole, Xscope, Xplace, Xlocals, Xstack, Xcell, Xparent, Xbodies, Xbinds, Xscopes, Xwhat, Xfirst, Xsecond, Xthird, Xkept) (nI k) v (nI 1) := by
  rcases hk with e | e | e | e <;> subst e
  · exact br_f (by decide) (br_f (by decide) (br_f (by decide) (br_f (by decide) (br_f (by decide) (br_t (by decide) (show wX_behind_280 P (nI 5) v (nI 1) xdrafted xspecial xdefined (nI h) xdepth xscoped xcells xclosures xtop xundo xpc xenv xbuffer xtaken xoutcome xrunning xgiven xclosed Xdraft XdraftValues Xop Xarg Xparameter Xwaiting Xdone Xhole Xscope Xplace Xlocals Xstack Xcell Xparent Xbodies Xbinds Xscopes Xwhat Xfirst Xsecond Xthird Xkept from zx_operands 5 (by omega) (br_f (by decide) H)))))))
  · exact br_f (by decide) (br_f (by decide) (br_f (by decide) (br_f (by decide) (br_f (by decide) (br_f (by decide) (br_f (by decide) (br_f (by decide) (br_f (by decide) (br_t (by decide) (show wX_behind_280 P (nI 9) v (nI 1) xdrafted xspecial xdefined (nI h) xdepth xscoped xcells xclosures xtop xundo xpc xenv xbuffer xtaken xoutcome xrunning xgiven xclosed Xdraft XdraftValues Xop Xarg Xparameter Xwaiting Xdone Xhole Xscope Xplace Xlocals Xstack Xcell Xparent Xbodies Xbinds Xscopes Xwhat Xfirst Xsecond Xthird Xkept from zx_operands 9 (by omega) (br_f (by decide) H)))))))))))
  · exact br_f (by decide) (br_f (by decide) (br_f (by decide) (br_f (by decide) (br_f (by decide) (br_f (by decide) (br_f (by decide) (br_f (by decide) (br_f (by decide) (br_f (by decide) (br_t (by decide) (show wX_behind_280 P (nI 10) v (nI 1) xdrafted xspecial xdefined (nI h) xdepth xscoped xcells xclosures xtop xundo xpc xenv xbuffer xtaken xoutcome xrunning xgiven xclosed Xdraft XdraftValues Xop Xarg Xparameter Xwaiting Xdone Xhole Xscope Xplace Xlocals Xstack Xcell Xparent Xbodies Xbinds Xscopes Xwhat Xfirst Xsecond Xthird Xkept from zx_operands 10 (by omega) (br_f (by decide) H))))))))))))
  · exact br_f (by decide) (br_f (by decide) (br_f (by decide) (br_f (by decide) (br_f (by decide) (br_f (by decide) (br_f (by decide) (br_f (by decide) (br_f (by decide) (br_f (by decide) (br_f (by decide) (br_t (by decide) (show wX_behind_280 P (nI 11) v (nI 1) xdrafted xspecial xdefined (nI h) xdepth xscoped xcells xclosures xtop xundo xpc xenv xbuffer xtaken xoutcome xrunning xgiven xclosed Xdraft XdraftValues Xop Xarg Xparameter Xwaiting Xdone Xhole Xscope Xplace Xlocals Xstack Xcell Xparent Xbodies Xbinds Xscopes Xwhat Xfirst Xsecond Xthird Xkept from zx_operands 11 (by omega) (br_f (by decide) H)))))))))))))
theorem zx_behind_2b {h k : Nat} {v : Int32} (hk : k = 5 ∨ k = 9 ∨ k = 10 ∨ k = 11) (hh : h < 1280) (H : P (xdrafted, xspecial, xdefined, nI (h + 1), xdepth, xscoped, xcells, xclosures, xtop, xundo, xpc, xenv, xbuffer, xtaken, xoutcome, xrunning, xgiven, xclosed, Xdraft, XdraftValues, upd Xop h (nI k), upd Xarg h v, Xparameter, Xwaiting, Xdone, Xhole, Xscope, Xplace, Xlocals, Xstack, Xcell, Xparent, Xbodies, Xbinds, Xscopes, Xwhat, Xfirst, Xsecond, Xthird, Xkept)) : wpX_behind P (xdrafted, xspecial, xdefined, nI h, xdepth, xscoped, xcells, xclosures, xtop, xundo, xpc, xenv, xbuffer, xtaken, xoutcome, xrunning, xgiven, xclosed, Xdraft, XdraftValues, Xop, Xarg, Xparameter, Xwaiting, Xdone, Xhole, Xscope, Xplace, Xlocals, Xstack, Xcell, Xparent, Xbodies, Xbinds, Xscopes, Xwhat, Xfirst, Xsecond, Xthird, Xkept) (nI k) v (nI 2) := by
  rcases hk with e | e | e | e <;> subst e
  · exact br_f (by decide) (br_f (by decide) (br_f (by decide) (br_f (by decide) (br_f (by decide) (br_t (by decide) (show wX_behind_280 P (nI 5) v (nI 2) xdrafted xspecial xdefined (nI h) xdepth xscoped xcells xclosures xtop xundo xpc xenv xbuffer xtaken xoutcome xrunning xgiven xclosed Xdraft XdraftValues Xop Xarg Xparameter Xwaiting Xdone Xhole Xscope Xplace Xlocals Xstack Xcell Xparent Xbodies Xbinds Xscopes Xwhat Xfirst Xsecond Xthird Xkept from zx_operands 5 (by omega) (br_t (by decide) (zx_emit (k := 5) hh (by omega) H))))))))
  · exact br_f (by decide) (br_f (by decide) (br_f (by decide) (br_f (by decide) (br_f (by decide) (br_f (by decide) (br_f (by decide) (br_f (by decide) (br_f (by decide) (br_t (by decide) (show wX_behind_280 P (nI 9) v (nI 2) xdrafted xspecial xdefined (nI h) xdepth xscoped xcells xclosures xtop xundo xpc xenv xbuffer xtaken xoutcome xrunning xgiven xclosed Xdraft XdraftValues Xop Xarg Xparameter Xwaiting Xdone Xhole Xscope Xplace Xlocals Xstack Xcell Xparent Xbodies Xbinds Xscopes Xwhat Xfirst Xsecond Xthird Xkept from zx_operands 9 (by omega) (br_t (by decide) (zx_emit (k := 9) hh (by omega) H))))))))))))
  · exact br_f (by decide) (br_f (by decide) (br_f (by decide) (br_f (by decide) (br_f (by decide) (br_f (by decide) (br_f (by decide) (br_f (by decide) (br_f (by decide) (br_f (by decide) (br_t (by decide) (show wX_behind_280 P (nI 10) v (nI 2) xdrafted xspecial xdefined (nI h) xdepth xscoped xcells xclosures xtop xundo xpc xenv xbuffer xtaken xoutcome xrunning xgiven xclosed Xdraft XdraftValues Xop Xarg Xparameter Xwaiting Xdone Xhole Xscope Xplace Xlocals Xstack Xcell Xparent Xbodies Xbinds Xscopes Xwhat Xfirst Xsecond Xthird Xkept from zx_operands 10 (by omega) (br_t (by decide) (zx_emit (k := 10) hh (by omega) H)))))))))))))
  · exact br_f (by decide) (br_f (by decide) (br_f (by decide) (br_f (by decide) (br_f (by decide) (br_f (by decide) (br_f (by decide) (br_f (by decide) (br_f (by decide) (br_f (by decide) (br_f (by decide) (br_t (by decide) (show wX_behind_280 P (nI 11) v (nI 2) xdrafted xspecial xdefined (nI h) xdepth xscoped xcells xclosures xtop xundo xpc xenv xbuffer xtaken xoutcome xrunning xgiven xclosed Xdraft XdraftValues Xop Xarg Xparameter Xwaiting Xdone Xhole Xscope Xplace Xlocals Xstack Xcell Xparent Xbodies Xbinds Xscopes Xwhat Xfirst Xsecond Xthird Xkept from zx_operands 11 (by omega) (br_t (by decide) (zx_emit (k := 11) hh (by omega) H))))))))))))))
theorem zx_behind_s {S : Nat → Int32} {h s : Nat} {sc : List Nat} (hS : zz_SP xspecial S) (hs : s < 8) (hl : sc.length ≤ 49) (hr : zz_R Xscope nI sc) (hb : ∀ x, x ∈ sc → x < 8) (hh : h < 1280) (H : P (xdrafted, xspecial, xdefined, nI (h + 1), xdepth, nI sc.length, xcells, xclosures, xtop, xundo, xpc, xenv, xbuffer, xtaken, xoutcome, xrunning, xgiven, xclosed, Xdraft, XdraftValues, upd Xop h (zz_rc S (nI 32) (nI 2) s sc).1, upd Xarg h (zz_rc S (nI 32) (nI 2) s sc).2, Xparameter, Xwaiting, Xdone, Xhole, Xscope, Xplace, Xlocals, Xstack, Xcell, Xparent, Xbodies, Xbinds, Xscopes, Xwhat, Xfirst, Xsecond, Xthird, Xkept)) : wpX_behind P (xdrafted, xspecial, xdefined, nI h, xdepth, nI sc.length, xcells, xclosures, xtop, xundo, xpc, xenv, xbuffer, xtaken, xoutcome, xrunning, xgiven, xclosed, Xdraft, XdraftValues, Xop, Xarg, Xparameter, Xwaiting, Xdone, Xhole, Xscope, Xplace, Xlocals, Xstack, Xcell, Xparent, Xbodies, Xbinds, Xscopes, Xwhat, Xfirst, Xsecond, Xthird, Xkept) (nI 2) (nI s) (nI 1) :=
  br_f (by decide) (br_f (by decide) (br_t (by decide) (zx_reach (near := 32) (far := 2) hS hs hh (by omega) (by omega) hl hr hb H)))
theorem zx_behind_l1 {S : Nat → Int32} {h s : Nat} {sc : List Nat} (hS : zz_SP xspecial S) (hs : s < 8) (hh : h < 1280) (hn : sc.length < 49)
    (H : P (xdrafted, xspecial, xdefined, nI (h + 1), xdepth, nI (zz_ex S s sc).length, xcells, xclosures, xtop, xundo, xpc, xenv, xbuffer, xtaken, xoutcome, xrunning, xgiven, xclosed, Xdraft, XdraftValues, upd Xop h (nI 21), upd Xarg h (nI s), Xparameter, Xwaiting, Xdone, Xhole, zz_xs S s sc.length Xscope, Xplace, Xlocals, Xstack, Xcell, Xparent, Xbodies, Xbinds, Xscopes, Xwhat, Xfirst, Xsecond, Xthird, Xkept)) : wpX_behind P (xdrafted, xspecial, xdefined, nI h, xdepth, nI sc.length, xcells, xclosures, xtop, xundo, xpc, xenv, xbuffer, xtaken, xoutcome, xrunning, xgiven, xclosed, Xdraft, XdraftValues, Xop, Xarg, Xparameter, Xwaiting, Xdone, Xhole, Xscope, Xplace, Xlocals, Xstack, Xcell, Xparent, Xbodies, Xbinds, Xscopes, Xwhat, Xfirst, Xsecond, Xthird, Xkept) (nI 3) (nI s) (nI 1) := by
  refine br_f (by decide) (br_f (by decide) (br_f (by decide) (br_t (by decide) (br_t (by decide) ?_))))
  unfold wX_behind_100
  refine zx_emit (k := 21) hh (by omega) ?_
  refine zx_isSp hS hs (fun z => br_f (by decide) ?_) (fun z => br_t rfl (br_t (by decide) (nm_r (e' := nI (sc.length + 1)) (nI_1 _) (And.intro (vp_in_nI hn (by omega)) (nm_r (e' := upd Xscope sc.length (nI s)) ?_ ?_)))))
  · unfold wX_behind_135
    rw [zz_ex, zz_xs, if_neg z, if_neg z] at H
    exact zx_isSp hS hs (fun z => br_f (by decide) H) (fun w => absurd w z)
  · rw [nI_clamp (by omega), zz_vb (by omega)]
  · unfold wX_behind_135
    rw [zz_ex, zz_xs, if_pos z, if_pos z] at H
    exact zx_isSp hS hs (fun w => absurd z w) (fun w => br_t rfl (br_f (by decide) H))
theorem zx_behind_l2 {S : Nat → Int32} {h s : Nat} {sc : List Nat} (hS : zz_SP xspecial S) (hs : s < 8) (hh : h < 1280)
    (H : P (xdrafted, xspecial, xdefined, nI (h + 1), xdepth, nI sc.length, xcells, xclosures, xtop, xundo, xpc, xenv, xbuffer, xtaken, xoutcome, xrunning, xgiven, xclosed, Xdraft, XdraftValues, upd Xop h (nI 22), upd Xarg h (nI s), Xparameter, Xwaiting, Xdone, Xhole, Xscope, Xplace, Xlocals, Xstack, Xcell, Xparent, Xbodies, Xbinds, Xscopes, Xwhat, Xfirst, Xsecond, Xthird, Xkept)) : wpX_behind P (xdrafted, xspecial, xdefined, nI h, xdepth, nI (zz_ex S s sc).length, xcells, xclosures, xtop, xundo, xpc, xenv, xbuffer, xtaken, xoutcome, xrunning, xgiven, xclosed, Xdraft, XdraftValues, Xop, Xarg, Xparameter, Xwaiting, Xdone, Xhole, Xscope, Xplace, Xlocals, Xstack, Xcell, Xparent, Xbodies, Xbinds, Xscopes, Xwhat, Xfirst, Xsecond, Xthird, Xkept) (nI 3) (nI s) (nI 2) := by
  refine br_f (by decide) (br_f (by decide) (br_f (by decide) (br_t (by decide) (br_f (by decide) ?_))))
  unfold wX_behind_100
  refine zx_emit (k := 22) hh (by omega) ?_
  refine zx_isSp hS hs (fun z => br_f (by decide) ?_) (fun z => br_t rfl (br_f (by decide) ?_))
  · unfold wX_behind_135
    rw [zz_ex, if_neg z]
    exact zx_isSp hS hs (fun z => br_f (by decide) H) (fun w => absurd w z)
  · unfold wX_behind_135
    rw [zz_ex, if_pos z]
    exact zx_isSp hS hs (fun w => absurd z w) (fun w => br_t rfl (br_t (by decide) (nm_r (e' := nI sc.length) (nI_pred _) H)))
theorem zx_behind_4 {S : Nat → Int32} {h s d q x : Nat} {sc : List Nat} (hS : zz_SP xspecial S) (hs : s < 8) (hh : h + 1 < 1280) (hd : d < 48) (hq : Xhole d = nI q) (hq2 : q < h) (hx : Xarg q = nI x) (hx2 : x < 65536)
    (H : P (xdrafted, xspecial, xdefined, nI (h + 1), nI (d + 1), nI sc.length, xcells, xclosures, xtop, xundo, xpc, xenv, xbuffer, xtaken, xoutcome, xrunning, xgiven, xclosed, Xdraft, XdraftValues, upd Xop h (nI 24), upd (upd Xarg h 0) q (nI (x + (h + 1 + 0) * 65536)), Xparameter, Xwaiting, Xdone, Xhole, Xscope, Xplace, Xlocals, Xstack, Xcell, Xparent, Xbodies, Xbinds, Xscopes, Xwhat, Xfirst, Xsecond, Xthird, Xkept)) : wpX_behind P (xdrafted, xspecial, xdefined, nI h, nI (d + 1), nI (zz_ex S s sc).length, xcells, xclosures, xtop, xundo, xpc, xenv, xbuffer, xtaken, xoutcome, xrunning, xgiven, xclosed, Xdraft, XdraftValues, Xop, Xarg, Xparameter, Xwaiting, Xdone, Xhole, Xscope, Xplace, Xlocals, Xstack, Xcell, Xparent, Xbodies, Xbinds, Xscopes, Xwhat, Xfirst, Xsecond, Xthird, Xkept) (nI 4) (nI s) (nI 1) := by
  refine br_f (by decide) (br_f (by decide) (br_f (by decide) (br_f (by decide) (br_t (by decide) ?_))))
  refine zx_emit (k := 24) (by omega) (by omega) ?_
  refine zx_fill (a := 0) (by omega) hd hq (by omega) ((pk_un (by omega)).trans hx) hx2 ?_
  refine zx_isSp hS hs (fun z => br_f (by decide) ?_) (fun z => br_t rfl (nm_r (e' := nI sc.length) ?_ H))
  · rw [zz_ex, if_neg z]; exact H
  · rw [zz_ex, if_pos z]; exact nI_pred _
theorem zx_behind_7a {h : Nat} {v : Int32} (hh : h < 1280) (H : P (xdrafted, xspecial, xdefined, nI (h + 1), xdepth, xscoped, xcells, xclosures, xtop, xundo, xpc, xenv, xbuffer, xtaken, xoutcome, xrunning, xgiven, xclosed, Xdraft, XdraftValues, upd Xop h (nI 30), upd Xarg h 0, Xparameter, Xwaiting, Xdone, Xhole, Xscope, Xplace, Xlocals, Xstack, Xcell, Xparent, Xbodies, Xbinds, Xscopes, Xwhat, Xfirst, Xsecond, Xthird, Xkept)) : wpX_behind P (xdrafted, xspecial, xdefined, nI h, xdepth, xscoped, xcells, xclosures, xtop, xundo, xpc, xenv, xbuffer, xtaken, xoutcome, xrunning, xgiven, xclosed, Xdraft, XdraftValues, Xop, Xarg, Xparameter, Xwaiting, Xdone, Xhole, Xscope, Xplace, Xlocals, Xstack, Xcell, Xparent, Xbodies, Xbinds, Xscopes, Xwhat, Xfirst, Xsecond, Xthird, Xkept) (nI 7) v (nI 1) := by
  exact br_f (by decide) (br_f (by decide) (br_f (by decide) (br_f (by decide) (br_f (by decide) (br_f (by decide) (br_f (by decide) (br_t (by decide) (br_t (by decide) (zx_emit (k := 30) hh (by omega) H)))))))))
theorem zx_behind_7b {v : Int32} (H : P (xdrafted, xspecial, xdefined, xhere, xdepth, xscoped, xcells, xclosures, xtop, xundo, xpc, xenv, xbuffer, xtaken, xoutcome, xrunning, xgiven, xclosed, Xdraft, XdraftValues, Xop, Xarg, Xparameter, Xwaiting, Xdone, Xhole, Xscope, Xplace, Xlocals, Xstack, Xcell, Xparent, Xbodies, Xbinds, Xscopes, Xwhat, Xfirst, Xsecond, Xthird, Xkept)) : wpX_behind P (xdrafted, xspecial, xdefined, xhere, xdepth, xscoped, xcells, xclosures, xtop, xundo, xpc, xenv, xbuffer, xtaken, xoutcome, xrunning, xgiven, xclosed, Xdraft, XdraftValues, Xop, Xarg, Xparameter, Xwaiting, Xdone, Xhole, Xscope, Xplace, Xlocals, Xstack, Xcell, Xparent, Xbodies, Xbinds, Xscopes, Xwhat, Xfirst, Xsecond, Xthird, Xkept) (nI 7) v (nI 2) := by
  exact br_f (by decide) (br_f (by decide) (br_f (by decide) (br_f (by decide) (br_f (by decide) (br_f (by decide) (br_f (by decide) (br_t (by decide) (br_f (by decide) H))))))))
theorem zx_choose_1 {h d : Nat} (hh : h < 1280) (hd : d < 48) (H : P (xdrafted, xspecial, xdefined, nI (h + 1), nI (d + 1), xscoped, xcells, xclosures, xtop, xundo, xpc, xenv, xbuffer, xtaken, xoutcome, xrunning, xgiven, xclosed, Xdraft, XdraftValues, upd Xop h (nI 8), upd Xarg h 0, Xparameter, Xwaiting, Xdone, upd Xhole d (nI h), Xscope, Xplace, Xlocals, Xstack, Xcell, Xparent, Xbodies, Xbinds, Xscopes, Xwhat, Xfirst, Xsecond, Xthird, Xkept)) : wpX_choose P (xdrafted, xspecial, xdefined, nI h, nI (d + 1), xscoped, xcells, xclosures, xtop, xundo, xpc, xenv, xbuffer, xtaken, xoutcome, xrunning, xgiven, xclosed, Xdraft, XdraftValues, Xop, Xarg, Xparameter, Xwaiting, Xdone, Xhole, Xscope, Xplace, Xlocals, Xstack, Xcell, Xparent, Xbodies, Xbinds, Xscopes, Xwhat, Xfirst, Xsecond, Xthird, Xkept) (nI 1) := by
  have e1 : nI (d + 1) - 1 = nI d := nI_pred d
  refine br_t (by decide) (And.intro (by rw [e1]; exact vp_in_nI hd (by omega)) (nm_r (e' := upd Xhole d (nI h)) ?_ (zx_emit (k := 8) hh (by omega) H)))
  rw [e1, nI_clamp (by omega), zz_vs (by omega)]
theorem zx_choose_2 {h d q x : Nat} (hh : h + 1 < 1280) (hd : d < 48) (hq : Xhole d = nI q) (hq2 : q < 1280) (hx : Xarg q = nI x) (hx2 : x < 65536) (H : P (xdrafted, xspecial, xdefined, nI (h + 1), nI (d + 1), xscoped, xcells, xclosures, xtop, xundo, xpc, xenv, xbuffer, xtaken, xoutcome, xrunning, xgiven, xclosed, Xdraft, XdraftValues, upd Xop h (nI 23), upd (upd Xarg q (nI (x + (h + 1) * 65536))) h 0, Xparameter, Xwaiting, Xdone, upd Xhole d (nI h), Xscope, Xplace, Xlocals, Xstack, Xcell, Xparent, Xbodies, Xbinds, Xscopes, Xwhat, Xfirst, Xsecond, Xthird, Xkept)) : wpX_choose P (xdrafted, xspecial, xdefined, nI h, nI (d + 1), xscoped, xcells, xclosures, xtop, xundo, xpc, xenv, xbuffer, xtaken, xoutcome, xrunning, xgiven, xclosed, Xdraft, XdraftValues, Xop, Xarg, Xparameter, Xwaiting, Xdone, Xhole, Xscope, Xplace, Xlocals, Xstack, Xcell, Xparent, Xbodies, Xbinds, Xscopes, Xwhat, Xfirst, Xsecond, Xthird, Xkept) (nI 2) := by
  have e1 : nI (d + 1) - 1 = nI d := nI_pred d
  refine br_f (by decide) (br_t (by decide) (zx_fill (a := 1) (by omega) hd hq hq2 hx hx2 ?_))
  refine And.intro (by rw [e1]; exact vp_in_nI hd (by omega)) (nm_r (e' := upd Xhole d (nI h)) ?_ (zx_emit (k := 23) (by omega) (by omega) H))
  rw [e1, nI_clamp (by omega), zz_vs (by omega)]
theorem zx_choose_3 {h d q x : Nat} (hh : h < 1280) (hd : d < 48) (hq : Xhole d = nI q) (hq2 : q < 1280) (hx : Xarg q = nI x) (hx2 : x < 65536) (H : P (xdrafted, xspecial, xdefined, nI h, nI (d + 1), xscoped, xcells, xclosures, xtop, xundo, xpc, xenv, xbuffer, xtaken, xoutcome, xrunning, xgiven, xclosed, Xdraft, XdraftValues, Xop, upd Xarg q (nI (x + (h + 0) * 65536)), Xparameter, Xwaiting, Xdone, Xhole, Xscope, Xplace, Xlocals, Xstack, Xcell, Xparent, Xbodies, Xbinds, Xscopes, Xwhat, Xfirst, Xsecond, Xthird, Xkept)) : wpX_choose P (xdrafted, xspecial, xdefined, nI h, nI (d + 1), xscoped, xcells, xclosures, xtop, xundo, xpc, xenv, xbuffer, xtaken, xoutcome, xrunning, xgiven, xclosed, Xdraft, XdraftValues, Xop, Xarg, Xparameter, Xwaiting, Xdone, Xhole, Xscope, Xplace, Xlocals, Xstack, Xcell, Xparent, Xbodies, Xbinds, Xscopes, Xwhat, Xfirst, Xsecond, Xthird, Xkept) (nI 3) :=
  br_f (by decide) (br_f (by decide) (zx_fill (a := 0) (by omega) hd hq hq2 hx hx2 H))
theorem zx_behind_8 {v : Int32} {n : Nat} (H : wpX_choose P (xdrafted, xspecial, xdefined, xhere, xdepth, xscoped, xcells, xclosures, xtop, xundo, xpc, xenv, xbuffer, xtaken, xoutcome, xrunning, xgiven, xclosed, Xdraft, XdraftValues, Xop, Xarg, Xparameter, Xwaiting, Xdone, Xhole, Xscope, Xplace, Xlocals, Xstack, Xcell, Xparent, Xbodies, Xbinds, Xscopes, Xwhat, Xfirst, Xsecond, Xthird, Xkept) (nI n)) : wpX_behind P (xdrafted, xspecial, xdefined, xhere, xdepth, xscoped, xcells, xclosures, xtop, xundo, xpc, xenv, xbuffer, xtaken, xoutcome, xrunning, xgiven, xclosed, Xdraft, XdraftValues, Xop, Xarg, Xparameter, Xwaiting, Xdone, Xhole, Xscope, Xplace, Xlocals, Xstack, Xcell, Xparent, Xbodies, Xbinds, Xscopes, Xwhat, Xfirst, Xsecond, Xthird, Xkept) (nI 8) v (nI n) := by
  exact br_f (by decide) (br_f (by decide) (br_f (by decide) (br_f (by decide) (br_f (by decide) (br_f (by decide) (br_f (by decide) (br_f (by decide) (br_t (by decide) H))))))))
theorem zx_behind_12 {h d q x : Nat} {v : Int32} (hh : h + 1 < 1280) (hd : d < 48) (hq : Xhole d = nI q) (hq2 : q < h) (hx : Xarg q = nI x) (hx2 : x < 65536) (H : P (xdrafted, xspecial, xdefined, nI (h + 1), nI (d + 1), xscoped, xcells, xclosures, xtop, xundo, xpc, xenv, xbuffer, xtaken, xoutcome, xrunning, xgiven, xclosed, Xdraft, XdraftValues, upd Xop h (nI 26), upd (upd Xarg h 0) q (nI (x + (h + 1 + 0) * 65536)), Xparameter, Xwaiting, Xdone, Xhole, Xscope, Xplace, Xlocals, Xstack, Xcell, Xparent, Xbodies, Xbinds, Xscopes, Xwhat, Xfirst, Xsecond, Xthird, Xkept)) : wpX_behind P (xdrafted, xspecial, xdefined, nI h, nI (d + 1), xscoped, xcells, xclosures, xtop, xundo, xpc, xenv, xbuffer, xtaken, xoutcome, xrunning, xgiven, xclosed, Xdraft, XdraftValues, Xop, Xarg, Xparameter, Xwaiting, Xdone, Xhole, Xscope, Xplace, Xlocals, Xstack, Xcell, Xparent, Xbodies, Xbinds, Xscopes, Xwhat, Xfirst, Xsecond, Xthird, Xkept) (nI 12) v (nI 1) := by
  exact br_f (by decide) (br_f (by decide) (br_f (by decide) (br_f (by decide) (br_f (by decide) (br_f (by decide) (br_f (by decide) (br_f (by decide) (br_f (by decide) (br_f (by decide) (br_f (by decide) (br_f (by decide) (br_t (by decide) (zx_emit (k := 26) (by omega) (by omega) (zx_fill (a := 0) (by omega) hd hq (by omega) ((pk_un (by omega)).trans hx) hx2 H))))))))))))))
theorem zx_att_1 {h d q x : Nat} (hh : h + 2 < 1280) (hd : d < 48) (hq : Xhole d = nI q) (hq2 : q < h) (hx : Xarg q = nI x) (hx2 : x < 65536) (H : P (xdrafted, xspecial, xdefined, nI (h + 1 + 1), nI (d + 1), xscoped, xcells, xclosures, xtop, xundo, xpc, xenv, xbuffer, xtaken, xoutcome, xrunning, xgiven, xclosed, Xdraft, XdraftValues, upd (upd Xop h (nI 26)) (h + 1) (nI 23), upd (upd (upd Xarg h 0) q (nI (x + (h + 1 + 1) * 65536))) (h + 1) 0, Xparameter, Xwaiting, Xdone, upd Xhole d (nI (h + 1)), Xscope, Xplace, Xlocals, Xstack, Xcell, Xparent, Xbodies, Xbinds, Xscopes, Xwhat, Xfirst, Xsecond, Xthird, Xkept)) : wpX_attempted P (xdrafted, xspecial, xdefined, nI h, nI (d + 1), xscoped, xcells, xclosures, xtop, xundo, xpc, xenv, xbuffer, xtaken, xoutcome, xrunning, xgiven, xclosed, Xdraft, XdraftValues, Xop, Xarg, Xparameter, Xwaiting, Xdone, Xhole, Xscope, Xplace, Xlocals, Xstack, Xcell, Xparent, Xbodies, Xbinds, Xscopes, Xwhat, Xfirst, Xsecond, Xthird, Xkept) (nI 1) := by
  have e1 : nI (d + 1) - 1 = nI d := nI_pred d
  refine br_t (by decide) (zx_emit (k := 26) (by omega) (by omega) (zx_fill (a := 1) (by omega) hd hq (by omega) ((pk_un (by omega)).trans hx) hx2 ?_))
  refine And.intro (by rw [e1]; exact vp_in_nI hd (by omega)) (nm_r (e' := upd Xhole d (nI (h + 1))) ?_ (zx_emit (k := 23) (by omega) (by omega) H))
  rw [e1, nI_clamp (by omega), zz_vs (by omega)]
theorem zx_att_2 {h d q x : Nat} (hh : h < 1280) (hd : d < 48) (hq : Xhole d = nI q) (hq2 : q < 1280) (hx : Xarg q = nI x) (hx2 : x < 65536) (H : P (xdrafted, xspecial, xdefined, nI h, nI (d + 1), xscoped, xcells, xclosures, xtop, xundo, xpc, xenv, xbuffer, xtaken, xoutcome, xrunning, xgiven, xclosed, Xdraft, XdraftValues, Xop, upd Xarg q (nI (x + (h + 0) * 65536)), Xparameter, Xwaiting, Xdone, Xhole, Xscope, Xplace, Xlocals, Xstack, Xcell, Xparent, Xbodies, Xbinds, Xscopes, Xwhat, Xfirst, Xsecond, Xthird, Xkept)) : wpX_attempted P (xdrafted, xspecial, xdefined, nI h, nI (d + 1), xscoped, xcells, xclosures, xtop, xundo, xpc, xenv, xbuffer, xtaken, xoutcome, xrunning, xgiven, xclosed, Xdraft, XdraftValues, Xop, Xarg, Xparameter, Xwaiting, Xdone, Xhole, Xscope, Xplace, Xlocals, Xstack, Xcell, Xparent, Xbodies, Xbinds, Xscopes, Xwhat, Xfirst, Xsecond, Xthird, Xkept) (nI 2) :=
  br_f (by decide) (zx_fill (a := 0) (by omega) hd hq hq2 hx hx2 H)
theorem zx_behind_14 {v : Int32} {n : Nat} (H : wpX_attempted P (xdrafted, xspecial, xdefined, xhere, xdepth, xscoped, xcells, xclosures, xtop, xundo, xpc, xenv, xbuffer, xtaken, xoutcome, xrunning, xgiven, xclosed, Xdraft, XdraftValues, Xop, Xarg, Xparameter, Xwaiting, Xdone, Xhole, Xscope, Xplace, Xlocals, Xstack, Xcell, Xparent, Xbodies, Xbinds, Xscopes, Xwhat, Xfirst, Xsecond, Xthird, Xkept) (nI n)) : wpX_behind P (xdrafted, xspecial, xdefined, xhere, xdepth, xscoped, xcells, xclosures, xtop, xundo, xpc, xenv, xbuffer, xtaken, xoutcome, xrunning, xgiven, xclosed, Xdraft, XdraftValues, Xop, Xarg, Xparameter, Xwaiting, Xdone, Xhole, Xscope, Xplace, Xlocals, Xstack, Xcell, Xparent, Xbodies, Xbinds, Xscopes, Xwhat, Xfirst, Xsecond, Xthird, Xkept) (nI 14) v (nI n) := by
  exact br_f (by decide) (br_f (by decide) (br_f (by decide) (br_f (by decide) (br_f (by decide) (br_f (by decide) (br_f (by decide) (br_f (by decide) (br_f (by decide) (br_f (by decide) (br_f (by decide) (br_f (by decide) (br_f (by decide) (br_f (by decide) (br_t (by decide) H))))))))))))))
theorem zx_behind_15a {h d q x : Nat} {v : Int32} (hh : h + 1 < 1280) (hd : d < 48) (hq : Xhole d = nI q) (hq2 : q < 1280) (hx : Xarg q = nI x) (hx2 : x < 65536) (H : P (xdrafted, xspecial, xdefined, nI (h + 1), nI (d + 1), xscoped, xcells, xclosures, xtop, xundo, xpc, xenv, xbuffer, xtaken, xoutcome, xrunning, xgiven, xclosed, Xdraft, XdraftValues, upd Xop h (nI 28), upd (upd Xarg q (nI (x + (h + 1) * 65536))) h 0, Xparameter, Xwaiting, Xdone, Xhole, Xscope, Xplace, Xlocals, Xstack, Xcell, Xparent, Xbodies, Xbinds, Xscopes, Xwhat, Xfirst, Xsecond, Xthird, Xkept)) : wpX_behind P (xdrafted, xspecial, xdefined, nI h, nI (d + 1), xscoped, xcells, xclosures, xtop, xundo, xpc, xenv, xbuffer, xtaken, xoutcome, xrunning, xgiven, xclosed, Xdraft, XdraftValues, Xop, Xarg, Xparameter, Xwaiting, Xdone, Xhole, Xscope, Xplace, Xlocals, Xstack, Xcell, Xparent, Xbodies, Xbinds, Xscopes, Xwhat, Xfirst, Xsecond, Xthird, Xkept) (nI 15) v (nI 1) := by
  have : wX_behind_250 P (nI 1) xdrafted xspecial xdefined (nI h) (nI (d + 1)) xscoped xcells xclosures xtop xundo xpc xenv xbuffer xtaken xoutcome xrunning xgiven xclosed Xdraft XdraftValues Xop (upd Xarg q (nI (x + (h + 1) * 65536))) Xparameter Xwaiting Xdone Xhole Xscope Xplace Xlocals Xstack Xcell Xparent Xbodies Xbinds Xscopes Xwhat Xfirst Xsecond Xthird Xkept := br_t (by decide) (zx_emit (k := 28) (by omega) (by omega) H)
  exact br_f (by decide) (br_f (by decide) (br_f (by decide) (br_f (by decide) (br_f (by decide) (br_f (by decide) (br_f (by decide) (br_f (by decide) (br_f (by decide) (br_f (by decide) (br_f (by decide) (br_f (by decide) (br_f (by decide) (br_f (by decide) (br_f (by decide) (br_t (by decide) (br_t (by decide) (zx_fill (a := 1) (by omega) hd hq hq2 hx hx2 this)))))))))))))))))
theorem zx_behind_15b {h : Nat} {v : Int32} (hh : h < 1280) (H : P (xdrafted, xspecial, xdefined, nI (h + 1), xdepth, xscoped, xcells, xclosures, xtop, xundo, xpc, xenv, xbuffer, xtaken, xoutcome, xrunning, xgiven, xclosed, Xdraft, XdraftValues, upd Xop h (nI 29), upd Xarg h 0, Xparameter, Xwaiting, Xdone, Xhole, Xscope, Xplace, Xlocals, Xstack, Xcell, Xparent, Xbodies, Xbinds, Xscopes, Xwhat, Xfirst, Xsecond, Xthird, Xkept)) : wpX_behind P (xdrafted, xspecial, xdefined, nI h, xdepth, xscoped, xcells, xclosures, xtop, xundo, xpc, xenv, xbuffer, xtaken, xoutcome, xrunning, xgiven, xclosed, Xdraft, XdraftValues, Xop, Xarg, Xparameter, Xwaiting, Xdone, Xhole, Xscope, Xplace, Xlocals, Xstack, Xcell, Xparent, Xbodies, Xbinds, Xscopes, Xwhat, Xfirst, Xsecond, Xthird, Xkept) (nI 15) v (nI 2) := by
  have : wX_behind_250 P (nI 2) xdrafted xspecial xdefined (nI h) xdepth xscoped xcells xclosures xtop xundo xpc xenv xbuffer xtaken xoutcome xrunning xgiven xclosed Xdraft XdraftValues Xop Xarg Xparameter Xwaiting Xdone Xhole Xscope Xplace Xlocals Xstack Xcell Xparent Xbodies Xbinds Xscopes Xwhat Xfirst Xsecond Xthird Xkept := br_f (by decide) (zx_emit (k := 29) (by omega) (by omega) H)
  exact br_f (by decide) (br_f (by decide) (br_f (by decide) (br_f (by decide) (br_f (by decide) (br_f (by decide) (br_f (by decide) (br_f (by decide) (br_f (by decide) (br_f (by decide) (br_f (by decide) (br_f (by decide) (br_f (by decide) (br_f (by decide) (br_f (by decide) (br_t (by decide) (br_f (by decide) this))))))))))))))))
theorem zx_behind_16 {h : Nat} {v : Int32} (hh : h < 1280) (H : P (xdrafted, xspecial, xdefined, nI (h + 1), xdepth, xscoped, xcells, xclosures, xtop, xundo, xpc, xenv, xbuffer, xtaken, xoutcome, xrunning, xgiven, xclosed, Xdraft, XdraftValues, upd Xop h (nI 34), upd Xarg h 0, Xparameter, Xwaiting, Xdone, Xhole, Xscope, Xplace, Xlocals, Xstack, Xcell, Xparent, Xbodies, Xbinds, Xscopes, Xwhat, Xfirst, Xsecond, Xthird, Xkept)) : wpX_behind P (xdrafted, xspecial, xdefined, nI h, xdepth, xscoped, xcells, xclosures, xtop, xundo, xpc, xenv, xbuffer, xtaken, xoutcome, xrunning, xgiven, xclosed, Xdraft, XdraftValues, Xop, Xarg, Xparameter, Xwaiting, Xdone, Xhole, Xscope, Xplace, Xlocals, Xstack, Xcell, Xparent, Xbodies, Xbinds, Xscopes, Xwhat, Xfirst, Xsecond, Xthird, Xkept) (nI 16) v (nI 1) := by
  exact br_f (by decide) (br_f (by decide) (br_f (by decide) (br_f (by decide) (br_f (by decide) (br_f (by decide) (br_f (by decide) (br_f (by decide) (br_f (by decide) (br_f (by decide) (br_f (by decide) (br_f (by decide) (br_f (by decide) (br_f (by decide) (br_f (by decide) (br_f (by decide) (br_t (by decide) (zx_emit (k := 34) hh (by omega) H)))))))))))))))))
end
end
section
theorem zz_PEz {kd : Nat → Nat} {E : Nat → Int32} {B n a b : Nat} (h : zz_PE kd E B n 0 a b) : a = b := by
  cases n with
  | zero => exact h.2
  | succ n =>
    rcases h with h | ⟨m', c, h1, _⟩
    · exact h.2
    · omega
theorem zz_PEm {kd : Nat → Nat} {E : Nat → Int32} {B : Nat} : ∀ n n' m a b, n ≤ n' → zz_PE kd E B n m a b → zz_PE kd E B n' m a b := by
  intro n
  induction n with
  | zero =>
    intro n' m a b _ h
    cases n' with
    | zero => exact h
    | succ n' => exact Or.inl h
  | succ n ih =>
    intro n' m a b hn h
    cases n' with
    | zero => omega
    | succ n' =>
      rcases h with h | ⟨m', c, h1, h2, h3, h4⟩
      · exact Or.inl h
      · exact Or.inr ⟨m', c, h1, h2, ih _ _ _ _ (by omega) h3, ih _ _ _ _ (by omega) h4⟩
theorem zz_PEs {kd : Nat → Nat} {E : Nat → Int32} {B n m a b : Nat} (h : zz_PE kd E B n (m + 1) a b) : ∃ n' c, n = n' + 1 ∧ E (B + a) = nI (B + c) ∧ zz_PE kd E B n' (zz_op (kd a)) (a + 1) c ∧ zz_PE kd E B n' m c b := by
  cases n with
  | zero => have := h.1; omega
  | succ n =>
    rcases h with h | ⟨m', c, h1, h2, h3, h4⟩
    · omega
    · have e : m = m' := by omega
      subst e
      exact ⟨n, c, rfl, h2, h3, h4⟩
theorem zz_PE1 {kd : Nat → Nat} {E : Nat → Int32} {B n a b : Nat} (h : zz_PE kd E B n 1 a b) : ∃ n', n = n' + 1 ∧ zz_PE kd E B n' (zz_op (kd a)) (a + 1) b := by
  obtain ⟨n', c, e, _, h1, h2⟩ := zz_PEs h
  have := zz_PEz h2
  subst this
  exact ⟨n', e, h1⟩
theorem zz_PE2 {kd : Nat → Nat} {E : Nat → Int32} {B n a b : Nat} (h : zz_PE kd E B n 2 a b) : ∃ n' c, n = n' + 1 ∧ E (B + a) = nI (B + c) ∧ zz_PE kd E B n' (zz_op (kd a)) (a + 1) c ∧ zz_PE kd E B n' (zz_op (kd c)) (c + 1) b := by
  obtain ⟨n', c, e, h1, h2, h3⟩ := zz_PEs h
  obtain ⟨n'', e2, h4⟩ := zz_PE1 h3
  exact ⟨n', c, e, h1, h2, zz_PEm _ _ _ _ _ (by omega) h4⟩
theorem zz_PE3 {kd : Nat → Nat} {E : Nat → Int32} {B n a b : Nat} (h : zz_PE kd E B n 3 a b) : ∃ n' c c', n = n' + 1 ∧ E (B + a) = nI (B + c) ∧ E (B + c) = nI (B + c') ∧ zz_PE kd E B n' (zz_op (kd a)) (a + 1) c ∧ zz_PE kd E B n' (zz_op (kd c)) (c + 1) c' ∧ zz_PE kd E B n' (zz_op (kd c')) (c' + 1) b := by
  obtain ⟨n', c, e, h1, h2, h3⟩ := zz_PEs h
  obtain ⟨n'', c', e2, h4, h5, h6⟩ := zz_PE2 h3
  exact ⟨n', c, c', e, h1, h4, h2, zz_PEm _ _ _ _ _ (by omega) h5, zz_PEm _ _ _ _ _ (by omega) h6⟩
def zc_X (op ar wa dn ho op' ar' wa' dn' ho' : Nat → Int32) (h e d : Nat) : Prop := (∀ i, i < h ∨ e ≤ i → op' i = op i ∧ ar' i = ar i) ∧ (∀ i, i < d → wa' i = wa i ∧ dn' i = dn i ∧ ho' i = ho i)
def zc_V (k : Nat) (v : Int32) : Prop := 0 < zz_lm k → ∃ s, s < zz_lm k ∧ v = nI s
def zc_D (kd : Nat → Nat) (K N E S Xdraft XdraftValues : Nat → Int32) (xspecial : Int32) (r dr : Nat) : Prop := r < 5 ∧ dr ≤ 48 ∧ zz_SP xspecial S ∧ ∀ j, j < dr → Xdraft j = nI (kd j) ∧ kd j < 19 ∧ K (48 * r + j) = nI (kd j) ∧ N (48 * r + j) = XdraftValues j ∧ zc_V (kd j) (XdraftValues j)
section
variable {xdrafted xspecial xdefined xhere xdepth xscoped xcells xclosures xtop xundo xpc xenv xbuffer xtaken xoutcome xrunning xclosed : Int32} {xgiven : Int64} {Xdraft XdraftValues Xop Xarg Xparameter Xwaiting Xdone Xhole Xscope Xlocals Xparent Xbodies Xbinds Xscopes Xwhat Xfirst Xsecond Xthird : Nat → Int32} {Xplace Xstack Xcell Xkept : Nat → Int64} {kd : Nat → Nat} {K N E S : Nat → Int32} {r dr : Nat}
theorem zc_0 (hD : zc_D kd K N E S Xdraft XdraftValues xspecial r dr) {n j jl h d : Nat} {sc : List Nat} {op ar wa dn ho so : Nat → Int32} (hPE : zz_PE kd E (48 * r) n (zz_op (kd j)) (j + 1) (jl + 1)) (hjl : jl < dr) (hR : zz_R so nI sc) (hB : ∀ x, x ∈ sc → x < 8) (hh : 256 * r ≤ h) (hh2 : h + 4 * (jl + 1 - j) < 256 * r + 256) (hd : d + (jl + 1 - j) ≤ 48) (hl : sc.length + (jl + 1 - j) ≤ 49) (ek : kd j = 0) : ∃ (e : Nat) (op' ar' wa' dn' ho' so' : Nat → Int32), zz_CD op' ar' K N E S r (n + 1) (48 * r + j) h e sc ∧ e ≤ h + 4 * (jl + 1 - j) ∧ zc_X op ar wa dn ho op' ar' wa' dn' ho' h e d ∧ zz_R so' nI sc ∧ ∀ (post : SX → Prop) (m : Nat), wpX_close (zx_ck post m (nI jl)) (nI dr, xspecial, xdefined, nI (e), nI (d), nI (sc.length), xcells, xclosures, xtop, xundo, xpc, xenv, xbuffer, xtaken, xoutcome, xrunning, xgiven, xclosed, Xdraft, XdraftValues, op', ar', Xparameter, wa', dn', ho', so', Xplace, Xlocals, Xstack, Xcell, Xparent, Xbodies, Xbinds, Xscopes, Xwhat, Xfirst, Xsecond, Xthird, Xkept) → zx_cl post (m + (jl + 1 - j)) (nI j) (nI dr, xspecial, xdefined, nI (h), nI (d), nI (sc.length), xcells, xclosures, xtop, xundo, xpc, xenv, xbuffer, xtaken, xoutcome, xrunning, xgiven, xclosed, Xdraft, XdraftValues, op, ar, Xparameter, wa, dn, ho, so, Xplace, Xlocals, Xstack, Xcell, Xparent, Xbodies, Xbinds, Xscopes, Xwhat, Xfirst, Xsecond, Xthird, Xkept) := by
  obtain ⟨hr, hdr, hS, hT⟩ := hD
  have l0 := zz_PEl _ _ _ _ hPE
  obtain ⟨hk, h19, hK, hN, hV⟩ := hT j (by omega)
  have hop : zz_op (kd j) = 0 := by rw [ek]; decide
  rw [hop] at hPE
  have ej := zz_PEz hPE
  have ej : jl = j := by omega
  subst ej
  rw [ek] at hk h19 hK
  refine ⟨h + 1 + 1, upd (upd op h (nI 20)) (h + 1) (nI 0), upd (upd ar h 0) (h + 1) (XdraftValues jl), wa, dn, ho, so, ?_, by omega, ⟨fun i hi => ⟨?_, ?_⟩, fun i _ => ⟨rfl, rfl, rfl⟩⟩, hR, fun post m HC => ?_⟩
  · refine ⟨⟨by omega, by omega, hh, by omega, by omega⟩, by rw [pk_un (by omega), pk_us]; rfl, Or.inl ⟨hK, by rw [pk_us]; rfl, by rw [pk_us, hN], rfl⟩⟩
  · rw [pk_un (by omega), pk_un (by omega)]
  · rw [pk_un (by omega), pk_un (by omega)]
  · rw [show m + (jl + 1 - jl) = m + 1 from by omega]
    exact zx_cl_0 hjl hdr hk h19 (by decide) (fun Q HQ => zx_begin_0 (by omega) HQ) HC
theorem zc_18 (hD : zc_D kd K N E S Xdraft XdraftValues xspecial r dr) {n j jl h d : Nat} {sc : List Nat} {op ar wa dn ho so : Nat → Int32} (hPE : zz_PE kd E (48 * r) n (zz_op (kd j)) (j + 1) (jl + 1)) (hjl : jl < dr) (hR : zz_R so nI sc) (hB : ∀ x, x ∈ sc → x < 8) (hh : 256 * r ≤ h) (hh2 : h + 4 * (jl + 1 - j) < 256 * r + 256) (hd : d + (jl + 1 - j) ≤ 48) (hl : sc.length + (jl + 1 - j) ≤ 49) (ek : kd j = 18) : ∃ (e : Nat) (op' ar' wa' dn' ho' so' : Nat → Int32), zz_CD op' ar' K N E S r (n + 1) (48 * r + j) h e sc ∧ e ≤ h + 4 * (jl + 1 - j) ∧ zc_X op ar wa dn ho op' ar' wa' dn' ho' h e d ∧ zz_R so' nI sc ∧ ∀ (post : SX → Prop) (m : Nat), wpX_close (zx_ck post m (nI jl)) (nI dr, xspecial, xdefined, nI (e), nI (d), nI (sc.length), xcells, xclosures, xtop, xundo, xpc, xenv, xbuffer, xtaken, xoutcome, xrunning, xgiven, xclosed, Xdraft, XdraftValues, op', ar', Xparameter, wa', dn', ho', so', Xplace, Xlocals, Xstack, Xcell, Xparent, Xbodies, Xbinds, Xscopes, Xwhat, Xfirst, Xsecond, Xthird, Xkept) → zx_cl post (m + (jl + 1 - j)) (nI j) (nI dr, xspecial, xdefined, nI (h), nI (d), nI (sc.length), xcells, xclosures, xtop, xundo, xpc, xenv, xbuffer, xtaken, xoutcome, xrunning, xgiven, xclosed, Xdraft, XdraftValues, op, ar, Xparameter, wa, dn, ho, so, Xplace, Xlocals, Xstack, Xcell, Xparent, Xbodies, Xbinds, Xscopes, Xwhat, Xfirst, Xsecond, Xthird, Xkept) := by
  obtain ⟨hr, hdr, hS, hT⟩ := hD
  have l0 := zz_PEl _ _ _ _ hPE
  obtain ⟨hk, h19, hK, hN, hV⟩ := hT j (by omega)
  have hop : zz_op (kd j) = 0 := by rw [ek]; decide
  rw [hop] at hPE
  have ej := zz_PEz hPE
  have ej : jl = j := by omega
  subst ej
  rw [ek] at hk h19 hK
  refine ⟨h + 1 + 1, upd (upd op h (nI 20)) (h + 1) (nI 18), upd (upd ar h 0) (h + 1) 0, wa, dn, ho, so, ?_, by omega, ⟨fun i hi => ⟨?_, ?_⟩, fun i _ => ⟨rfl, rfl, rfl⟩⟩, hR, fun post m HC => ?_⟩
  · refine ⟨⟨by omega, by omega, hh, by omega, by omega⟩, by rw [pk_un (by omega), pk_us]; rfl, Or.inr (Or.inr (Or.inl ⟨hK, by rw [pk_us]; rfl, rfl⟩))⟩
  · rw [pk_un (by omega), pk_un (by omega)]
  · rw [pk_un (by omega), pk_un (by omega)]
  · rw [show m + (jl + 1 - jl) = m + 1 from by omega]
    exact zx_cl_0 hjl hdr hk h19 (by decide) (fun Q HQ => zx_begin_18 (by omega) HQ) HC
theorem zc_1 (hD : zc_D kd K N E S Xdraft XdraftValues xspecial r dr) {n j jl h d : Nat} {sc : List Nat} {op ar wa dn ho so : Nat → Int32} (hPE : zz_PE kd E (48 * r) n (zz_op (kd j)) (j + 1) (jl + 1)) (hjl : jl < dr) (hR : zz_R so nI sc) (hB : ∀ x, x ∈ sc → x < 8) (hh : 256 * r ≤ h) (hh2 : h + 4 * (jl + 1 - j) < 256 * r + 256) (hd : d + (jl + 1 - j) ≤ 48) (hl : sc.length + (jl + 1 - j) ≤ 49) (ek : kd j = 1) : ∃ (e : Nat) (op' ar' wa' dn' ho' so' : Nat → Int32), zz_CD op' ar' K N E S r (n + 1) (48 * r + j) h e sc ∧ e ≤ h + 4 * (jl + 1 - j) ∧ zc_X op ar wa dn ho op' ar' wa' dn' ho' h e d ∧ zz_R so' nI sc ∧ ∀ (post : SX → Prop) (m : Nat), wpX_close (zx_ck post m (nI jl)) (nI dr, xspecial, xdefined, nI (e), nI (d), nI (sc.length), xcells, xclosures, xtop, xundo, xpc, xenv, xbuffer, xtaken, xoutcome, xrunning, xgiven, xclosed, Xdraft, XdraftValues, op', ar', Xparameter, wa', dn', ho', so', Xplace, Xlocals, Xstack, Xcell, Xparent, Xbodies, Xbinds, Xscopes, Xwhat, Xfirst, Xsecond, Xthird, Xkept) → zx_cl post (m + (jl + 1 - j)) (nI j) (nI dr, xspecial, xdefined, nI (h), nI (d), nI (sc.length), xcells, xclosures, xtop, xundo, xpc, xenv, xbuffer, xtaken, xoutcome, xrunning, xgiven, xclosed, Xdraft, XdraftValues, op, ar, Xparameter, wa, dn, ho, so, Xplace, Xlocals, Xstack, Xcell, Xparent, Xbodies, Xbinds, Xscopes, Xwhat, Xfirst, Xsecond, Xthird, Xkept) := by
  obtain ⟨hr, hdr, hS, hT⟩ := hD
  have l0 := zz_PEl _ _ _ _ hPE
  obtain ⟨hk, h19, hK, hN, hV⟩ := hT j (by omega)
  have hop : zz_op (kd j) = 0 := by rw [ek]; decide
  rw [hop] at hPE
  have ej := zz_PEz hPE
  have ej : jl = j := by omega
  subst ej
  rw [ek] at hk h19 hK
  obtain ⟨s, hs, es⟩ := hV (by rw [ek]; decide)
  have hs : s < 8 := by rw [ek] at hs; exact hs
  refine ⟨h + 1 + 1, upd (upd op h (nI 20)) (h + 1) (zz_rc S (nI 31) (nI 1) s sc).1, upd (upd ar h 0) (h + 1) (zz_rc S (nI 31) (nI 1) s sc).2, wa, dn, ho, so, ?_, by omega, ⟨fun i hi => ⟨?_, ?_⟩, fun i _ => ⟨rfl, rfl, rfl⟩⟩, hR, fun post m HC => ?_⟩
  · refine ⟨⟨by omega, by omega, hh, by omega, by omega⟩, by rw [pk_un (by omega), pk_us]; rfl, Or.inr (Or.inl ⟨hK, s, hs, by rw [hN, es], ⟨by rw [pk_us]; rfl, by rw [pk_us]; rfl⟩, rfl⟩)⟩
  · rw [pk_un (by omega), pk_un (by omega)]
  · rw [pk_un (by omega), pk_un (by omega)]
  · rw [show m + (jl + 1 - jl) = m + 1 from by omega]
    refine zx_cl_0 hjl hdr hk h19 (by decide) (fun Q HQ => ?_) HC
    rw [es]
    exact zx_begin_1 hS hs (by omega) hR hB (by omega) HQ
/-! one operand -/
theorem zc_2 (hD : zc_D kd K N E S Xdraft XdraftValues xspecial r dr) {n j jl h d : Nat} {sc : List Nat} {op ar wa dn ho so : Nat → Int32} (hPE : zz_PE kd E (48 * r) n (zz_op (kd j)) (j + 1) (jl + 1)) (hjl : jl < dr) (hR : zz_R so nI sc) (hB : ∀ x, x ∈ sc → x < 8) (hh : 256 * r ≤ h) (hh2 : h + 4 * (jl + 1 - j) < 256 * r + 256) (hd : d + (jl + 1 - j) ≤ 48) (hl : sc.length + (jl + 1 - j) ≤ 49) (IH : ∀ n', n' + 1 = n → ∀ (j jl h d : Nat) (sc : List Nat) (op ar wa dn ho so : Nat → Int32), zz_PE kd E (48 * r) (n') (zz_op (kd j)) (j + 1) (jl + 1) → jl < dr → zz_R so nI sc → (∀ x, x ∈ sc → x < 8) → 256 * r ≤ h → h + 4 * (jl + 1 - j) < 256 * r + 256 → d + (jl + 1 - j) ≤ 48 → sc.length + (jl + 1 - j) ≤ 49 → ∃ (e : Nat) (op' ar' wa' dn' ho' so' : Nat → Int32), zz_CD op' ar' K N E S r (n' + 1) (48 * r + j) h e sc ∧ e ≤ h + 4 * (jl + 1 - j) ∧ zc_X op ar wa dn ho op' ar' wa' dn' ho' h e d ∧ zz_R so' nI sc ∧ ∀ (post : SX → Prop) (m : Nat), wpX_close (zx_ck post m (nI jl)) (nI dr, xspecial, xdefined, nI (e), nI (d), nI (sc.length), xcells, xclosures, xtop, xundo, xpc, xenv, xbuffer, xtaken, xoutcome, xrunning, xgiven, xclosed, Xdraft, XdraftValues, op', ar', Xparameter, wa', dn', ho', so', Xplace, Xlocals, Xstack, Xcell, Xparent, Xbodies, Xbinds, Xscopes, Xwhat, Xfirst, Xsecond, Xthird, Xkept) → zx_cl post (m + (jl + 1 - j)) (nI j) (nI dr, xspecial, xdefined, nI (h), nI (d), nI (sc.length), xcells, xclosures, xtop, xundo, xpc, xenv, xbuffer, xtaken, xoutcome, xrunning, xgiven, xclosed, Xdraft, XdraftValues, op, ar, Xparameter, wa, dn, ho, so, Xplace, Xlocals, Xstack, Xcell, Xparent, Xbodies, Xbinds, Xscopes, Xwhat, Xfirst, Xsecond, Xthird, Xkept)) (ek : kd j = 2) : ∃ (e : Nat) (op' ar' wa' dn' ho' so' : Nat → Int32), zz_CD op' ar' K N E S r (n + 1) (48 * r + j) h e sc ∧ e ≤ h + 4 * (jl + 1 - j) ∧ zc_X op ar wa dn ho op' ar' wa' dn' ho' h e d ∧ zz_R so' nI sc ∧ ∀ (post : SX → Prop) (m : Nat), wpX_close (zx_ck post m (nI jl)) (nI dr, xspecial, xdefined, nI (e), nI (d), nI (sc.length), xcells, xclosures, xtop, xundo, xpc, xenv, xbuffer, xtaken, xoutcome, xrunning, xgiven, xclosed, Xdraft, XdraftValues, op', ar', Xparameter, wa', dn', ho', so', Xplace, Xlocals, Xstack, Xcell, Xparent, Xbodies, Xbinds, Xscopes, Xwhat, Xfirst, Xsecond, Xthird, Xkept) → zx_cl post (m + (jl + 1 - j)) (nI j) (nI dr, xspecial, xdefined, nI (h), nI (d), nI (sc.length), xcells, xclosures, xtop, xundo, xpc, xenv, xbuffer, xtaken, xoutcome, xrunning, xgiven, xclosed, Xdraft, XdraftValues, op, ar, Xparameter, wa, dn, ho, so, Xplace, Xlocals, Xstack, Xcell, Xparent, Xbodies, Xbinds, Xscopes, Xwhat, Xfirst, Xsecond, Xthird, Xkept) := by
  obtain ⟨hr, hdr, hS, hT⟩ := hD
  have l0 := zz_PEl _ _ _ _ hPE
  obtain ⟨hk, h19, hK, hN, hV⟩ := hT j (by omega)
  rw [ek, show zz_op 2 = 1 from by decide] at hPE l0
  rw [ek] at hk h19 hK
  obtain ⟨n', en, hP1⟩ := zz_PE1 hPE
  have en : n' + 1 = n := en.symm
  subst en
  obtain ⟨s, hs, es⟩ := hV (by rw [ek]; decide)
  have hs : s < 8 := by rw [ek] at hs; exact hs
  obtain ⟨e1, op1, ar1, wa1, dn1, ho1, so1, hC, he, hX, hR1, hG⟩ := IH n' rfl (j + 1) jl (h + 1) (d + 1) sc (upd op h (nI 20)) (upd ar h 0) (upd wa d (nI j)) (upd dn d (nI 0)) ho so hP1 hjl hR hB (by omega) (by omega) (by omega) (by omega)
  have cb := hC.1
  refine ⟨e1 + 1, upd op1 e1 (zz_rc S (nI 32) (nI 2) s sc).1, upd ar1 e1 (zz_rc S (nI 32) (nI 2) s sc).2, wa1, upd dn1 d (nI 1), ho1, so1, ?_, by omega, ⟨fun i hi => ⟨?_, ?_⟩, fun i hi => ⟨?_, ?_, ?_⟩⟩, hR1, fun post m HC => ?_⟩
  · refine ⟨⟨by omega, by omega, hh, by omega, by omega⟩, by rw [pk_un (by omega), (hX.1 _ (by omega)).1, pk_us]; rfl, Or.inr (Or.inr (Or.inr (Or.inr (Or.inl ⟨hK, s, e1, hs, by rw [hN, es], ?_, ⟨by rw [pk_us]; rfl, by rw [pk_us]; rfl⟩, rfl⟩))))⟩
    exact zz_CDc (fun _ _ _ => ⟨rfl, rfl, rfl⟩) _ _ _ _ _ (fun i h1 h2 => ⟨pk_un (by omega), pk_un (by omega)⟩) hC
  · rw [pk_un (by omega), (hX.1 _ (by omega)).1, pk_un (by omega)]
  · rw [pk_un (by omega), (hX.1 _ (by omega)).2, pk_un (by omega)]
  · rw [(hX.2 _ (by omega)).1, pk_un (by omega)]
  · rw [pk_un (by omega), (hX.2 _ (by omega)).2.1, pk_un (by omega)]
  · rw [(hX.2 _ (by omega)).2.2]
  · rw [show m + (jl + 1 - j) = m + (jl + 1 - (j + 1)) + 1 from by omega]
    refine zx_cl_1 (d := d) (by omega) hdr hk h19 (by decide) (by omega) (fun Q HQ => zx_begin_d (Or.inl rfl) (by omega) HQ) (hG post m ?_)
    refine zx_close_l (w := j) (k := 2) (c := 0) (by omega) ((hX.2 d (by omega)).1.trans pk_us) (by omega) hk h19 ((hX.2 d (by omega)).2.1.trans pk_us) (by decide) (fun Q HQ => ?_) HC
    rw [es]
    exact zx_behind_s hS hs (by omega) hR1 hB (by omega) HQ
theorem zc_6 (hD : zc_D kd K N E S Xdraft XdraftValues xspecial r dr) {n j jl h d : Nat} {sc : List Nat} {op ar wa dn ho so : Nat → Int32} (hPE : zz_PE kd E (48 * r) n (zz_op (kd j)) (j + 1) (jl + 1)) (hjl : jl < dr) (hR : zz_R so nI sc) (hB : ∀ x, x ∈ sc → x < 8) (hh : 256 * r ≤ h) (hh2 : h + 4 * (jl + 1 - j) < 256 * r + 256) (hd : d + (jl + 1 - j) ≤ 48) (hl : sc.length + (jl + 1 - j) ≤ 49) (IH : ∀ n', n' + 1 = n → ∀ (j jl h d : Nat) (sc : List Nat) (op ar wa dn ho so : Nat → Int32), zz_PE kd E (48 * r) (n') (zz_op (kd j)) (j + 1) (jl + 1) → jl < dr → zz_R so nI sc → (∀ x, x ∈ sc → x < 8) → 256 * r ≤ h → h + 4 * (jl + 1 - j) < 256 * r + 256 → d + (jl + 1 - j) ≤ 48 → sc.length + (jl + 1 - j) ≤ 49 → ∃ (e : Nat) (op' ar' wa' dn' ho' so' : Nat → Int32), zz_CD op' ar' K N E S r (n' + 1) (48 * r + j) h e sc ∧ e ≤ h + 4 * (jl + 1 - j) ∧ zc_X op ar wa dn ho op' ar' wa' dn' ho' h e d ∧ zz_R so' nI sc ∧ ∀ (post : SX → Prop) (m : Nat), wpX_close (zx_ck post m (nI jl)) (nI dr, xspecial, xdefined, nI (e), nI (d), nI (sc.length), xcells, xclosures, xtop, xundo, xpc, xenv, xbuffer, xtaken, xoutcome, xrunning, xgiven, xclosed, Xdraft, XdraftValues, op', ar', Xparameter, wa', dn', ho', so', Xplace, Xlocals, Xstack, Xcell, Xparent, Xbodies, Xbinds, Xscopes, Xwhat, Xfirst, Xsecond, Xthird, Xkept) → zx_cl post (m + (jl + 1 - j)) (nI j) (nI dr, xspecial, xdefined, nI (h), nI (d), nI (sc.length), xcells, xclosures, xtop, xundo, xpc, xenv, xbuffer, xtaken, xoutcome, xrunning, xgiven, xclosed, Xdraft, XdraftValues, op, ar, Xparameter, wa, dn, ho, so, Xplace, Xlocals, Xstack, Xcell, Xparent, Xbodies, Xbinds, Xscopes, Xwhat, Xfirst, Xsecond, Xthird, Xkept)) (ek : kd j = 6) : ∃ (e : Nat) (op' ar' wa' dn' ho' so' : Nat → Int32), zz_CD op' ar' K N E S r (n + 1) (48 * r + j) h e sc ∧ e ≤ h + 4 * (jl + 1 - j) ∧ zc_X op ar wa dn ho op' ar' wa' dn' ho' h e d ∧ zz_R so' nI sc ∧ ∀ (post : SX → Prop) (m : Nat), wpX_close (zx_ck post m (nI jl)) (nI dr, xspecial, xdefined, nI (e), nI (d), nI (sc.length), xcells, xclosures, xtop, xundo, xpc, xenv, xbuffer, xtaken, xoutcome, xrunning, xgiven, xclosed, Xdraft, XdraftValues, op', ar', Xparameter, wa', dn', ho', so', Xplace, Xlocals, Xstack, Xcell, Xparent, Xbodies, Xbinds, Xscopes, Xwhat, Xfirst, Xsecond, Xthird, Xkept) → zx_cl post (m + (jl + 1 - j)) (nI j) (nI dr, xspecial, xdefined, nI (h), nI (d), nI (sc.length), xcells, xclosures, xtop, xundo, xpc, xenv, xbuffer, xtaken, xoutcome, xrunning, xgiven, xclosed, Xdraft, XdraftValues, op, ar, Xparameter, wa, dn, ho, so, Xplace, Xlocals, Xstack, Xcell, Xparent, Xbodies, Xbinds, Xscopes, Xwhat, Xfirst, Xsecond, Xthird, Xkept) := by
  obtain ⟨hr, hdr, hS, hT⟩ := hD
  have l0 := zz_PEl _ _ _ _ hPE
  obtain ⟨hk, h19, hK, hN, hV⟩ := hT j (by omega)
  rw [ek, show zz_op 6 = 1 from by decide] at hPE l0
  rw [ek] at hk h19 hK
  obtain ⟨n', en, hP1⟩ := zz_PE1 hPE
  have en : n' + 1 = n := en.symm
  subst en
  obtain ⟨s, hs, es⟩ := hV (by rw [ek]; decide)
  have hs : s < zz_lm 6 := by rw [ek] at hs; exact hs
  have hs : s < 8 ∧ (nI 6 = 17 ∨ s < 4) := ⟨Nat.lt_of_lt_of_le hs (by decide), Or.inr hs⟩
  obtain ⟨e1, op1, ar1, wa1, dn1, ho1, so1, hC, he, hX, hR1, hG⟩ := IH n' rfl (j + 1) jl (h + 1) (d + 1) sc (upd op h (nI 20)) (upd ar h 0) (upd wa d (nI j)) (upd dn d (nI 0)) ho so hP1 hjl hR hB (by omega) (by omega) (by omega) (by omega)
  have cb := hC.1
  refine ⟨e1 + 1, upd op1 e1 (nI 6), upd ar1 e1 (nI s), wa1, upd dn1 d (nI 1), ho1, so1, ?_, by omega, ⟨fun i hi => ⟨?_, ?_⟩, fun i hi => ⟨?_, ?_, ?_⟩⟩, hR1, fun post m HC => ?_⟩
  · refine ⟨⟨by omega, by omega, hh, by omega, by omega⟩, by rw [pk_un (by omega), (hX.1 _ (by omega)).1, pk_us]; rfl, Or.inr (Or.inr (Or.inr (Or.inr (Or.inr (Or.inl ⟨by rw [hK]; decide, s, e1, hs.1, by rw [hK]; exact hs.2, by rw [hN, es], ?_, by rw [pk_us, hK], by rw [pk_us], rfl⟩)))))⟩
    exact zz_CDc (fun _ _ _ => ⟨rfl, rfl, rfl⟩) _ _ _ _ _ (fun i h1 h2 => ⟨pk_un (by omega), pk_un (by omega)⟩) hC
  · rw [pk_un (by omega), (hX.1 _ (by omega)).1, pk_un (by omega)]
  · rw [pk_un (by omega), (hX.1 _ (by omega)).2, pk_un (by omega)]
  · rw [(hX.2 _ (by omega)).1, pk_un (by omega)]
  · rw [pk_un (by omega), (hX.2 _ (by omega)).2.1, pk_un (by omega)]
  · rw [(hX.2 _ (by omega)).2.2]
  · rw [show m + (jl + 1 - j) = m + (jl + 1 - (j + 1)) + 1 from by omega]
    refine zx_cl_1 (d := d) (by omega) hdr hk h19 (by decide) (by omega) (fun Q HQ => zx_begin_d (by decide) (by omega) HQ) (hG post m ?_)
    refine zx_close_l (w := j) (k := 6) (c := 0) (by omega) ((hX.2 d (by omega)).1.trans pk_us) (by omega) hk h19 ((hX.2 d (by omega)).2.1.trans pk_us) (by decide) (fun Q HQ => ?_) HC
    rw [es]
    exact zx_behind_1 (by decide) (by omega) HQ
theorem zc_13 (hD : zc_D kd K N E S Xdraft XdraftValues xspecial r dr) {n j jl h d : Nat} {sc : List Nat} {op ar wa dn ho so : Nat → Int32} (hPE : zz_PE kd E (48 * r) n (zz_op (kd j)) (j + 1) (jl + 1)) (hjl : jl < dr) (hR : zz_R so nI sc) (hB : ∀ x, x ∈ sc → x < 8) (hh : 256 * r ≤ h) (hh2 : h + 4 * (jl + 1 - j) < 256 * r + 256) (hd : d + (jl + 1 - j) ≤ 48) (hl : sc.length + (jl + 1 - j) ≤ 49) (IH : ∀ n', n' + 1 = n → ∀ (j jl h d : Nat) (sc : List Nat) (op ar wa dn ho so : Nat → Int32), zz_PE kd E (48 * r) (n') (zz_op (kd j)) (j + 1) (jl + 1) → jl < dr → zz_R so nI sc → (∀ x, x ∈ sc → x < 8) → 256 * r ≤ h → h + 4 * (jl + 1 - j) < 256 * r + 256 → d + (jl + 1 - j) ≤ 48 → sc.length + (jl + 1 - j) ≤ 49 → ∃ (e : Nat) (op' ar' wa' dn' ho' so' : Nat → Int32), zz_CD op' ar' K N E S r (n' + 1) (48 * r + j) h e sc ∧ e ≤ h + 4 * (jl + 1 - j) ∧ zc_X op ar wa dn ho op' ar' wa' dn' ho' h e d ∧ zz_R so' nI sc ∧ ∀ (post : SX → Prop) (m : Nat), wpX_close (zx_ck post m (nI jl)) (nI dr, xspecial, xdefined, nI (e), nI (d), nI (sc.length), xcells, xclosures, xtop, xundo, xpc, xenv, xbuffer, xtaken, xoutcome, xrunning, xgiven, xclosed, Xdraft, XdraftValues, op', ar', Xparameter, wa', dn', ho', so', Xplace, Xlocals, Xstack, Xcell, Xparent, Xbodies, Xbinds, Xscopes, Xwhat, Xfirst, Xsecond, Xthird, Xkept) → zx_cl post (m + (jl + 1 - j)) (nI j) (nI dr, xspecial, xdefined, nI (h), nI (d), nI (sc.length), xcells, xclosures, xtop, xundo, xpc, xenv, xbuffer, xtaken, xoutcome, xrunning, xgiven, xclosed, Xdraft, XdraftValues, op, ar, Xparameter, wa, dn, ho, so, Xplace, Xlocals, Xstack, Xcell, Xparent, Xbodies, Xbinds, Xscopes, Xwhat, Xfirst, Xsecond, Xthird, Xkept)) (ek : kd j = 13) : ∃ (e : Nat) (op' ar' wa' dn' ho' so' : Nat → Int32), zz_CD op' ar' K N E S r (n + 1) (48 * r + j) h e sc ∧ e ≤ h + 4 * (jl + 1 - j) ∧ zc_X op ar wa dn ho op' ar' wa' dn' ho' h e d ∧ zz_R so' nI sc ∧ ∀ (post : SX → Prop) (m : Nat), wpX_close (zx_ck post m (nI jl)) (nI dr, xspecial, xdefined, nI (e), nI (d), nI (sc.length), xcells, xclosures, xtop, xundo, xpc, xenv, xbuffer, xtaken, xoutcome, xrunning, xgiven, xclosed, Xdraft, XdraftValues, op', ar', Xparameter, wa', dn', ho', so', Xplace, Xlocals, Xstack, Xcell, Xparent, Xbodies, Xbinds, Xscopes, Xwhat, Xfirst, Xsecond, Xthird, Xkept) → zx_cl post (m + (jl + 1 - j)) (nI j) (nI dr, xspecial, xdefined, nI (h), nI (d), nI (sc.length), xcells, xclosures, xtop, xundo, xpc, xenv, xbuffer, xtaken, xoutcome, xrunning, xgiven, xclosed, Xdraft, XdraftValues, op, ar, Xparameter, wa, dn, ho, so, Xplace, Xlocals, Xstack, Xcell, Xparent, Xbodies, Xbinds, Xscopes, Xwhat, Xfirst, Xsecond, Xthird, Xkept) := by
  obtain ⟨hr, hdr, hS, hT⟩ := hD
  have l0 := zz_PEl _ _ _ _ hPE
  obtain ⟨hk, h19, hK, hN, hV⟩ := hT j (by omega)
  rw [ek, show zz_op 13 = 1 from by decide] at hPE l0
  rw [ek] at hk h19 hK
  obtain ⟨n', en, hP1⟩ := zz_PE1 hPE
  have en : n' + 1 = n := en.symm
  subst en
  obtain ⟨s, hs, es⟩ := hV (by rw [ek]; decide)
  have hs : s < zz_lm 13 := by rw [ek] at hs; exact hs
  have hs : s < 8 ∧ (nI 13 = 17 ∨ s < 4) := ⟨Nat.lt_of_lt_of_le hs (by decide), Or.inr hs⟩
  obtain ⟨e1, op1, ar1, wa1, dn1, ho1, so1, hC, he, hX, hR1, hG⟩ := IH n' rfl (j + 1) jl (h + 1) (d + 1) sc (upd op h (nI 20)) (upd ar h 0) (upd wa d (nI j)) (upd dn d (nI 0)) ho so hP1 hjl hR hB (by omega) (by omega) (by omega) (by omega)
  have cb := hC.1
  refine ⟨e1 + 1, upd op1 e1 (nI 13), upd ar1 e1 (nI s), wa1, upd dn1 d (nI 1), ho1, so1, ?_, by omega, ⟨fun i hi => ⟨?_, ?_⟩, fun i hi => ⟨?_, ?_, ?_⟩⟩, hR1, fun post m HC => ?_⟩
  · refine ⟨⟨by omega, by omega, hh, by omega, by omega⟩, by rw [pk_un (by omega), (hX.1 _ (by omega)).1, pk_us]; rfl, Or.inr (Or.inr (Or.inr (Or.inr (Or.inr (Or.inl ⟨by rw [hK]; decide, s, e1, hs.1, by rw [hK]; exact hs.2, by rw [hN, es], ?_, by rw [pk_us, hK], by rw [pk_us], rfl⟩)))))⟩
    exact zz_CDc (fun _ _ _ => ⟨rfl, rfl, rfl⟩) _ _ _ _ _ (fun i h1 h2 => ⟨pk_un (by omega), pk_un (by omega)⟩) hC
  · rw [pk_un (by omega), (hX.1 _ (by omega)).1, pk_un (by omega)]
  · rw [pk_un (by omega), (hX.1 _ (by omega)).2, pk_un (by omega)]
  · rw [(hX.2 _ (by omega)).1, pk_un (by omega)]
  · rw [pk_un (by omega), (hX.2 _ (by omega)).2.1, pk_un (by omega)]
  · rw [(hX.2 _ (by omega)).2.2]
  · rw [show m + (jl + 1 - j) = m + (jl + 1 - (j + 1)) + 1 from by omega]
    refine zx_cl_1 (d := d) (by omega) hdr hk h19 (by decide) (by omega) (fun Q HQ => zx_begin_d (by decide) (by omega) HQ) (hG post m ?_)
    refine zx_close_l (w := j) (k := 13) (c := 0) (by omega) ((hX.2 d (by omega)).1.trans pk_us) (by omega) hk h19 ((hX.2 d (by omega)).2.1.trans pk_us) (by decide) (fun Q HQ => ?_) HC
    rw [es]
    exact zx_behind_1 (by decide) (by omega) HQ
theorem zc_17 (hD : zc_D kd K N E S Xdraft XdraftValues xspecial r dr) {n j jl h d : Nat} {sc : List Nat} {op ar wa dn ho so : Nat → Int32} (hPE : zz_PE kd E (48 * r) n (zz_op (kd j)) (j + 1) (jl + 1)) (hjl : jl < dr) (hR : zz_R so nI sc) (hB : ∀ x, x ∈ sc → x < 8) (hh : 256 * r ≤ h) (hh2 : h + 4 * (jl + 1 - j) < 256 * r + 256) (hd : d + (jl + 1 - j) ≤ 48) (hl : sc.length + (jl + 1 - j) ≤ 49) (IH : ∀ n', n' + 1 = n → ∀ (j jl h d : Nat) (sc : List Nat) (op ar wa dn ho so : Nat → Int32), zz_PE kd E (48 * r) (n') (zz_op (kd j)) (j + 1) (jl + 1) → jl < dr → zz_R so nI sc → (∀ x, x ∈ sc → x < 8) → 256 * r ≤ h → h + 4 * (jl + 1 - j) < 256 * r + 256 → d + (jl + 1 - j) ≤ 48 → sc.length + (jl + 1 - j) ≤ 49 → ∃ (e : Nat) (op' ar' wa' dn' ho' so' : Nat → Int32), zz_CD op' ar' K N E S r (n' + 1) (48 * r + j) h e sc ∧ e ≤ h + 4 * (jl + 1 - j) ∧ zc_X op ar wa dn ho op' ar' wa' dn' ho' h e d ∧ zz_R so' nI sc ∧ ∀ (post : SX → Prop) (m : Nat), wpX_close (zx_ck post m (nI jl)) (nI dr, xspecial, xdefined, nI (e), nI (d), nI (sc.length), xcells, xclosures, xtop, xundo, xpc, xenv, xbuffer, xtaken, xoutcome, xrunning, xgiven, xclosed, Xdraft, XdraftValues, op', ar', Xparameter, wa', dn', ho', so', Xplace, Xlocals, Xstack, Xcell, Xparent, Xbodies, Xbinds, Xscopes, Xwhat, Xfirst, Xsecond, Xthird, Xkept) → zx_cl post (m + (jl + 1 - j)) (nI j) (nI dr, xspecial, xdefined, nI (h), nI (d), nI (sc.length), xcells, xclosures, xtop, xundo, xpc, xenv, xbuffer, xtaken, xoutcome, xrunning, xgiven, xclosed, Xdraft, XdraftValues, op, ar, Xparameter, wa, dn, ho, so, Xplace, Xlocals, Xstack, Xcell, Xparent, Xbodies, Xbinds, Xscopes, Xwhat, Xfirst, Xsecond, Xthird, Xkept)) (ek : kd j = 17) : ∃ (e : Nat) (op' ar' wa' dn' ho' so' : Nat → Int32), zz_CD op' ar' K N E S r (n + 1) (48 * r + j) h e sc ∧ e ≤ h + 4 * (jl + 1 - j) ∧ zc_X op ar wa dn ho op' ar' wa' dn' ho' h e d ∧ zz_R so' nI sc ∧ ∀ (post : SX → Prop) (m : Nat), wpX_close (zx_ck post m (nI jl)) (nI dr, xspecial, xdefined, nI (e), nI (d), nI (sc.length), xcells, xclosures, xtop, xundo, xpc, xenv, xbuffer, xtaken, xoutcome, xrunning, xgiven, xclosed, Xdraft, XdraftValues, op', ar', Xparameter, wa', dn', ho', so', Xplace, Xlocals, Xstack, Xcell, Xparent, Xbodies, Xbinds, Xscopes, Xwhat, Xfirst, Xsecond, Xthird, Xkept) → zx_cl post (m + (jl + 1 - j)) (nI j) (nI dr, xspecial, xdefined, nI (h), nI (d), nI (sc.length), xcells, xclosures, xtop, xundo, xpc, xenv, xbuffer, xtaken, xoutcome, xrunning, xgiven, xclosed, Xdraft, XdraftValues, op, ar, Xparameter, wa, dn, ho, so, Xplace, Xlocals, Xstack, Xcell, Xparent, Xbodies, Xbinds, Xscopes, Xwhat, Xfirst, Xsecond, Xthird, Xkept) := by
  obtain ⟨hr, hdr, hS, hT⟩ := hD
  have l0 := zz_PEl _ _ _ _ hPE
  obtain ⟨hk, h19, hK, hN, hV⟩ := hT j (by omega)
  rw [ek, show zz_op 17 = 1 from by decide] at hPE l0
  rw [ek] at hk h19 hK
  obtain ⟨n', en, hP1⟩ := zz_PE1 hPE
  have en : n' + 1 = n := en.symm
  subst en
  obtain ⟨s, hs, es⟩ := hV (by rw [ek]; decide)
  have hs : s < zz_lm 17 := by rw [ek] at hs; exact hs
  have hs : s < 8 ∧ (nI 17 = 17 ∨ s < 4) := ⟨Nat.lt_of_lt_of_le hs (by decide), Or.inl rfl⟩
  obtain ⟨e1, op1, ar1, wa1, dn1, ho1, so1, hC, he, hX, hR1, hG⟩ := IH n' rfl (j + 1) jl (h + 1) (d + 1) sc (upd op h (nI 20)) (upd ar h 0) (upd wa d (nI j)) (upd dn d (nI 0)) ho so hP1 hjl hR hB (by omega) (by omega) (by omega) (by omega)
  have cb := hC.1
  refine ⟨e1 + 1, upd op1 e1 (nI 17), upd ar1 e1 (nI s), wa1, upd dn1 d (nI 1), ho1, so1, ?_, by omega, ⟨fun i hi => ⟨?_, ?_⟩, fun i hi => ⟨?_, ?_, ?_⟩⟩, hR1, fun post m HC => ?_⟩
  · refine ⟨⟨by omega, by omega, hh, by omega, by omega⟩, by rw [pk_un (by omega), (hX.1 _ (by omega)).1, pk_us]; rfl, Or.inr (Or.inr (Or.inr (Or.inr (Or.inr (Or.inl ⟨by rw [hK]; decide, s, e1, hs.1, by rw [hK]; exact hs.2, by rw [hN, es], ?_, by rw [pk_us, hK], by rw [pk_us], rfl⟩)))))⟩
    exact zz_CDc (fun _ _ _ => ⟨rfl, rfl, rfl⟩) _ _ _ _ _ (fun i h1 h2 => ⟨pk_un (by omega), pk_un (by omega)⟩) hC
  · rw [pk_un (by omega), (hX.1 _ (by omega)).1, pk_un (by omega)]
  · rw [pk_un (by omega), (hX.1 _ (by omega)).2, pk_un (by omega)]
  · rw [(hX.2 _ (by omega)).1, pk_un (by omega)]
  · rw [pk_un (by omega), (hX.2 _ (by omega)).2.1, pk_un (by omega)]
  · rw [(hX.2 _ (by omega)).2.2]
  · rw [show m + (jl + 1 - j) = m + (jl + 1 - (j + 1)) + 1 from by omega]
    refine zx_cl_1 (d := d) (by omega) hdr hk h19 (by decide) (by omega) (fun Q HQ => zx_begin_d (by decide) (by omega) HQ) (hG post m ?_)
    refine zx_close_l (w := j) (k := 17) (c := 0) (by omega) ((hX.2 d (by omega)).1.trans pk_us) (by omega) hk h19 ((hX.2 d (by omega)).2.1.trans pk_us) (by decide) (fun Q HQ => ?_) HC
    rw [es]
    exact zx_behind_1 (by decide) (by omega) HQ
theorem zc_16 (hD : zc_D kd K N E S Xdraft XdraftValues xspecial r dr) {n j jl h d : Nat} {sc : List Nat} {op ar wa dn ho so : Nat → Int32} (hPE : zz_PE kd E (48 * r) n (zz_op (kd j)) (j + 1) (jl + 1)) (hjl : jl < dr) (hR : zz_R so nI sc) (hB : ∀ x, x ∈ sc → x < 8) (hh : 256 * r ≤ h) (hh2 : h + 4 * (jl + 1 - j) < 256 * r + 256) (hd : d + (jl + 1 - j) ≤ 48) (hl : sc.length + (jl + 1 - j) ≤ 49) (IH : ∀ n', n' + 1 = n → ∀ (j jl h d : Nat) (sc : List Nat) (op ar wa dn ho so : Nat → Int32), zz_PE kd E (48 * r) (n') (zz_op (kd j)) (j + 1) (jl + 1) → jl < dr → zz_R so nI sc → (∀ x, x ∈ sc → x < 8) → 256 * r ≤ h → h + 4 * (jl + 1 - j) < 256 * r + 256 → d + (jl + 1 - j) ≤ 48 → sc.length + (jl + 1 - j) ≤ 49 → ∃ (e : Nat) (op' ar' wa' dn' ho' so' : Nat → Int32), zz_CD op' ar' K N E S r (n' + 1) (48 * r + j) h e sc ∧ e ≤ h + 4 * (jl + 1 - j) ∧ zc_X op ar wa dn ho op' ar' wa' dn' ho' h e d ∧ zz_R so' nI sc ∧ ∀ (post : SX → Prop) (m : Nat), wpX_close (zx_ck post m (nI jl)) (nI dr, xspecial, xdefined, nI (e), nI (d), nI (sc.length), xcells, xclosures, xtop, xundo, xpc, xenv, xbuffer, xtaken, xoutcome, xrunning, xgiven, xclosed, Xdraft, XdraftValues, op', ar', Xparameter, wa', dn', ho', so', Xplace, Xlocals, Xstack, Xcell, Xparent, Xbodies, Xbinds, Xscopes, Xwhat, Xfirst, Xsecond, Xthird, Xkept) → zx_cl post (m + (jl + 1 - j)) (nI j) (nI dr, xspecial, xdefined, nI (h), nI (d), nI (sc.length), xcells, xclosures, xtop, xundo, xpc, xenv, xbuffer, xtaken, xoutcome, xrunning, xgiven, xclosed, Xdraft, XdraftValues, op, ar, Xparameter, wa, dn, ho, so, Xplace, Xlocals, Xstack, Xcell, Xparent, Xbodies, Xbinds, Xscopes, Xwhat, Xfirst, Xsecond, Xthird, Xkept)) (ek : kd j = 16) : ∃ (e : Nat) (op' ar' wa' dn' ho' so' : Nat → Int32), zz_CD op' ar' K N E S r (n + 1) (48 * r + j) h e sc ∧ e ≤ h + 4 * (jl + 1 - j) ∧ zc_X op ar wa dn ho op' ar' wa' dn' ho' h e d ∧ zz_R so' nI sc ∧ ∀ (post : SX → Prop) (m : Nat), wpX_close (zx_ck post m (nI jl)) (nI dr, xspecial, xdefined, nI (e), nI (d), nI (sc.length), xcells, xclosures, xtop, xundo, xpc, xenv, xbuffer, xtaken, xoutcome, xrunning, xgiven, xclosed, Xdraft, XdraftValues, op', ar', Xparameter, wa', dn', ho', so', Xplace, Xlocals, Xstack, Xcell, Xparent, Xbodies, Xbinds, Xscopes, Xwhat, Xfirst, Xsecond, Xthird, Xkept) → zx_cl post (m + (jl + 1 - j)) (nI j) (nI dr, xspecial, xdefined, nI (h), nI (d), nI (sc.length), xcells, xclosures, xtop, xundo, xpc, xenv, xbuffer, xtaken, xoutcome, xrunning, xgiven, xclosed, Xdraft, XdraftValues, op, ar, Xparameter, wa, dn, ho, so, Xplace, Xlocals, Xstack, Xcell, Xparent, Xbodies, Xbinds, Xscopes, Xwhat, Xfirst, Xsecond, Xthird, Xkept) := by
  obtain ⟨hr, hdr, hS, hT⟩ := hD
  have l0 := zz_PEl _ _ _ _ hPE
  obtain ⟨hk, h19, hK, hN, hV⟩ := hT j (by omega)
  rw [ek, show zz_op 16 = 1 from by decide] at hPE l0
  rw [ek] at hk h19 hK
  obtain ⟨n', en, hP1⟩ := zz_PE1 hPE
  have en : n' + 1 = n := en.symm
  subst en
  obtain ⟨s, hs, es⟩ := hV (by rw [ek]; decide)
  have hs : s < 3 := by rw [ek] at hs; exact hs
  obtain ⟨e1, op1, ar1, wa1, dn1, ho1, so1, hC, he, hX, hR1, hG⟩ := IH n' rfl (j + 1) jl (h + 1 + 1) (d + 1) sc (upd (upd op h (nI 20)) (h + 1) (nI 33)) (upd (upd ar h 0) (h + 1) (nI s)) (upd wa d (nI j)) (upd dn d (nI 0)) ho so hP1 hjl hR hB (by omega) (by omega) (by omega) (by omega)
  have cb := hC.1
  refine ⟨e1 + 1, upd op1 e1 (nI 34), upd ar1 e1 0, wa1, upd dn1 d (nI 1), ho1, so1, ?_, by omega, ⟨fun i hi => ⟨?_, ?_⟩, fun i hi => ⟨?_, ?_, ?_⟩⟩, hR1, fun post m HC => ?_⟩
  · refine ⟨⟨by omega, by omega, hh, by omega, by omega⟩, by rw [pk_un (by omega), (hX.1 _ (by omega)).1, pk_un (by omega), pk_us]; rfl, Or.inr (Or.inr (Or.inr (Or.inr (Or.inr (Or.inr (Or.inr (Or.inr (Or.inr (Or.inr (Or.inr (Or.inr (Or.inr ⟨hK, s, e1, hs, by rw [hN, es], ?_, ?_, ?_, by rw [pk_us]; rfl, rfl⟩))))))))))))⟩
    · rw [pk_un (by omega), (hX.1 _ (by omega)).1, pk_us]; rfl
    · rw [pk_un (by omega), (hX.1 _ (by omega)).2, pk_us]
    · exact zz_CDc (fun _ _ _ => ⟨rfl, rfl, rfl⟩) _ _ _ _ _ (fun i h1 h2 => ⟨pk_un (by omega), pk_un (by omega)⟩) hC
  · rw [pk_un (by omega), (hX.1 _ (by omega)).1, pk_un (by omega), pk_un (by omega)]
  · rw [pk_un (by omega), (hX.1 _ (by omega)).2, pk_un (by omega), pk_un (by omega)]
  · rw [(hX.2 _ (by omega)).1, pk_un (by omega)]
  · rw [pk_un (by omega), (hX.2 _ (by omega)).2.1, pk_un (by omega)]
  · rw [(hX.2 _ (by omega)).2.2]
  · rw [show m + (jl + 1 - j) = m + (jl + 1 - (j + 1)) + 1 from by omega]
    refine zx_cl_1 (d := d) (by omega) hdr hk h19 (by decide) (by omega) (fun Q HQ => ?_) (hG post m ?_)
    · rw [es]
      exact zx_begin_16 (by omega) HQ
    refine zx_close_l (w := j) (k := 16) (c := 0) (by omega) ((hX.2 d (by omega)).1.trans pk_us) (by omega) hk h19 ((hX.2 d (by omega)).2.1.trans pk_us) (by decide) (fun Q HQ => ?_) HC
    exact zx_behind_16 (by omega) HQ
theorem zc_12 (hD : zc_D kd K N E S Xdraft XdraftValues xspecial r dr) {n j jl h d : Nat} {sc : List Nat} {op ar wa dn ho so : Nat → Int32} (hPE : zz_PE kd E (48 * r) n (zz_op (kd j)) (j + 1) (jl + 1)) (hjl : jl < dr) (hR : zz_R so nI sc) (hB : ∀ x, x ∈ sc → x < 8) (hh : 256 * r ≤ h) (hh2 : h + 4 * (jl + 1 - j) < 256 * r + 256) (hd : d + (jl + 1 - j) ≤ 48) (hl : sc.length + (jl + 1 - j) ≤ 49) (IH : ∀ n', n' + 1 = n → ∀ (j jl h d : Nat) (sc : List Nat) (op ar wa dn ho so : Nat → Int32), zz_PE kd E (48 * r) (n') (zz_op (kd j)) (j + 1) (jl + 1) → jl < dr → zz_R so nI sc → (∀ x, x ∈ sc → x < 8) → 256 * r ≤ h → h + 4 * (jl + 1 - j) < 256 * r + 256 → d + (jl + 1 - j) ≤ 48 → sc.length + (jl + 1 - j) ≤ 49 → ∃ (e : Nat) (op' ar' wa' dn' ho' so' : Nat → Int32), zz_CD op' ar' K N E S r (n' + 1) (48 * r + j) h e sc ∧ e ≤ h + 4 * (jl + 1 - j) ∧ zc_X op ar wa dn ho op' ar' wa' dn' ho' h e d ∧ zz_R so' nI sc ∧ ∀ (post : SX → Prop) (m : Nat), wpX_close (zx_ck post m (nI jl)) (nI dr, xspecial, xdefined, nI (e), nI (d), nI (sc.length), xcells, xclosures, xtop, xundo, xpc, xenv, xbuffer, xtaken, xoutcome, xrunning, xgiven, xclosed, Xdraft, XdraftValues, op', ar', Xparameter, wa', dn', ho', so', Xplace, Xlocals, Xstack, Xcell, Xparent, Xbodies, Xbinds, Xscopes, Xwhat, Xfirst, Xsecond, Xthird, Xkept) → zx_cl post (m + (jl + 1 - j)) (nI j) (nI dr, xspecial, xdefined, nI (h), nI (d), nI (sc.length), xcells, xclosures, xtop, xundo, xpc, xenv, xbuffer, xtaken, xoutcome, xrunning, xgiven, xclosed, Xdraft, XdraftValues, op, ar, Xparameter, wa, dn, ho, so, Xplace, Xlocals, Xstack, Xcell, Xparent, Xbodies, Xbinds, Xscopes, Xwhat, Xfirst, Xsecond, Xthird, Xkept)) (ek : kd j = 12) : ∃ (e : Nat) (op' ar' wa' dn' ho' so' : Nat → Int32), zz_CD op' ar' K N E S r (n + 1) (48 * r + j) h e sc ∧ e ≤ h + 4 * (jl + 1 - j) ∧ zc_X op ar wa dn ho op' ar' wa' dn' ho' h e d ∧ zz_R so' nI sc ∧ ∀ (post : SX → Prop) (m : Nat), wpX_close (zx_ck post m (nI jl)) (nI dr, xspecial, xdefined, nI (e), nI (d), nI (sc.length), xcells, xclosures, xtop, xundo, xpc, xenv, xbuffer, xtaken, xoutcome, xrunning, xgiven, xclosed, Xdraft, XdraftValues, op', ar', Xparameter, wa', dn', ho', so', Xplace, Xlocals, Xstack, Xcell, Xparent, Xbodies, Xbinds, Xscopes, Xwhat, Xfirst, Xsecond, Xthird, Xkept) → zx_cl post (m + (jl + 1 - j)) (nI j) (nI dr, xspecial, xdefined, nI (h), nI (d), nI (sc.length), xcells, xclosures, xtop, xundo, xpc, xenv, xbuffer, xtaken, xoutcome, xrunning, xgiven, xclosed, Xdraft, XdraftValues, op, ar, Xparameter, wa, dn, ho, so, Xplace, Xlocals, Xstack, Xcell, Xparent, Xbodies, Xbinds, Xscopes, Xwhat, Xfirst, Xsecond, Xthird, Xkept) := by
  obtain ⟨hr, hdr, hS, hT⟩ := hD
  have l0 := zz_PEl _ _ _ _ hPE
  obtain ⟨hk, h19, hK, hN, hV⟩ := hT j (by omega)
  rw [ek, show zz_op 12 = 1 from by decide] at hPE l0
  rw [ek] at hk h19 hK
  obtain ⟨n', en, hP1⟩ := zz_PE1 hPE
  have en : n' + 1 = n := en.symm
  subst en
  obtain ⟨s, hs, es⟩ := hV (by rw [ek]; decide)
  have hs : s < 4 := by rw [ek] at hs; exact hs
  obtain ⟨e1, op1, ar1, wa1, dn1, ho1, so1, hC, he, hX, hR1, hG⟩ := IH n' rfl (j + 1) jl (h + 1 + 1) (d + 1) sc (upd (upd op h (nI 20)) (h + 1) (nI 25)) (upd (upd ar h 0) (h + 1) (nI s)) (upd wa d (nI j)) (upd dn d (nI 0)) (upd ho d (nI (h + 1))) so hP1 hjl hR hB (by omega) (by omega) (by omega) (by omega)
  have cb := hC.1
  refine ⟨e1 + 1, upd op1 e1 (nI 26), upd (upd ar1 e1 0) (h + 1) (nI (s + (e1 + 1 + 0) * 65536)), wa1, upd dn1 d (nI 1), ho1, so1, ?_, by omega, ⟨fun i hi => ⟨?_, ?_⟩, fun i hi => ⟨?_, ?_, ?_⟩⟩, hR1, fun post m HC => ?_⟩
  · refine ⟨⟨by omega, by omega, hh, by omega, by omega⟩, by rw [pk_un (by omega), (hX.1 _ (by omega)).1, pk_un (by omega), pk_us]; rfl, Or.inr (Or.inr (Or.inr (Or.inr (Or.inr (Or.inr (Or.inr (Or.inr (Or.inr (Or.inr (Or.inl ⟨hK, s, e1, hs, by rw [hN, es], ?_, ?_, ?_, by rw [pk_us]; rfl, rfl⟩))))))))))⟩
    · rw [pk_un (by omega), (hX.1 _ (by omega)).1, pk_us]; rfl
    · rw [pk_us]
    · exact zz_CDc (fun _ _ _ => ⟨rfl, rfl, rfl⟩) _ _ _ _ _ (fun i h1 h2 => ⟨pk_un (by omega), (pk_un (by omega)).trans (pk_un (by omega))⟩) hC
  · rw [pk_un (by omega), (hX.1 _ (by omega)).1, pk_un (by omega), pk_un (by omega)]
  · rw [pk_un (by omega), pk_un (by omega), (hX.1 _ (by omega)).2, pk_un (by omega), pk_un (by omega)]
  · rw [(hX.2 _ (by omega)).1, pk_un (by omega)]
  · rw [pk_un (by omega), (hX.2 _ (by omega)).2.1, pk_un (by omega)]
  · rw [(hX.2 _ (by omega)).2.2, pk_un (by omega)]
  · rw [show m + (jl + 1 - j) = m + (jl + 1 - (j + 1)) + 1 from by omega]
    refine zx_cl_1 (d := d) (by omega) hdr hk h19 (by decide) (by omega) (fun Q HQ => ?_) (hG post m ?_)
    · rw [es]
      exact zx_begin_12 (by omega) (by omega) HQ
    refine zx_close_l (w := j) (k := 12) (c := 0) (by omega) ((hX.2 d (by omega)).1.trans pk_us) (by omega) hk h19 ((hX.2 d (by omega)).2.1.trans pk_us) (by decide) (fun Q HQ => ?_) HC
    exact zx_behind_12 (q := h + 1) (x := s) (by omega) (by omega) ((hX.2 d (by omega)).2.2.trans pk_us) (by omega) ((hX.1 _ (by omega)).2.trans pk_us) (by omega) HQ
theorem zc_4 (hD : zc_D kd K N E S Xdraft XdraftValues xspecial r dr) {n j jl h d : Nat} {sc : List Nat} {op ar wa dn ho so : Nat → Int32} (hPE : zz_PE kd E (48 * r) n (zz_op (kd j)) (j + 1) (jl + 1)) (hjl : jl < dr) (hR : zz_R so nI sc) (hB : ∀ x, x ∈ sc → x < 8) (hh : 256 * r ≤ h) (hh2 : h + 4 * (jl + 1 - j) < 256 * r + 256) (hd : d + (jl + 1 - j) ≤ 48) (hl : sc.length + (jl + 1 - j) ≤ 49) (IH : ∀ n', n' + 1 = n → ∀ (j jl h d : Nat) (sc : List Nat) (op ar wa dn ho so : Nat → Int32), zz_PE kd E (48 * r) (n') (zz_op (kd j)) (j + 1) (jl + 1) → jl < dr → zz_R so nI sc → (∀ x, x ∈ sc → x < 8) → 256 * r ≤ h → h + 4 * (jl + 1 - j) < 256 * r + 256 → d + (jl + 1 - j) ≤ 48 → sc.length + (jl + 1 - j) ≤ 49 → ∃ (e : Nat) (op' ar' wa' dn' ho' so' : Nat → Int32), zz_CD op' ar' K N E S r (n' + 1) (48 * r + j) h e sc ∧ e ≤ h + 4 * (jl + 1 - j) ∧ zc_X op ar wa dn ho op' ar' wa' dn' ho' h e d ∧ zz_R so' nI sc ∧ ∀ (post : SX → Prop) (m : Nat), wpX_close (zx_ck post m (nI jl)) (nI dr, xspecial, xdefined, nI (e), nI (d), nI (sc.length), xcells, xclosures, xtop, xundo, xpc, xenv, xbuffer, xtaken, xoutcome, xrunning, xgiven, xclosed, Xdraft, XdraftValues, op', ar', Xparameter, wa', dn', ho', so', Xplace, Xlocals, Xstack, Xcell, Xparent, Xbodies, Xbinds, Xscopes, Xwhat, Xfirst, Xsecond, Xthird, Xkept) → zx_cl post (m + (jl + 1 - j)) (nI j) (nI dr, xspecial, xdefined, nI (h), nI (d), nI (sc.length), xcells, xclosures, xtop, xundo, xpc, xenv, xbuffer, xtaken, xoutcome, xrunning, xgiven, xclosed, Xdraft, XdraftValues, op, ar, Xparameter, wa, dn, ho, so, Xplace, Xlocals, Xstack, Xcell, Xparent, Xbodies, Xbinds, Xscopes, Xwhat, Xfirst, Xsecond, Xthird, Xkept)) (ek : kd j = 4) : ∃ (e : Nat) (op' ar' wa' dn' ho' so' : Nat → Int32), zz_CD op' ar' K N E S r (n + 1) (48 * r + j) h e sc ∧ e ≤ h + 4 * (jl + 1 - j) ∧ zc_X op ar wa dn ho op' ar' wa' dn' ho' h e d ∧ zz_R so' nI sc ∧ ∀ (post : SX → Prop) (m : Nat), wpX_close (zx_ck post m (nI jl)) (nI dr, xspecial, xdefined, nI (e), nI (d), nI (sc.length), xcells, xclosures, xtop, xundo, xpc, xenv, xbuffer, xtaken, xoutcome, xrunning, xgiven, xclosed, Xdraft, XdraftValues, op', ar', Xparameter, wa', dn', ho', so', Xplace, Xlocals, Xstack, Xcell, Xparent, Xbodies, Xbinds, Xscopes, Xwhat, Xfirst, Xsecond, Xthird, Xkept) → zx_cl post (m + (jl + 1 - j)) (nI j) (nI dr, xspecial, xdefined, nI (h), nI (d), nI (sc.length), xcells, xclosures, xtop, xundo, xpc, xenv, xbuffer, xtaken, xoutcome, xrunning, xgiven, xclosed, Xdraft, XdraftValues, op, ar, Xparameter, wa, dn, ho, so, Xplace, Xlocals, Xstack, Xcell, Xparent, Xbodies, Xbinds, Xscopes, Xwhat, Xfirst, Xsecond, Xthird, Xkept) := by
  obtain ⟨hr, hdr, hS, hT⟩ := hD
  have l0 := zz_PEl _ _ _ _ hPE
  obtain ⟨hk, h19, hK, hN, hV⟩ := hT j (by omega)
  rw [ek, show zz_op 4 = 1 from by decide] at hPE l0
  rw [ek] at hk h19 hK
  obtain ⟨n', en, hP1⟩ := zz_PE1 hPE
  have en : n' + 1 = n := en.symm
  subst en
  obtain ⟨s, hs, es⟩ := hV (by rw [ek]; decide)
  have hs : s < 8 := by rw [ek] at hs; exact hs
  have hxl := zz_exl (S := S) (s := s) (sc := sc)
  obtain ⟨e1, op1, ar1, wa1, dn1, ho1, so1, hC, he, hX, hR1, hG⟩ := IH n' rfl (j + 1) jl (h + 1 + 1 + 1) (d + 1) (zz_ex S s sc) (upd (upd (upd op h (nI 20)) (h + 1) (nI 4)) (h + 1 + 1) (nI 23)) (upd (upd (upd ar h 0) (h + 1) (nI (h + 3 + s * 65536))) (h + 1 + 1) 0) (upd wa d (nI j)) (upd dn d (nI 0)) (upd ho d (nI (h + 1 + 1))) (zz_xs S s sc.length so) hP1 hjl (zz_xsR hR) (zz_xsB hs hB) (by omega) (by omega) (by omega) (by omega)
  have cb := hC.1
  refine ⟨e1 + 1, upd op1 e1 (nI 24), upd (upd ar1 e1 0) (h + 1 + 1) (nI (0 + (e1 + 1 + 0) * 65536)), wa1, upd dn1 d (nI 1), ho1, so1, ?_, by omega, ⟨fun i hi => ⟨?_, ?_⟩, fun i hi => ⟨?_, ?_, ?_⟩⟩, zz_exR hR1, fun post m HC => ?_⟩
  · refine ⟨⟨by omega, by omega, hh, by omega, by omega⟩, by rw [pk_un (by omega), (hX.1 _ (by omega)).1, pk_un (by omega), pk_un (by omega), pk_us]; rfl, Or.inr (Or.inr (Or.inr (Or.inl ⟨hK, s, e1, hs, by rw [hN, es], ?_, ?_, ?_, ?_, ?_, by rw [pk_us]; rfl, rfl⟩)))⟩
    · rw [pk_un (by omega), (hX.1 _ (by omega)).1, pk_un (by omega), pk_us]; rfl
    · rw [pk_un (by omega), pk_un (by omega), (hX.1 _ (by omega)).2, pk_un (by omega), pk_us]
    · rw [pk_un (by omega), (hX.1 _ (by omega)).1, pk_us]; rfl
    · rw [pk_us, Nat.zero_add]
    · exact zz_CDc (fun _ _ _ => ⟨rfl, rfl, rfl⟩) _ _ _ _ _ (fun i h1 h2 => ⟨pk_un (by omega), (pk_un (by omega)).trans (pk_un (by omega))⟩) hC
  · rw [pk_un (by omega), (hX.1 _ (by omega)).1, pk_un (by omega), pk_un (by omega), pk_un (by omega)]
  · rw [pk_un (by omega), pk_un (by omega), (hX.1 _ (by omega)).2, pk_un (by omega), pk_un (by omega), pk_un (by omega)]
  · rw [(hX.2 _ (by omega)).1, pk_un (by omega)]
  · rw [pk_un (by omega), (hX.2 _ (by omega)).2.1, pk_un (by omega)]
  · rw [(hX.2 _ (by omega)).2.2, pk_un (by omega)]
  · rw [show m + (jl + 1 - j) = m + (jl + 1 - (j + 1)) + 1 from by omega]
    refine zx_cl_1 (d := d) (by omega) hdr hk h19 (by decide) (by omega) (fun Q HQ => ?_) (hG post m ?_)
    · rw [es]
      exact zx_begin_4 hS hs (by omega) (by omega) (by omega) HQ
    refine zx_close_l (w := j) (k := 4) (c := 0) (by omega) ((hX.2 d (by omega)).1.trans pk_us) (by omega) hk h19 ((hX.2 d (by omega)).2.1.trans pk_us) (by decide) (fun Q HQ => ?_) HC
    rw [es]
    exact zx_behind_4 (q := h + 1 + 1) (x := 0) hS hs (by omega) (by omega) ((hX.2 d (by omega)).2.2.trans pk_us) (by omega) ((hX.1 _ (by omega)).2.trans pk_us) (by omega) HQ
end
end
section
section
variable {xdrafted xspecial xdefined xhere xdepth xscoped xcells xclosures xtop xundo xpc xenv xbuffer xtaken xoutcome xrunning xclosed : Int32} {xgiven : Int64} {Xdraft XdraftValues Xop Xarg Xparameter Xwaiting Xdone Xhole Xscope Xlocals Xparent Xbodies Xbinds Xscopes Xwhat Xfirst Xsecond Xthird : Nat → Int32} {Xplace Xstack Xcell Xkept : Nat → Int64} {kd : Nat → Nat} {K N E S : Nat → Int32} {r dr : Nat}
theorem zc_5 (hD : zc_D kd K N E S Xdraft XdraftValues xspecial r dr) {n j jl h d : Nat} {sc : List Nat} {op ar wa dn ho so : Nat → Int32} (hPE : zz_PE kd E (48 * r) n (zz_op (kd j)) (j + 1) (jl + 1)) (hjl : jl < dr) (hR : zz_R so nI sc) (hB : ∀ x, x ∈ sc → x < 8) (hh : 256 * r ≤ h) (hh2 : h + 4 * (jl + 1 - j) < 256 * r + 256) (hd : d + (jl + 1 - j) ≤ 48) (hl : sc.length + (jl + 1 - j) ≤ 49) (IH : ∀ n', n' + 1 = n → ∀ (j jl h d : Nat) (sc : List Nat) (op ar wa dn ho so : Nat → Int32), zz_PE kd E (48 * r) (n') (zz_op (kd j)) (j + 1) (jl + 1) → jl < dr → zz_R so nI sc → (∀ x, x ∈ sc → x < 8) → 256 * r ≤ h → h + 4 * (jl + 1 - j) < 256 * r + 256 → d + (jl + 1 - j) ≤ 48 → sc.length + (jl + 1 - j) ≤ 49 → ∃ (e : Nat) (op' ar' wa' dn' ho' so' : Nat → Int32), zz_CD op' ar' K N E S r (n' + 1) (48 * r + j) h e sc ∧ e ≤ h + 4 * (jl + 1 - j) ∧ zc_X op ar wa dn ho op' ar' wa' dn' ho' h e d ∧ zz_R so' nI sc ∧ ∀ (post : SX → Prop) (m : Nat), wpX_close (zx_ck post m (nI jl)) (nI dr, xspecial, xdefined, nI (e), nI (d), nI (sc.length), xcells, xclosures, xtop, xundo, xpc, xenv, xbuffer, xtaken, xoutcome, xrunning, xgiven, xclosed, Xdraft, XdraftValues, op', ar', Xparameter, wa', dn', ho', so', Xplace, Xlocals, Xstack, Xcell, Xparent, Xbodies, Xbinds, Xscopes, Xwhat, Xfirst, Xsecond, Xthird, Xkept) → zx_cl post (m + (jl + 1 - j)) (nI j) (nI dr, xspecial, xdefined, nI (h), nI (d), nI (sc.length), xcells, xclosures, xtop, xundo, xpc, xenv, xbuffer, xtaken, xoutcome, xrunning, xgiven, xclosed, Xdraft, XdraftValues, op, ar, Xparameter, wa, dn, ho, so, Xplace, Xlocals, Xstack, Xcell, Xparent, Xbodies, Xbinds, Xscopes, Xwhat, Xfirst, Xsecond, Xthird, Xkept)) (ek : kd j = 5) : ∃ (e : Nat) (op' ar' wa' dn' ho' so' : Nat → Int32), zz_CD op' ar' K N E S r (n + 1) (48 * r + j) h e sc ∧ e ≤ h + 4 * (jl + 1 - j) ∧ zc_X op ar wa dn ho op' ar' wa' dn' ho' h e d ∧ zz_R so' nI sc ∧ ∀ (post : SX → Prop) (m : Nat), wpX_close (zx_ck post m (nI jl)) (nI dr, xspecial, xdefined, nI (e), nI (d), nI (sc.length), xcells, xclosures, xtop, xundo, xpc, xenv, xbuffer, xtaken, xoutcome, xrunning, xgiven, xclosed, Xdraft, XdraftValues, op', ar', Xparameter, wa', dn', ho', so', Xplace, Xlocals, Xstack, Xcell, Xparent, Xbodies, Xbinds, Xscopes, Xwhat, Xfirst, Xsecond, Xthird, Xkept) → zx_cl post (m + (jl + 1 - j)) (nI j) (nI dr, xspecial, xdefined, nI (h), nI (d), nI (sc.length), xcells, xclosures, xtop, xundo, xpc, xenv, xbuffer, xtaken, xoutcome, xrunning, xgiven, xclosed, Xdraft, XdraftValues, op, ar, Xparameter, wa, dn, ho, so, Xplace, Xlocals, Xstack, Xcell, Xparent, Xbodies, Xbinds, Xscopes, Xwhat, Xfirst, Xsecond, Xthird, Xkept) := by
  obtain ⟨hr, hdr, hS, hT⟩ := hD
  have l0 := zz_PEl _ _ _ _ hPE
  obtain ⟨hk, h19, hK, hN, hV⟩ := hT j (by omega)
  rw [ek, show zz_op 5 = 2 from by decide] at hPE l0
  rw [ek] at hk h19 hK
  obtain ⟨n', c, en, hE1, hP1, hP2⟩ := zz_PE2 hPE
  have en : n' + 1 = n := en.symm
  subst en
  have l1 := zz_PEl _ _ _ _ hP1
  have l2 := zz_PEl _ _ _ _ hP2
  obtain ⟨c, ec⟩ : ∃ c', c = c' + 1 := ⟨c - 1, by omega⟩
  subst ec
  obtain ⟨e1, op1, ar1, wa1, dn1, ho1, so1, hC, he, hX, hR1, hG⟩ := IH n' rfl (j + 1) c (h + 1) (d + 1) sc (upd op h (nI 20)) (upd ar h 0) (upd wa d (nI j)) (upd dn d (nI 0)) ho so hP1 (by omega) hR hB (by omega) (by omega) (by omega) (by omega)
  have cb := hC.1
  obtain ⟨e2, op2, ar2, wa2, dn2, ho2, so2, hC2, he2, hX2, hR2, hG2⟩ := IH n' rfl (c + 1) jl e1 (d + 1) sc op1 ar1 wa1 (upd dn1 d (nI 1)) ho1 so1 hP2 hjl hR1 hB (by omega) (by omega) (by omega) (by omega)
  have cb2 := hC2.1
  refine ⟨e2 + 1, upd op2 e2 (nI 5), upd ar2 e2 (XdraftValues j), wa2, upd dn2 d (nI 2), ho2, so2, ?_, by omega, ⟨fun i hi => ⟨?_, ?_⟩, fun i hi => ⟨?_, ?_, ?_⟩⟩, hR2, fun post m HC => ?_⟩
  · refine ⟨⟨by omega, by omega, hh, by omega, by omega⟩, by rw [pk_un (by omega), (hX2.1 _ (by omega)).1, (hX.1 _ (by omega)).1, pk_us]; rfl, Or.inr (Or.inr (Or.inr (Or.inr (Or.inr (Or.inr (Or.inl ⟨by rw [hK]; decide, 48 * r + (c + 1), e1, e2, hE1, ?_, ?_, by rw [pk_us, hK], rfl⟩))))))⟩
    · exact zz_CDc (fun _ _ _ => ⟨rfl, rfl, rfl⟩) _ _ _ _ _ (fun i h1 h2 => ⟨(pk_un (by omega)).trans (hX2.1 _ (by omega)).1, (pk_un (by omega)).trans (hX2.1 _ (by omega)).2⟩) hC
    · exact zz_CDc (fun _ _ _ => ⟨rfl, rfl, rfl⟩) _ _ _ _ _ (fun i h1 h2 => ⟨pk_un (by omega), pk_un (by omega)⟩) hC2
  · rw [pk_un (by omega), (hX2.1 _ (by omega)).1, (hX.1 _ (by omega)).1, pk_un (by omega)]
  · rw [pk_un (by omega), (hX2.1 _ (by omega)).2, (hX.1 _ (by omega)).2, pk_un (by omega)]
  · rw [(hX2.2 _ (by omega)).1, (hX.2 _ (by omega)).1, pk_un (by omega)]
  · rw [pk_un (by omega), (hX2.2 _ (by omega)).2.1, pk_un (by omega), (hX.2 _ (by omega)).2.1, pk_un (by omega)]
  · rw [(hX2.2 _ (by omega)).2.2, (hX.2 _ (by omega)).2.2]
  · rw [show m + (jl + 1 - j) = m + (jl + 1 - (c + 1)) + (c + 1 - (j + 1)) + 1 from by omega]
    refine zx_cl_1 (d := d) (by omega) hdr hk h19 (by decide) (by omega) (fun Q HQ => zx_begin_d (by decide) (by omega) HQ) (hG post _ ?_)
    refine zx_close_m (w := j) (k := 5) (c := 0) (by omega) ((hX.2 d (by omega)).1.trans pk_us) (by omega) hk h19 ((hX.2 d (by omega)).2.1.trans pk_us) (by decide) (fun Q HQ => zx_behind_2a (by decide) HQ) (zx_ck_cl (hG2 post m ?_))
    refine zx_close_l (w := j) (k := 5) (c := 1) (by omega) ((hX2.2 d (by omega)).1.trans ((hX.2 d (by omega)).1.trans pk_us)) (by omega) hk h19 ((hX2.2 d (by omega)).2.1.trans pk_us) (by decide) (fun Q HQ => ?_) HC
    exact zx_behind_2b (by decide) (by omega) HQ
theorem zc_9 (hD : zc_D kd K N E S Xdraft XdraftValues xspecial r dr) {n j jl h d : Nat} {sc : List Nat} {op ar wa dn ho so : Nat → Int32} (hPE : zz_PE kd E (48 * r) n (zz_op (kd j)) (j + 1) (jl + 1)) (hjl : jl < dr) (hR : zz_R so nI sc) (hB : ∀ x, x ∈ sc → x < 8) (hh : 256 * r ≤ h) (hh2 : h + 4 * (jl + 1 - j) < 256 * r + 256) (hd : d + (jl + 1 - j) ≤ 48) (hl : sc.length + (jl + 1 - j) ≤ 49) (IH : ∀ n', n' + 1 = n → ∀ (j jl h d : Nat) (sc : List Nat) (op ar wa dn ho so : Nat → Int32), zz_PE kd E (48 * r) (n') (zz_op (kd j)) (j + 1) (jl + 1) → jl < dr → zz_R so nI sc → (∀ x, x ∈ sc → x < 8) → 256 * r ≤ h → h + 4 * (jl + 1 - j) < 256 * r + 256 → d + (jl + 1 - j) ≤ 48 → sc.length + (jl + 1 - j) ≤ 49 → ∃ (e : Nat) (op' ar' wa' dn' ho' so' : Nat → Int32), zz_CD op' ar' K N E S r (n' + 1) (48 * r + j) h e sc ∧ e ≤ h + 4 * (jl + 1 - j) ∧ zc_X op ar wa dn ho op' ar' wa' dn' ho' h e d ∧ zz_R so' nI sc ∧ ∀ (post : SX → Prop) (m : Nat), wpX_close (zx_ck post m (nI jl)) (nI dr, xspecial, xdefined, nI (e), nI (d), nI (sc.length), xcells, xclosures, xtop, xundo, xpc, xenv, xbuffer, xtaken, xoutcome, xrunning, xgiven, xclosed, Xdraft, XdraftValues, op', ar', Xparameter, wa', dn', ho', so', Xplace, Xlocals, Xstack, Xcell, Xparent, Xbodies, Xbinds, Xscopes, Xwhat, Xfirst, Xsecond, Xthird, Xkept) → zx_cl post (m + (jl + 1 - j)) (nI j) (nI dr, xspecial, xdefined, nI (h), nI (d), nI (sc.length), xcells, xclosures, xtop, xundo, xpc, xenv, xbuffer, xtaken, xoutcome, xrunning, xgiven, xclosed, Xdraft, XdraftValues, op, ar, Xparameter, wa, dn, ho, so, Xplace, Xlocals, Xstack, Xcell, Xparent, Xbodies, Xbinds, Xscopes, Xwhat, Xfirst, Xsecond, Xthird, Xkept)) (ek : kd j = 9) : ∃ (e : Nat) (op' ar' wa' dn' ho' so' : Nat → Int32), zz_CD op' ar' K N E S r (n + 1) (48 * r + j) h e sc ∧ e ≤ h + 4 * (jl + 1 - j) ∧ zc_X op ar wa dn ho op' ar' wa' dn' ho' h e d ∧ zz_R so' nI sc ∧ ∀ (post : SX → Prop) (m : Nat), wpX_close (zx_ck post m (nI jl)) (nI dr, xspecial, xdefined, nI (e), nI (d), nI (sc.length), xcells, xclosures, xtop, xundo, xpc, xenv, xbuffer, xtaken, xoutcome, xrunning, xgiven, xclosed, Xdraft, XdraftValues, op', ar', Xparameter, wa', dn', ho', so', Xplace, Xlocals, Xstack, Xcell, Xparent, Xbodies, Xbinds, Xscopes, Xwhat, Xfirst, Xsecond, Xthird, Xkept) → zx_cl post (m + (jl + 1 - j)) (nI j) (nI dr, xspecial, xdefined, nI (h), nI (d), nI (sc.length), xcells, xclosures, xtop, xundo, xpc, xenv, xbuffer, xtaken, xoutcome, xrunning, xgiven, xclosed, Xdraft, XdraftValues, op, ar, Xparameter, wa, dn, ho, so, Xplace, Xlocals, Xstack, Xcell, Xparent, Xbodies, Xbinds, Xscopes, Xwhat, Xfirst, Xsecond, Xthird, Xkept) := by
  obtain ⟨hr, hdr, hS, hT⟩ := hD
  have l0 := zz_PEl _ _ _ _ hPE
  obtain ⟨hk, h19, hK, hN, hV⟩ := hT j (by omega)
  rw [ek, show zz_op 9 = 2 from by decide] at hPE l0
  rw [ek] at hk h19 hK
  obtain ⟨n', c, en, hE1, hP1, hP2⟩ := zz_PE2 hPE
  have en : n' + 1 = n := en.symm
  subst en
  have l1 := zz_PEl _ _ _ _ hP1
  have l2 := zz_PEl _ _ _ _ hP2
  obtain ⟨c, ec⟩ : ∃ c', c = c' + 1 := ⟨c - 1, by omega⟩
  subst ec
  obtain ⟨e1, op1, ar1, wa1, dn1, ho1, so1, hC, he, hX, hR1, hG⟩ := IH n' rfl (j + 1) c (h + 1) (d + 1) sc (upd op h (nI 20)) (upd ar h 0) (upd wa d (nI j)) (upd dn d (nI 0)) ho so hP1 (by omega) hR hB (by omega) (by omega) (by omega) (by omega)
  have cb := hC.1
  obtain ⟨e2, op2, ar2, wa2, dn2, ho2, so2, hC2, he2, hX2, hR2, hG2⟩ := IH n' rfl (c + 1) jl e1 (d + 1) sc op1 ar1 wa1 (upd dn1 d (nI 1)) ho1 so1 hP2 hjl hR1 hB (by omega) (by omega) (by omega) (by omega)
  have cb2 := hC2.1
  refine ⟨e2 + 1, upd op2 e2 (nI 9), upd ar2 e2 (XdraftValues j), wa2, upd dn2 d (nI 2), ho2, so2, ?_, by omega, ⟨fun i hi => ⟨?_, ?_⟩, fun i hi => ⟨?_, ?_, ?_⟩⟩, hR2, fun post m HC => ?_⟩
  · refine ⟨⟨by omega, by omega, hh, by omega, by omega⟩, by rw [pk_un (by omega), (hX2.1 _ (by omega)).1, (hX.1 _ (by omega)).1, pk_us]; rfl, Or.inr (Or.inr (Or.inr (Or.inr (Or.inr (Or.inr (Or.inl ⟨by rw [hK]; decide, 48 * r + (c + 1), e1, e2, hE1, ?_, ?_, by rw [pk_us, hK], rfl⟩))))))⟩
    · exact zz_CDc (fun _ _ _ => ⟨rfl, rfl, rfl⟩) _ _ _ _ _ (fun i h1 h2 => ⟨(pk_un (by omega)).trans (hX2.1 _ (by omega)).1, (pk_un (by omega)).trans (hX2.1 _ (by omega)).2⟩) hC
    · exact zz_CDc (fun _ _ _ => ⟨rfl, rfl, rfl⟩) _ _ _ _ _ (fun i h1 h2 => ⟨pk_un (by omega), pk_un (by omega)⟩) hC2
  · rw [pk_un (by omega), (hX2.1 _ (by omega)).1, (hX.1 _ (by omega)).1, pk_un (by omega)]
  · rw [pk_un (by omega), (hX2.1 _ (by omega)).2, (hX.1 _ (by omega)).2, pk_un (by omega)]
  · rw [(hX2.2 _ (by omega)).1, (hX.2 _ (by omega)).1, pk_un (by omega)]
  · rw [pk_un (by omega), (hX2.2 _ (by omega)).2.1, pk_un (by omega), (hX.2 _ (by omega)).2.1, pk_un (by omega)]
  · rw [(hX2.2 _ (by omega)).2.2, (hX.2 _ (by omega)).2.2]
  · rw [show m + (jl + 1 - j) = m + (jl + 1 - (c + 1)) + (c + 1 - (j + 1)) + 1 from by omega]
    refine zx_cl_1 (d := d) (by omega) hdr hk h19 (by decide) (by omega) (fun Q HQ => zx_begin_d (by decide) (by omega) HQ) (hG post _ ?_)
    refine zx_close_m (w := j) (k := 9) (c := 0) (by omega) ((hX.2 d (by omega)).1.trans pk_us) (by omega) hk h19 ((hX.2 d (by omega)).2.1.trans pk_us) (by decide) (fun Q HQ => zx_behind_2a (by decide) HQ) (zx_ck_cl (hG2 post m ?_))
    refine zx_close_l (w := j) (k := 9) (c := 1) (by omega) ((hX2.2 d (by omega)).1.trans ((hX.2 d (by omega)).1.trans pk_us)) (by omega) hk h19 ((hX2.2 d (by omega)).2.1.trans pk_us) (by decide) (fun Q HQ => ?_) HC
    exact zx_behind_2b (by decide) (by omega) HQ
theorem zc_10 (hD : zc_D kd K N E S Xdraft XdraftValues xspecial r dr) {n j jl h d : Nat} {sc : List Nat} {op ar wa dn ho so : Nat → Int32} (hPE : zz_PE kd E (48 * r) n (zz_op (kd j)) (j + 1) (jl + 1)) (hjl : jl < dr) (hR : zz_R so nI sc) (hB : ∀ x, x ∈ sc → x < 8) (hh : 256 * r ≤ h) (hh2 : h + 4 * (jl + 1 - j) < 256 * r + 256) (hd : d + (jl + 1 - j) ≤ 48) (hl : sc.length + (jl + 1 - j) ≤ 49) (IH : ∀ n', n' + 1 = n → ∀ (j jl h d : Nat) (sc : List Nat) (op ar wa dn ho so : Nat → Int32), zz_PE kd E (48 * r) (n') (zz_op (kd j)) (j + 1) (jl + 1) → jl < dr → zz_R so nI sc → (∀ x, x ∈ sc → x < 8) → 256 * r ≤ h → h + 4 * (jl + 1 - j) < 256 * r + 256 → d + (jl + 1 - j) ≤ 48 → sc.length + (jl + 1 - j) ≤ 49 → ∃ (e : Nat) (op' ar' wa' dn' ho' so' : Nat → Int32), zz_CD op' ar' K N E S r (n' + 1) (48 * r + j) h e sc ∧ e ≤ h + 4 * (jl + 1 - j) ∧ zc_X op ar wa dn ho op' ar' wa' dn' ho' h e d ∧ zz_R so' nI sc ∧ ∀ (post : SX → Prop) (m : Nat), wpX_close (zx_ck post m (nI jl)) (nI dr, xspecial, xdefined, nI (e), nI (d), nI (sc.length), xcells, xclosures, xtop, xundo, xpc, xenv, xbuffer, xtaken, xoutcome, xrunning, xgiven, xclosed, Xdraft, XdraftValues, op', ar', Xparameter, wa', dn', ho', so', Xplace, Xlocals, Xstack, Xcell, Xparent, Xbodies, Xbinds, Xscopes, Xwhat, Xfirst, Xsecond, Xthird, Xkept) → zx_cl post (m + (jl + 1 - j)) (nI j) (nI dr, xspecial, xdefined, nI (h), nI (d), nI (sc.length), xcells, xclosures, xtop, xundo, xpc, xenv, xbuffer, xtaken, xoutcome, xrunning, xgiven, xclosed, Xdraft, XdraftValues, op, ar, Xparameter, wa, dn, ho, so, Xplace, Xlocals, Xstack, Xcell, Xparent, Xbodies, Xbinds, Xscopes, Xwhat, Xfirst, Xsecond, Xthird, Xkept)) (ek : kd j = 10) : ∃ (e : Nat) (op' ar' wa' dn' ho' so' : Nat → Int32), zz_CD op' ar' K N E S r (n + 1) (48 * r + j) h e sc ∧ e ≤ h + 4 * (jl + 1 - j) ∧ zc_X op ar wa dn ho op' ar' wa' dn' ho' h e d ∧ zz_R so' nI sc ∧ ∀ (post : SX → Prop) (m : Nat), wpX_close (zx_ck post m (nI jl)) (nI dr, xspecial, xdefined, nI (e), nI (d), nI (sc.length), xcells, xclosures, xtop, xundo, xpc, xenv, xbuffer, xtaken, xoutcome, xrunning, xgiven, xclosed, Xdraft, XdraftValues, op', ar', Xparameter, wa', dn', ho', so', Xplace, Xlocals, Xstack, Xcell, Xparent, Xbodies, Xbinds, Xscopes, Xwhat, Xfirst, Xsecond, Xthird, Xkept) → zx_cl post (m + (jl + 1 - j)) (nI j) (nI dr, xspecial, xdefined, nI (h), nI (d), nI (sc.length), xcells, xclosures, xtop, xundo, xpc, xenv, xbuffer, xtaken, xoutcome, xrunning, xgiven, xclosed, Xdraft, XdraftValues, op, ar, Xparameter, wa, dn, ho, so, Xplace, Xlocals, Xstack, Xcell, Xparent, Xbodies, Xbinds, Xscopes, Xwhat, Xfirst, Xsecond, Xthird, Xkept) := by
  obtain ⟨hr, hdr, hS, hT⟩ := hD
  have l0 := zz_PEl _ _ _ _ hPE
  obtain ⟨hk, h19, hK, hN, hV⟩ := hT j (by omega)
  rw [ek, show zz_op 10 = 2 from by decide] at hPE l0
  rw [ek] at hk h19 hK
  obtain ⟨n', c, en, hE1, hP1, hP2⟩ := zz_PE2 hPE
  have en : n' + 1 = n := en.symm
  subst en
  have l1 := zz_PEl _ _ _ _ hP1
  have l2 := zz_PEl _ _ _ _ hP2
  obtain ⟨c, ec⟩ : ∃ c', c = c' + 1 := ⟨c - 1, by omega⟩
  subst ec
  obtain ⟨e1, op1, ar1, wa1, dn1, ho1, so1, hC, he, hX, hR1, hG⟩ := IH n' rfl (j + 1) c (h + 1) (d + 1) sc (upd op h (nI 20)) (upd ar h 0) (upd wa d (nI j)) (upd dn d (nI 0)) ho so hP1 (by omega) hR hB (by omega) (by omega) (by omega) (by omega)
  have cb := hC.1
  obtain ⟨e2, op2, ar2, wa2, dn2, ho2, so2, hC2, he2, hX2, hR2, hG2⟩ := IH n' rfl (c + 1) jl e1 (d + 1) sc op1 ar1 wa1 (upd dn1 d (nI 1)) ho1 so1 hP2 hjl hR1 hB (by omega) (by omega) (by omega) (by omega)
  have cb2 := hC2.1
  refine ⟨e2 + 1, upd op2 e2 (nI 10), upd ar2 e2 (XdraftValues j), wa2, upd dn2 d (nI 2), ho2, so2, ?_, by omega, ⟨fun i hi => ⟨?_, ?_⟩, fun i hi => ⟨?_, ?_, ?_⟩⟩, hR2, fun post m HC => ?_⟩
  · refine ⟨⟨by omega, by omega, hh, by omega, by omega⟩, by rw [pk_un (by omega), (hX2.1 _ (by omega)).1, (hX.1 _ (by omega)).1, pk_us]; rfl, Or.inr (Or.inr (Or.inr (Or.inr (Or.inr (Or.inr (Or.inl ⟨by rw [hK]; decide, 48 * r + (c + 1), e1, e2, hE1, ?_, ?_, by rw [pk_us, hK], rfl⟩))))))⟩
    · exact zz_CDc (fun _ _ _ => ⟨rfl, rfl, rfl⟩) _ _ _ _ _ (fun i h1 h2 => ⟨(pk_un (by omega)).trans (hX2.1 _ (by omega)).1, (pk_un (by omega)).trans (hX2.1 _ (by omega)).2⟩) hC
    · exact zz_CDc (fun _ _ _ => ⟨rfl, rfl, rfl⟩) _ _ _ _ _ (fun i h1 h2 => ⟨pk_un (by omega), pk_un (by omega)⟩) hC2
  · rw [pk_un (by omega), (hX2.1 _ (by omega)).1, (hX.1 _ (by omega)).1, pk_un (by omega)]
  · rw [pk_un (by omega), (hX2.1 _ (by omega)).2, (hX.1 _ (by omega)).2, pk_un (by omega)]
  · rw [(hX2.2 _ (by omega)).1, (hX.2 _ (by omega)).1, pk_un (by omega)]
  · rw [pk_un (by omega), (hX2.2 _ (by omega)).2.1, pk_un (by omega), (hX.2 _ (by omega)).2.1, pk_un (by omega)]
  · rw [(hX2.2 _ (by omega)).2.2, (hX.2 _ (by omega)).2.2]
  · rw [show m + (jl + 1 - j) = m + (jl + 1 - (c + 1)) + (c + 1 - (j + 1)) + 1 from by omega]
    refine zx_cl_1 (d := d) (by omega) hdr hk h19 (by decide) (by omega) (fun Q HQ => zx_begin_d (by decide) (by omega) HQ) (hG post _ ?_)
    refine zx_close_m (w := j) (k := 10) (c := 0) (by omega) ((hX.2 d (by omega)).1.trans pk_us) (by omega) hk h19 ((hX.2 d (by omega)).2.1.trans pk_us) (by decide) (fun Q HQ => zx_behind_2a (by decide) HQ) (zx_ck_cl (hG2 post m ?_))
    refine zx_close_l (w := j) (k := 10) (c := 1) (by omega) ((hX2.2 d (by omega)).1.trans ((hX.2 d (by omega)).1.trans pk_us)) (by omega) hk h19 ((hX2.2 d (by omega)).2.1.trans pk_us) (by decide) (fun Q HQ => ?_) HC
    exact zx_behind_2b (by decide) (by omega) HQ
theorem zc_11 (hD : zc_D kd K N E S Xdraft XdraftValues xspecial r dr) {n j jl h d : Nat} {sc : List Nat} {op ar wa dn ho so : Nat → Int32} (hPE : zz_PE kd E (48 * r) n (zz_op (kd j)) (j + 1) (jl + 1)) (hjl : jl < dr) (hR : zz_R so nI sc) (hB : ∀ x, x ∈ sc → x < 8) (hh : 256 * r ≤ h) (hh2 : h + 4 * (jl + 1 - j) < 256 * r + 256) (hd : d + (jl + 1 - j) ≤ 48) (hl : sc.length + (jl + 1 - j) ≤ 49) (IH : ∀ n', n' + 1 = n → ∀ (j jl h d : Nat) (sc : List Nat) (op ar wa dn ho so : Nat → Int32), zz_PE kd E (48 * r) (n') (zz_op (kd j)) (j + 1) (jl + 1) → jl < dr → zz_R so nI sc → (∀ x, x ∈ sc → x < 8) → 256 * r ≤ h → h + 4 * (jl + 1 - j) < 256 * r + 256 → d + (jl + 1 - j) ≤ 48 → sc.length + (jl + 1 - j) ≤ 49 → ∃ (e : Nat) (op' ar' wa' dn' ho' so' : Nat → Int32), zz_CD op' ar' K N E S r (n' + 1) (48 * r + j) h e sc ∧ e ≤ h + 4 * (jl + 1 - j) ∧ zc_X op ar wa dn ho op' ar' wa' dn' ho' h e d ∧ zz_R so' nI sc ∧ ∀ (post : SX → Prop) (m : Nat), wpX_close (zx_ck post m (nI jl)) (nI dr, xspecial, xdefined, nI (e), nI (d), nI (sc.length), xcells, xclosures, xtop, xundo, xpc, xenv, xbuffer, xtaken, xoutcome, xrunning, xgiven, xclosed, Xdraft, XdraftValues, op', ar', Xparameter, wa', dn', ho', so', Xplace, Xlocals, Xstack, Xcell, Xparent, Xbodies, Xbinds, Xscopes, Xwhat, Xfirst, Xsecond, Xthird, Xkept) → zx_cl post (m + (jl + 1 - j)) (nI j) (nI dr, xspecial, xdefined, nI (h), nI (d), nI (sc.length), xcells, xclosures, xtop, xundo, xpc, xenv, xbuffer, xtaken, xoutcome, xrunning, xgiven, xclosed, Xdraft, XdraftValues, op, ar, Xparameter, wa, dn, ho, so, Xplace, Xlocals, Xstack, Xcell, Xparent, Xbodies, Xbinds, Xscopes, Xwhat, Xfirst, Xsecond, Xthird, Xkept)) (ek : kd j = 11) : ∃ (e : Nat) (op' ar' wa' dn' ho' so' : Nat → Int32), zz_CD op' ar' K N E S r (n + 1) (48 * r + j) h e sc ∧ e ≤ h + 4 * (jl + 1 - j) ∧ zc_X op ar wa dn ho op' ar' wa' dn' ho' h e d ∧ zz_R so' nI sc ∧ ∀ (post : SX → Prop) (m : Nat), wpX_close (zx_ck post m (nI jl)) (nI dr, xspecial, xdefined, nI (e), nI (d), nI (sc.length), xcells, xclosures, xtop, xundo, xpc, xenv, xbuffer, xtaken, xoutcome, xrunning, xgiven, xclosed, Xdraft, XdraftValues, op', ar', Xparameter, wa', dn', ho', so', Xplace, Xlocals, Xstack, Xcell, Xparent, Xbodies, Xbinds, Xscopes, Xwhat, Xfirst, Xsecond, Xthird, Xkept) → zx_cl post (m + (jl + 1 - j)) (nI j) (nI dr, xspecial, xdefined, nI (h), nI (d), nI (sc.length), xcells, xclosures, xtop, xundo, xpc, xenv, xbuffer, xtaken, xoutcome, xrunning, xgiven, xclosed, Xdraft, XdraftValues, op, ar, Xparameter, wa, dn, ho, so, Xplace, Xlocals, Xstack, Xcell, Xparent, Xbodies, Xbinds, Xscopes, Xwhat, Xfirst, Xsecond, Xthird, Xkept) := by
  obtain ⟨hr, hdr, hS, hT⟩ := hD
  have l0 := zz_PEl _ _ _ _ hPE
  obtain ⟨hk, h19, hK, hN, hV⟩ := hT j (by omega)
  rw [ek, show zz_op 11 = 2 from by decide] at hPE l0
  rw [ek] at hk h19 hK
  obtain ⟨n', c, en, hE1, hP1, hP2⟩ := zz_PE2 hPE
  have en : n' + 1 = n := en.symm
  subst en
  have l1 := zz_PEl _ _ _ _ hP1
  have l2 := zz_PEl _ _ _ _ hP2
  obtain ⟨c, ec⟩ : ∃ c', c = c' + 1 := ⟨c - 1, by omega⟩
  subst ec
  obtain ⟨e1, op1, ar1, wa1, dn1, ho1, so1, hC, he, hX, hR1, hG⟩ := IH n' rfl (j + 1) c (h + 1) (d + 1) sc (upd op h (nI 20)) (upd ar h 0) (upd wa d (nI j)) (upd dn d (nI 0)) ho so hP1 (by omega) hR hB (by omega) (by omega) (by omega) (by omega)
  have cb := hC.1
  obtain ⟨e2, op2, ar2, wa2, dn2, ho2, so2, hC2, he2, hX2, hR2, hG2⟩ := IH n' rfl (c + 1) jl e1 (d + 1) sc op1 ar1 wa1 (upd dn1 d (nI 1)) ho1 so1 hP2 hjl hR1 hB (by omega) (by omega) (by omega) (by omega)
  have cb2 := hC2.1
  refine ⟨e2 + 1, upd op2 e2 (nI 11), upd ar2 e2 (XdraftValues j), wa2, upd dn2 d (nI 2), ho2, so2, ?_, by omega, ⟨fun i hi => ⟨?_, ?_⟩, fun i hi => ⟨?_, ?_, ?_⟩⟩, hR2, fun post m HC => ?_⟩
  · refine ⟨⟨by omega, by omega, hh, by omega, by omega⟩, by rw [pk_un (by omega), (hX2.1 _ (by omega)).1, (hX.1 _ (by omega)).1, pk_us]; rfl, Or.inr (Or.inr (Or.inr (Or.inr (Or.inr (Or.inr (Or.inl ⟨by rw [hK]; decide, 48 * r + (c + 1), e1, e2, hE1, ?_, ?_, by rw [pk_us, hK], rfl⟩))))))⟩
    · exact zz_CDc (fun _ _ _ => ⟨rfl, rfl, rfl⟩) _ _ _ _ _ (fun i h1 h2 => ⟨(pk_un (by omega)).trans (hX2.1 _ (by omega)).1, (pk_un (by omega)).trans (hX2.1 _ (by omega)).2⟩) hC
    · exact zz_CDc (fun _ _ _ => ⟨rfl, rfl, rfl⟩) _ _ _ _ _ (fun i h1 h2 => ⟨pk_un (by omega), pk_un (by omega)⟩) hC2
  · rw [pk_un (by omega), (hX2.1 _ (by omega)).1, (hX.1 _ (by omega)).1, pk_un (by omega)]
  · rw [pk_un (by omega), (hX2.1 _ (by omega)).2, (hX.1 _ (by omega)).2, pk_un (by omega)]
  · rw [(hX2.2 _ (by omega)).1, (hX.2 _ (by omega)).1, pk_un (by omega)]
  · rw [pk_un (by omega), (hX2.2 _ (by omega)).2.1, pk_un (by omega), (hX.2 _ (by omega)).2.1, pk_un (by omega)]
  · rw [(hX2.2 _ (by omega)).2.2, (hX.2 _ (by omega)).2.2]
  · rw [show m + (jl + 1 - j) = m + (jl + 1 - (c + 1)) + (c + 1 - (j + 1)) + 1 from by omega]
    refine zx_cl_1 (d := d) (by omega) hdr hk h19 (by decide) (by omega) (fun Q HQ => zx_begin_d (by decide) (by omega) HQ) (hG post _ ?_)
    refine zx_close_m (w := j) (k := 11) (c := 0) (by omega) ((hX.2 d (by omega)).1.trans pk_us) (by omega) hk h19 ((hX.2 d (by omega)).2.1.trans pk_us) (by decide) (fun Q HQ => zx_behind_2a (by decide) HQ) (zx_ck_cl (hG2 post m ?_))
    refine zx_close_l (w := j) (k := 11) (c := 1) (by omega) ((hX2.2 d (by omega)).1.trans ((hX.2 d (by omega)).1.trans pk_us)) (by omega) hk h19 ((hX2.2 d (by omega)).2.1.trans pk_us) (by decide) (fun Q HQ => ?_) HC
    exact zx_behind_2b (by decide) (by omega) HQ
theorem zc_7 (hD : zc_D kd K N E S Xdraft XdraftValues xspecial r dr) {n j jl h d : Nat} {sc : List Nat} {op ar wa dn ho so : Nat → Int32} (hPE : zz_PE kd E (48 * r) n (zz_op (kd j)) (j + 1) (jl + 1)) (hjl : jl < dr) (hR : zz_R so nI sc) (hB : ∀ x, x ∈ sc → x < 8) (hh : 256 * r ≤ h) (hh2 : h + 4 * (jl + 1 - j) < 256 * r + 256) (hd : d + (jl + 1 - j) ≤ 48) (hl : sc.length + (jl + 1 - j) ≤ 49) (IH : ∀ n', n' + 1 = n → ∀ (j jl h d : Nat) (sc : List Nat) (op ar wa dn ho so : Nat → Int32), zz_PE kd E (48 * r) (n') (zz_op (kd j)) (j + 1) (jl + 1) → jl < dr → zz_R so nI sc → (∀ x, x ∈ sc → x < 8) → 256 * r ≤ h → h + 4 * (jl + 1 - j) < 256 * r + 256 → d + (jl + 1 - j) ≤ 48 → sc.length + (jl + 1 - j) ≤ 49 → ∃ (e : Nat) (op' ar' wa' dn' ho' so' : Nat → Int32), zz_CD op' ar' K N E S r (n' + 1) (48 * r + j) h e sc ∧ e ≤ h + 4 * (jl + 1 - j) ∧ zc_X op ar wa dn ho op' ar' wa' dn' ho' h e d ∧ zz_R so' nI sc ∧ ∀ (post : SX → Prop) (m : Nat), wpX_close (zx_ck post m (nI jl)) (nI dr, xspecial, xdefined, nI (e), nI (d), nI (sc.length), xcells, xclosures, xtop, xundo, xpc, xenv, xbuffer, xtaken, xoutcome, xrunning, xgiven, xclosed, Xdraft, XdraftValues, op', ar', Xparameter, wa', dn', ho', so', Xplace, Xlocals, Xstack, Xcell, Xparent, Xbodies, Xbinds, Xscopes, Xwhat, Xfirst, Xsecond, Xthird, Xkept) → zx_cl post (m + (jl + 1 - j)) (nI j) (nI dr, xspecial, xdefined, nI (h), nI (d), nI (sc.length), xcells, xclosures, xtop, xundo, xpc, xenv, xbuffer, xtaken, xoutcome, xrunning, xgiven, xclosed, Xdraft, XdraftValues, op, ar, Xparameter, wa, dn, ho, so, Xplace, Xlocals, Xstack, Xcell, Xparent, Xbodies, Xbinds, Xscopes, Xwhat, Xfirst, Xsecond, Xthird, Xkept)) (ek : kd j = 7) : ∃ (e : Nat) (op' ar' wa' dn' ho' so' : Nat → Int32), zz_CD op' ar' K N E S r (n + 1) (48 * r + j) h e sc ∧ e ≤ h + 4 * (jl + 1 - j) ∧ zc_X op ar wa dn ho op' ar' wa' dn' ho' h e d ∧ zz_R so' nI sc ∧ ∀ (post : SX → Prop) (m : Nat), wpX_close (zx_ck post m (nI jl)) (nI dr, xspecial, xdefined, nI (e), nI (d), nI (sc.length), xcells, xclosures, xtop, xundo, xpc, xenv, xbuffer, xtaken, xoutcome, xrunning, xgiven, xclosed, Xdraft, XdraftValues, op', ar', Xparameter, wa', dn', ho', so', Xplace, Xlocals, Xstack, Xcell, Xparent, Xbodies, Xbinds, Xscopes, Xwhat, Xfirst, Xsecond, Xthird, Xkept) → zx_cl post (m + (jl + 1 - j)) (nI j) (nI dr, xspecial, xdefined, nI (h), nI (d), nI (sc.length), xcells, xclosures, xtop, xundo, xpc, xenv, xbuffer, xtaken, xoutcome, xrunning, xgiven, xclosed, Xdraft, XdraftValues, op, ar, Xparameter, wa, dn, ho, so, Xplace, Xlocals, Xstack, Xcell, Xparent, Xbodies, Xbinds, Xscopes, Xwhat, Xfirst, Xsecond, Xthird, Xkept) := by
  obtain ⟨hr, hdr, hS, hT⟩ := hD
  have l0 := zz_PEl _ _ _ _ hPE
  obtain ⟨hk, h19, hK, hN, hV⟩ := hT j (by omega)
  rw [ek, show zz_op 7 = 2 from by decide] at hPE l0
  rw [ek] at hk h19 hK
  obtain ⟨n', c, en, hE1, hP1, hP2⟩ := zz_PE2 hPE
  have en : n' + 1 = n := en.symm
  subst en
  have l1 := zz_PEl _ _ _ _ hP1
  have l2 := zz_PEl _ _ _ _ hP2
  obtain ⟨c, ec⟩ : ∃ c', c = c' + 1 := ⟨c - 1, by omega⟩
  subst ec
  obtain ⟨e1, op1, ar1, wa1, dn1, ho1, so1, hC, he, hX, hR1, hG⟩ := IH n' rfl (j + 1) c (h + 1) (d + 1) sc (upd op h (nI 20)) (upd ar h 0) (upd wa d (nI j)) (upd dn d (nI 0)) ho so hP1 (by omega) hR hB (by omega) (by omega) (by omega) (by omega)
  have cb := hC.1
  obtain ⟨e2, op2, ar2, wa2, dn2, ho2, so2, hC2, he2, hX2, hR2, hG2⟩ := IH n' rfl (c + 1) jl (e1 + 1) (d + 1) sc (upd op1 e1 (nI 30)) (upd ar1 e1 0) wa1 (upd dn1 d (nI 1)) ho1 so1 hP2 hjl hR1 hB (by omega) (by omega) (by omega) (by omega)
  have cb2 := hC2.1
  refine ⟨e2, op2, ar2, wa2, upd dn2 d (nI 2), ho2, so2, ?_, by omega, ⟨fun i hi => ⟨?_, ?_⟩, fun i hi => ⟨?_, ?_, ?_⟩⟩, hR2, fun post m HC => ?_⟩
  · refine ⟨⟨by omega, by omega, hh, by omega, by omega⟩, by rw [(hX2.1 _ (by omega)).1, pk_un (by omega), (hX.1 _ (by omega)).1, pk_us]; rfl, Or.inr (Or.inr (Or.inr (Or.inr (Or.inr (Or.inr (Or.inr (Or.inr (Or.inl ⟨hK, 48 * r + (c + 1), e1, hE1, ?_, ?_, hC2⟩))))))))⟩
    · exact zz_CDc (fun _ _ _ => ⟨rfl, rfl, rfl⟩) _ _ _ _ _ (fun i h1 h2 => ⟨(hX2.1 _ (by omega)).1.trans (pk_un (by omega)), (hX2.1 _ (by omega)).2.trans (pk_un (by omega))⟩) hC
    · rw [(hX2.1 _ (by omega)).1, pk_us]; rfl
  · rw [(hX2.1 _ (by omega)).1, pk_un (by omega), (hX.1 _ (by omega)).1, pk_un (by omega)]
  · rw [(hX2.1 _ (by omega)).2, pk_un (by omega), (hX.1 _ (by omega)).2, pk_un (by omega)]
  · rw [(hX2.2 _ (by omega)).1, (hX.2 _ (by omega)).1, pk_un (by omega)]
  · rw [pk_un (by omega), (hX2.2 _ (by omega)).2.1, pk_un (by omega), (hX.2 _ (by omega)).2.1, pk_un (by omega)]
  · rw [(hX2.2 _ (by omega)).2.2, (hX.2 _ (by omega)).2.2]
  · rw [show m + (jl + 1 - j) = m + (jl + 1 - (c + 1)) + (c + 1 - (j + 1)) + 1 from by omega]
    refine zx_cl_1 (d := d) (by omega) hdr hk h19 (by decide) (by omega) (fun Q HQ => zx_begin_d (by decide) (by omega) HQ) (hG post _ ?_)
    refine zx_close_m (w := j) (k := 7) (c := 0) (by omega) ((hX.2 d (by omega)).1.trans pk_us) (by omega) hk h19 ((hX.2 d (by omega)).2.1.trans pk_us) (by decide) (fun Q HQ => zx_behind_7a (by omega) HQ) (zx_ck_cl (hG2 post m ?_))
    refine zx_close_l (w := j) (k := 7) (c := 1) (by omega) ((hX2.2 d (by omega)).1.trans ((hX.2 d (by omega)).1.trans pk_us)) (by omega) hk h19 ((hX2.2 d (by omega)).2.1.trans pk_us) (by decide) (fun Q HQ => ?_) HC
    exact zx_behind_7b HQ
theorem zc_3 (hD : zc_D kd K N E S Xdraft XdraftValues xspecial r dr) {n j jl h d : Nat} {sc : List Nat} {op ar wa dn ho so : Nat → Int32} (hPE : zz_PE kd E (48 * r) n (zz_op (kd j)) (j + 1) (jl + 1)) (hjl : jl < dr) (hR : zz_R so nI sc) (hB : ∀ x, x ∈ sc → x < 8) (hh : 256 * r ≤ h) (hh2 : h + 4 * (jl + 1 - j) < 256 * r + 256) (hd : d + (jl + 1 - j) ≤ 48) (hl : sc.length + (jl + 1 - j) ≤ 49) (IH : ∀ n', n' + 1 = n → ∀ (j jl h d : Nat) (sc : List Nat) (op ar wa dn ho so : Nat → Int32), zz_PE kd E (48 * r) (n') (zz_op (kd j)) (j + 1) (jl + 1) → jl < dr → zz_R so nI sc → (∀ x, x ∈ sc → x < 8) → 256 * r ≤ h → h + 4 * (jl + 1 - j) < 256 * r + 256 → d + (jl + 1 - j) ≤ 48 → sc.length + (jl + 1 - j) ≤ 49 → ∃ (e : Nat) (op' ar' wa' dn' ho' so' : Nat → Int32), zz_CD op' ar' K N E S r (n' + 1) (48 * r + j) h e sc ∧ e ≤ h + 4 * (jl + 1 - j) ∧ zc_X op ar wa dn ho op' ar' wa' dn' ho' h e d ∧ zz_R so' nI sc ∧ ∀ (post : SX → Prop) (m : Nat), wpX_close (zx_ck post m (nI jl)) (nI dr, xspecial, xdefined, nI (e), nI (d), nI (sc.length), xcells, xclosures, xtop, xundo, xpc, xenv, xbuffer, xtaken, xoutcome, xrunning, xgiven, xclosed, Xdraft, XdraftValues, op', ar', Xparameter, wa', dn', ho', so', Xplace, Xlocals, Xstack, Xcell, Xparent, Xbodies, Xbinds, Xscopes, Xwhat, Xfirst, Xsecond, Xthird, Xkept) → zx_cl post (m + (jl + 1 - j)) (nI j) (nI dr, xspecial, xdefined, nI (h), nI (d), nI (sc.length), xcells, xclosures, xtop, xundo, xpc, xenv, xbuffer, xtaken, xoutcome, xrunning, xgiven, xclosed, Xdraft, XdraftValues, op, ar, Xparameter, wa, dn, ho, so, Xplace, Xlocals, Xstack, Xcell, Xparent, Xbodies, Xbinds, Xscopes, Xwhat, Xfirst, Xsecond, Xthird, Xkept)) (ek : kd j = 3) : ∃ (e : Nat) (op' ar' wa' dn' ho' so' : Nat → Int32), zz_CD op' ar' K N E S r (n + 1) (48 * r + j) h e sc ∧ e ≤ h + 4 * (jl + 1 - j) ∧ zc_X op ar wa dn ho op' ar' wa' dn' ho' h e d ∧ zz_R so' nI sc ∧ ∀ (post : SX → Prop) (m : Nat), wpX_close (zx_ck post m (nI jl)) (nI dr, xspecial, xdefined, nI (e), nI (d), nI (sc.length), xcells, xclosures, xtop, xundo, xpc, xenv, xbuffer, xtaken, xoutcome, xrunning, xgiven, xclosed, Xdraft, XdraftValues, op', ar', Xparameter, wa', dn', ho', so', Xplace, Xlocals, Xstack, Xcell, Xparent, Xbodies, Xbinds, Xscopes, Xwhat, Xfirst, Xsecond, Xthird, Xkept) → zx_cl post (m + (jl + 1 - j)) (nI j) (nI dr, xspecial, xdefined, nI (h), nI (d), nI (sc.length), xcells, xclosures, xtop, xundo, xpc, xenv, xbuffer, xtaken, xoutcome, xrunning, xgiven, xclosed, Xdraft, XdraftValues, op, ar, Xparameter, wa, dn, ho, so, Xplace, Xlocals, Xstack, Xcell, Xparent, Xbodies, Xbinds, Xscopes, Xwhat, Xfirst, Xsecond, Xthird, Xkept) := by
  obtain ⟨hr, hdr, hS, hT⟩ := hD
  have l0 := zz_PEl _ _ _ _ hPE
  obtain ⟨hk, h19, hK, hN, hV⟩ := hT j (by omega)
  rw [ek, show zz_op 3 = 2 from by decide] at hPE l0
  rw [ek] at hk h19 hK
  obtain ⟨n', c, en, hE1, hP1, hP2⟩ := zz_PE2 hPE
  have en : n' + 1 = n := en.symm
  subst en
  have l1 := zz_PEl _ _ _ _ hP1
  have l2 := zz_PEl _ _ _ _ hP2
  obtain ⟨c, ec⟩ : ∃ c', c = c' + 1 := ⟨c - 1, by omega⟩
  subst ec
  obtain ⟨s, hs, es⟩ := hV (by rw [ek]; decide)
  have hs : s < 8 := by rw [ek] at hs; exact hs
  have hxl := zz_exl (S := S) (s := s) (sc := sc)
  obtain ⟨e1, op1, ar1, wa1, dn1, ho1, so1, hC, he, hX, hR1, hG⟩ := IH n' rfl (j + 1) c (h + 1) (d + 1) sc (upd op h (nI 20)) (upd ar h 0) (upd wa d (nI j)) (upd dn d (nI 0)) ho so hP1 (by omega) hR hB (by omega) (by omega) (by omega) (by omega)
  have cb := hC.1
  obtain ⟨e2, op2, ar2, wa2, dn2, ho2, so2, hC2, he2, hX2, hR2, hG2⟩ := IH n' rfl (c + 1) jl (e1 + 1) (d + 1) (zz_ex S s sc) (upd op1 e1 (nI 21)) (upd ar1 e1 (nI s)) wa1 (upd dn1 d (nI 1)) ho1 (zz_xs S s sc.length so1) hP2 hjl (zz_xsR hR1) (zz_xsB hs hB) (by omega) (by omega) (by omega) (by omega)
  have cb2 := hC2.1
  refine ⟨e2 + 1, upd op2 e2 (nI 22), upd ar2 e2 (nI s), wa2, upd dn2 d (nI 2), ho2, so2, ?_, by omega, ⟨fun i hi => ⟨?_, ?_⟩, fun i hi => ⟨?_, ?_, ?_⟩⟩, zz_exR hR2, fun post m HC => ?_⟩
  · refine ⟨⟨by omega, by omega, hh, by omega, by omega⟩, by rw [pk_un (by omega), (hX2.1 _ (by omega)).1, pk_un (by omega), (hX.1 _ (by omega)).1, pk_us]; rfl, Or.inr (Or.inr (Or.inr (Or.inr (Or.inr (Or.inr (Or.inr (Or.inl ⟨hK, s, 48 * r + (c + 1), e1, e2, hs, by rw [hN, es], hE1, ?_, ?_, ?_, ?_, by rw [pk_us]; rfl, rfl⟩)))))))⟩
    · exact zz_CDc (fun _ _ _ => ⟨rfl, rfl, rfl⟩) _ _ _ _ _ (fun i h1 h2 => ⟨(pk_un (by omega)).trans ((hX2.1 _ (by omega)).1.trans (pk_un (by omega))), (pk_un (by omega)).trans ((hX2.1 _ (by omega)).2.trans (pk_un (by omega)))⟩) hC
    · rw [pk_un (by omega), (hX2.1 _ (by omega)).1, pk_us]; rfl
    · rw [pk_un (by omega), (hX2.1 _ (by omega)).2, pk_us]
    · exact zz_CDc (fun _ _ _ => ⟨rfl, rfl, rfl⟩) _ _ _ _ _ (fun i h1 h2 => ⟨pk_un (by omega), pk_un (by omega)⟩) hC2
  · rw [pk_un (by omega), (hX2.1 _ (by omega)).1, pk_un (by omega), (hX.1 _ (by omega)).1, pk_un (by omega)]
  · rw [pk_un (by omega), (hX2.1 _ (by omega)).2, pk_un (by omega), (hX.1 _ (by omega)).2, pk_un (by omega)]
  · rw [(hX2.2 _ (by omega)).1, (hX.2 _ (by omega)).1, pk_un (by omega)]
  · rw [pk_un (by omega), (hX2.2 _ (by omega)).2.1, pk_un (by omega), (hX.2 _ (by omega)).2.1, pk_un (by omega)]
  · rw [(hX2.2 _ (by omega)).2.2, (hX.2 _ (by omega)).2.2]
  · rw [show m + (jl + 1 - j) = m + (jl + 1 - (c + 1)) + (c + 1 - (j + 1)) + 1 from by omega]
    refine zx_cl_1 (d := d) (by omega) hdr hk h19 (by decide) (by omega) (fun Q HQ => zx_begin_d (by decide) (by omega) HQ) (hG post _ ?_)
    refine zx_close_m (w := j) (k := 3) (c := 0) (by omega) ((hX.2 d (by omega)).1.trans pk_us) (by omega) hk h19 ((hX.2 d (by omega)).2.1.trans pk_us) (by decide) (fun Q HQ => ?_) (zx_ck_cl (hG2 post m ?_))
    · rw [es]
      exact zx_behind_l1 hS hs (by omega) (by omega) HQ
    refine zx_close_l (w := j) (k := 3) (c := 1) (by omega) ((hX2.2 d (by omega)).1.trans ((hX.2 d (by omega)).1.trans pk_us)) (by omega) hk h19 ((hX2.2 d (by omega)).2.1.trans pk_us) (by decide) (fun Q HQ => ?_) HC
    rw [es]
    exact zx_behind_l2 hS hs (by omega) HQ
theorem zc_14 (hD : zc_D kd K N E S Xdraft XdraftValues xspecial r dr) {n j jl h d : Nat} {sc : List Nat} {op ar wa dn ho so : Nat → Int32} (hPE : zz_PE kd E (48 * r) n (zz_op (kd j)) (j + 1) (jl + 1)) (hjl : jl < dr) (hR : zz_R so nI sc) (hB : ∀ x, x ∈ sc → x < 8) (hh : 256 * r ≤ h) (hh2 : h + 4 * (jl + 1 - j) < 256 * r + 256) (hd : d + (jl + 1 - j) ≤ 48) (hl : sc.length + (jl + 1 - j) ≤ 49) (IH : ∀ n', n' + 1 = n → ∀ (j jl h d : Nat) (sc : List Nat) (op ar wa dn ho so : Nat → Int32), zz_PE kd E (48 * r) (n') (zz_op (kd j)) (j + 1) (jl + 1) → jl < dr → zz_R so nI sc → (∀ x, x ∈ sc → x < 8) → 256 * r ≤ h → h + 4 * (jl + 1 - j) < 256 * r + 256 → d + (jl + 1 - j) ≤ 48 → sc.length + (jl + 1 - j) ≤ 49 → ∃ (e : Nat) (op' ar' wa' dn' ho' so' : Nat → Int32), zz_CD op' ar' K N E S r (n' + 1) (48 * r + j) h e sc ∧ e ≤ h + 4 * (jl + 1 - j) ∧ zc_X op ar wa dn ho op' ar' wa' dn' ho' h e d ∧ zz_R so' nI sc ∧ ∀ (post : SX → Prop) (m : Nat), wpX_close (zx_ck post m (nI jl)) (nI dr, xspecial, xdefined, nI (e), nI (d), nI (sc.length), xcells, xclosures, xtop, xundo, xpc, xenv, xbuffer, xtaken, xoutcome, xrunning, xgiven, xclosed, Xdraft, XdraftValues, op', ar', Xparameter, wa', dn', ho', so', Xplace, Xlocals, Xstack, Xcell, Xparent, Xbodies, Xbinds, Xscopes, Xwhat, Xfirst, Xsecond, Xthird, Xkept) → zx_cl post (m + (jl + 1 - j)) (nI j) (nI dr, xspecial, xdefined, nI (h), nI (d), nI (sc.length), xcells, xclosures, xtop, xundo, xpc, xenv, xbuffer, xtaken, xoutcome, xrunning, xgiven, xclosed, Xdraft, XdraftValues, op, ar, Xparameter, wa, dn, ho, so, Xplace, Xlocals, Xstack, Xcell, Xparent, Xbodies, Xbinds, Xscopes, Xwhat, Xfirst, Xsecond, Xthird, Xkept)) (ek : kd j = 14) : ∃ (e : Nat) (op' ar' wa' dn' ho' so' : Nat → Int32), zz_CD op' ar' K N E S r (n + 1) (48 * r + j) h e sc ∧ e ≤ h + 4 * (jl + 1 - j) ∧ zc_X op ar wa dn ho op' ar' wa' dn' ho' h e d ∧ zz_R so' nI sc ∧ ∀ (post : SX → Prop) (m : Nat), wpX_close (zx_ck post m (nI jl)) (nI dr, xspecial, xdefined, nI (e), nI (d), nI (sc.length), xcells, xclosures, xtop, xundo, xpc, xenv, xbuffer, xtaken, xoutcome, xrunning, xgiven, xclosed, Xdraft, XdraftValues, op', ar', Xparameter, wa', dn', ho', so', Xplace, Xlocals, Xstack, Xcell, Xparent, Xbodies, Xbinds, Xscopes, Xwhat, Xfirst, Xsecond, Xthird, Xkept) → zx_cl post (m + (jl + 1 - j)) (nI j) (nI dr, xspecial, xdefined, nI (h), nI (d), nI (sc.length), xcells, xclosures, xtop, xundo, xpc, xenv, xbuffer, xtaken, xoutcome, xrunning, xgiven, xclosed, Xdraft, XdraftValues, op, ar, Xparameter, wa, dn, ho, so, Xplace, Xlocals, Xstack, Xcell, Xparent, Xbodies, Xbinds, Xscopes, Xwhat, Xfirst, Xsecond, Xthird, Xkept) := by
  obtain ⟨hr, hdr, hS, hT⟩ := hD
  have l0 := zz_PEl _ _ _ _ hPE
  obtain ⟨hk, h19, hK, hN, hV⟩ := hT j (by omega)
  rw [ek, show zz_op 14 = 2 from by decide] at hPE l0
  rw [ek] at hk h19 hK
  obtain ⟨n', c, en, hE1, hP1, hP2⟩ := zz_PE2 hPE
  have en : n' + 1 = n := en.symm
  subst en
  have l1 := zz_PEl _ _ _ _ hP1
  have l2 := zz_PEl _ _ _ _ hP2
  obtain ⟨c, ec⟩ : ∃ c', c = c' + 1 := ⟨c - 1, by omega⟩
  subst ec
  obtain ⟨e1, op1, ar1, wa1, dn1, ho1, so1, hC, he, hX, hR1, hG⟩ := IH n' rfl (j + 1) c (h + 1 + 1) (d + 1) sc (upd (upd op h (nI 20)) (h + 1) (nI 35)) (upd (upd ar h 0) (h + 1) 0) (upd wa d (nI j)) (upd dn d (nI 0)) (upd ho d (nI (h + 1))) so hP1 (by omega) hR hB (by omega) (by omega) (by omega) (by omega)
  have cb := hC.1
  obtain ⟨e2, op2, ar2, wa2, dn2, ho2, so2, hC2, he2, hX2, hR2, hG2⟩ := IH n' rfl (c + 1) jl (e1 + 1 + 1) (d + 1) sc (upd (upd op1 e1 (nI 26)) (e1 + 1) (nI 23)) (upd (upd (upd ar1 e1 0) (h + 1) (nI (0 + (e1 + 1 + 1) * 65536))) (e1 + 1) 0) wa1 (upd dn1 d (nI 1)) (upd ho1 d (nI (e1 + 1))) so1 hP2 hjl hR1 hB (by omega) (by omega) (by omega) (by omega)
  have cb2 := hC2.1
  refine ⟨e2, op2, upd ar2 (e1 + 1) (nI (0 + (e2 + 0) * 65536)), wa2, upd dn2 d (nI 2), ho2, so2, ?_, by omega, ⟨fun i hi => ⟨?_, ?_⟩, fun i hi => ⟨?_, ?_, ?_⟩⟩, hR2, fun post m HC => ?_⟩
  · refine ⟨⟨by omega, by omega, hh, by omega, by omega⟩, by rw [(hX2.1 _ (by omega)).1, pk_un (by omega), pk_un (by omega), (hX.1 _ (by omega)).1, pk_un (by omega), pk_us]; rfl, Or.inr (Or.inr (Or.inr (Or.inr (Or.inr (Or.inr (Or.inr (Or.inr (Or.inr (Or.inr (Or.inr (Or.inl ⟨hK, 48 * r + (c + 1), e1, hE1, ?_, ?_, ?_, ?_, ?_, ?_, ?_⟩)))))))))))⟩
    · rw [(hX2.1 _ (by omega)).1, pk_un (by omega), pk_un (by omega), (hX.1 _ (by omega)).1, pk_us]; rfl
    · rw [pk_un (by omega), (hX2.1 _ (by omega)).2, pk_un (by omega), pk_us, Nat.zero_add]
    · exact zz_CDc (fun _ _ _ => ⟨rfl, rfl, rfl⟩) _ _ _ _ _ (fun i h1 h2 => ⟨(hX2.1 _ (by omega)).1.trans ((pk_un (by omega)).trans (pk_un (by omega))), (pk_un (by omega)).trans ((hX2.1 _ (by omega)).2.trans ((pk_un (by omega)).trans ((pk_un (by omega)).trans (pk_un (by omega)))))⟩) hC
    · rw [(hX2.1 _ (by omega)).1, pk_un (by omega), pk_us]; rfl
    · rw [(hX2.1 _ (by omega)).1, pk_us]; rfl
    · rw [pk_us, Nat.zero_add, Nat.add_zero]
    · exact zz_CDc (fun _ _ _ => ⟨rfl, rfl, rfl⟩) _ _ _ _ _ (fun i h1 h2 => ⟨rfl, pk_un (by omega)⟩) hC2
  · rw [(hX2.1 _ (by omega)).1, pk_un (by omega), pk_un (by omega), (hX.1 _ (by omega)).1, pk_un (by omega), pk_un (by omega)]
  · rw [pk_un (by omega), (hX2.1 _ (by omega)).2, pk_un (by omega), pk_un (by omega), pk_un (by omega), (hX.1 _ (by omega)).2, pk_un (by omega), pk_un (by omega)]
  · rw [(hX2.2 _ (by omega)).1, (hX.2 _ (by omega)).1, pk_un (by omega)]
  · rw [pk_un (by omega), (hX2.2 _ (by omega)).2.1, pk_un (by omega), (hX.2 _ (by omega)).2.1, pk_un (by omega)]
  · rw [(hX2.2 _ (by omega)).2.2, pk_un (by omega), (hX.2 _ (by omega)).2.2, pk_un (by omega)]
  · rw [show m + (jl + 1 - j) = m + (jl + 1 - (c + 1)) + (c + 1 - (j + 1)) + 1 from by omega]
    refine zx_cl_1 (d := d) (by omega) hdr hk h19 (by decide) (by omega) (fun Q HQ => zx_begin_14 (by omega) (by omega) HQ) (hG post _ ?_)
    refine zx_close_m (w := j) (k := 14) (c := 0) (by omega) ((hX.2 d (by omega)).1.trans pk_us) (by omega) hk h19 ((hX.2 d (by omega)).2.1.trans pk_us) (by decide) (fun Q HQ => ?_) (zx_ck_cl (hG2 post m ?_))
    · exact zx_behind_14 (zx_att_1 (q := h + 1) (x := 0) (by omega) (by omega) ((hX.2 d (by omega)).2.2.trans pk_us) (by omega) ((hX.1 _ (by omega)).2.trans pk_us) (by omega) HQ)
    refine zx_close_l (w := j) (k := 14) (c := 1) (by omega) ((hX2.2 d (by omega)).1.trans ((hX.2 d (by omega)).1.trans pk_us)) (by omega) hk h19 ((hX2.2 d (by omega)).2.1.trans pk_us) (by decide) (fun Q HQ => ?_) HC
    exact zx_behind_14 (zx_att_2 (q := e1 + 1) (x := 0) (by omega) (by omega) ((hX2.2 d (by omega)).2.2.trans pk_us) (by omega) ((hX2.1 _ (by omega)).2.trans pk_us) (by omega) HQ)
theorem zc_15 (hD : zc_D kd K N E S Xdraft XdraftValues xspecial r dr) {n j jl h d : Nat} {sc : List Nat} {op ar wa dn ho so : Nat → Int32} (hPE : zz_PE kd E (48 * r) n (zz_op (kd j)) (j + 1) (jl + 1)) (hjl : jl < dr) (hR : zz_R so nI sc) (hB : ∀ x, x ∈ sc → x < 8) (hh : 256 * r ≤ h) (hh2 : h + 4 * (jl + 1 - j) < 256 * r + 256) (hd : d + (jl + 1 - j) ≤ 48) (hl : sc.length + (jl + 1 - j) ≤ 49) (IH : ∀ n', n' + 1 = n → ∀ (j jl h d : Nat) (sc : List Nat) (op ar wa dn ho so : Nat → Int32), zz_PE kd E (48 * r) (n') (zz_op (kd j)) (j + 1) (jl + 1) → jl < dr → zz_R so nI sc → (∀ x, x ∈ sc → x < 8) → 256 * r ≤ h → h + 4 * (jl + 1 - j) < 256 * r + 256 → d + (jl + 1 - j) ≤ 48 → sc.length + (jl + 1 - j) ≤ 49 → ∃ (e : Nat) (op' ar' wa' dn' ho' so' : Nat → Int32), zz_CD op' ar' K N E S r (n' + 1) (48 * r + j) h e sc ∧ e ≤ h + 4 * (jl + 1 - j) ∧ zc_X op ar wa dn ho op' ar' wa' dn' ho' h e d ∧ zz_R so' nI sc ∧ ∀ (post : SX → Prop) (m : Nat), wpX_close (zx_ck post m (nI jl)) (nI dr, xspecial, xdefined, nI (e), nI (d), nI (sc.length), xcells, xclosures, xtop, xundo, xpc, xenv, xbuffer, xtaken, xoutcome, xrunning, xgiven, xclosed, Xdraft, XdraftValues, op', ar', Xparameter, wa', dn', ho', so', Xplace, Xlocals, Xstack, Xcell, Xparent, Xbodies, Xbinds, Xscopes, Xwhat, Xfirst, Xsecond, Xthird, Xkept) → zx_cl post (m + (jl + 1 - j)) (nI j) (nI dr, xspecial, xdefined, nI (h), nI (d), nI (sc.length), xcells, xclosures, xtop, xundo, xpc, xenv, xbuffer, xtaken, xoutcome, xrunning, xgiven, xclosed, Xdraft, XdraftValues, op, ar, Xparameter, wa, dn, ho, so, Xplace, Xlocals, Xstack, Xcell, Xparent, Xbodies, Xbinds, Xscopes, Xwhat, Xfirst, Xsecond, Xthird, Xkept)) (ek : kd j = 15) : ∃ (e : Nat) (op' ar' wa' dn' ho' so' : Nat → Int32), zz_CD op' ar' K N E S r (n + 1) (48 * r + j) h e sc ∧ e ≤ h + 4 * (jl + 1 - j) ∧ zc_X op ar wa dn ho op' ar' wa' dn' ho' h e d ∧ zz_R so' nI sc ∧ ∀ (post : SX → Prop) (m : Nat), wpX_close (zx_ck post m (nI jl)) (nI dr, xspecial, xdefined, nI (e), nI (d), nI (sc.length), xcells, xclosures, xtop, xundo, xpc, xenv, xbuffer, xtaken, xoutcome, xrunning, xgiven, xclosed, Xdraft, XdraftValues, op', ar', Xparameter, wa', dn', ho', so', Xplace, Xlocals, Xstack, Xcell, Xparent, Xbodies, Xbinds, Xscopes, Xwhat, Xfirst, Xsecond, Xthird, Xkept) → zx_cl post (m + (jl + 1 - j)) (nI j) (nI dr, xspecial, xdefined, nI (h), nI (d), nI (sc.length), xcells, xclosures, xtop, xundo, xpc, xenv, xbuffer, xtaken, xoutcome, xrunning, xgiven, xclosed, Xdraft, XdraftValues, op, ar, Xparameter, wa, dn, ho, so, Xplace, Xlocals, Xstack, Xcell, Xparent, Xbodies, Xbinds, Xscopes, Xwhat, Xfirst, Xsecond, Xthird, Xkept) := by
  obtain ⟨hr, hdr, hS, hT⟩ := hD
  have l0 := zz_PEl _ _ _ _ hPE
  obtain ⟨hk, h19, hK, hN, hV⟩ := hT j (by omega)
  rw [ek, show zz_op 15 = 2 from by decide] at hPE l0
  rw [ek] at hk h19 hK
  obtain ⟨n', c, en, hE1, hP1, hP2⟩ := zz_PE2 hPE
  have en : n' + 1 = n := en.symm
  subst en
  have l1 := zz_PEl _ _ _ _ hP1
  have l2 := zz_PEl _ _ _ _ hP2
  obtain ⟨c, ec⟩ : ∃ c', c = c' + 1 := ⟨c - 1, by omega⟩
  subst ec
  obtain ⟨e1, op1, ar1, wa1, dn1, ho1, so1, hC, he, hX, hR1, hG⟩ := IH n' rfl (j + 1) c (h + 1 + 1) (d + 1) sc (upd (upd op h (nI 20)) (h + 1) (nI 27)) (upd (upd ar h 0) (h + 1) 0) (upd wa d (nI j)) (upd dn d (nI 0)) (upd ho d (nI (h + 1))) so hP1 (by omega) hR hB (by omega) (by omega) (by omega) (by omega)
  have cb := hC.1
  obtain ⟨e2, op2, ar2, wa2, dn2, ho2, so2, hC2, he2, hX2, hR2, hG2⟩ := IH n' rfl (c + 1) jl (e1 + 1) (d + 1) sc (upd op1 e1 (nI 28)) (upd (upd ar1 (h + 1) (nI (0 + (e1 + 1) * 65536))) e1 0) wa1 (upd dn1 d (nI 1)) ho1 so1 hP2 hjl hR1 hB (by omega) (by omega) (by omega) (by omega)
  have cb2 := hC2.1
  refine ⟨e2 + 1, upd op2 e2 (nI 29), upd ar2 e2 0, wa2, upd dn2 d (nI 2), ho2, so2, ?_, by omega, ⟨fun i hi => ⟨?_, ?_⟩, fun i hi => ⟨?_, ?_, ?_⟩⟩, hR2, fun post m HC => ?_⟩
  · refine ⟨⟨by omega, by omega, hh, by omega, by omega⟩, by rw [pk_un (by omega), (hX2.1 _ (by omega)).1, pk_un (by omega), (hX.1 _ (by omega)).1, pk_un (by omega), pk_us]; rfl, Or.inr (Or.inr (Or.inr (Or.inr (Or.inr (Or.inr (Or.inr (Or.inr (Or.inr (Or.inr (Or.inr (Or.inr (Or.inl ⟨hK, 48 * r + (c + 1), e1, e2, hE1, ?_, ?_, ?_, ?_, ?_, by rw [pk_us]; rfl, rfl⟩))))))))))))⟩
    · rw [pk_un (by omega), (hX2.1 _ (by omega)).1, pk_un (by omega), (hX.1 _ (by omega)).1, pk_us]; rfl
    · rw [pk_un (by omega), (hX2.1 _ (by omega)).2, pk_un (by omega), pk_us, Nat.zero_add]
    · exact zz_CDc (fun _ _ _ => ⟨rfl, rfl, rfl⟩) _ _ _ _ _ (fun i h1 h2 => ⟨(pk_un (by omega)).trans ((hX2.1 _ (by omega)).1.trans (pk_un (by omega))), (pk_un (by omega)).trans ((hX2.1 _ (by omega)).2.trans ((pk_un (by omega)).trans (pk_un (by omega))))⟩) hC
    · rw [pk_un (by omega), (hX2.1 _ (by omega)).1, pk_us]; rfl
    · exact zz_CDc (fun _ _ _ => ⟨rfl, rfl, rfl⟩) _ _ _ _ _ (fun i h1 h2 => ⟨pk_un (by omega), pk_un (by omega)⟩) hC2
  · rw [pk_un (by omega), (hX2.1 _ (by omega)).1, pk_un (by omega), (hX.1 _ (by omega)).1, pk_un (by omega), pk_un (by omega)]
  · rw [pk_un (by omega), (hX2.1 _ (by omega)).2, pk_un (by omega), pk_un (by omega), (hX.1 _ (by omega)).2, pk_un (by omega), pk_un (by omega)]
  · rw [(hX2.2 _ (by omega)).1, (hX.2 _ (by omega)).1, pk_un (by omega)]
  · rw [pk_un (by omega), (hX2.2 _ (by omega)).2.1, pk_un (by omega), (hX.2 _ (by omega)).2.1, pk_un (by omega)]
  · rw [(hX2.2 _ (by omega)).2.2, (hX.2 _ (by omega)).2.2, pk_un (by omega)]
  · rw [show m + (jl + 1 - j) = m + (jl + 1 - (c + 1)) + (c + 1 - (j + 1)) + 1 from by omega]
    refine zx_cl_1 (d := d) (by omega) hdr hk h19 (by decide) (by omega) (fun Q HQ => zx_begin_15 (by omega) (by omega) HQ) (hG post _ ?_)
    refine zx_close_m (w := j) (k := 15) (c := 0) (by omega) ((hX.2 d (by omega)).1.trans pk_us) (by omega) hk h19 ((hX.2 d (by omega)).2.1.trans pk_us) (by decide) (fun Q HQ => ?_) (zx_ck_cl (hG2 post m ?_))
    · exact zx_behind_15a (q := h + 1) (x := 0) (by omega) (by omega) ((hX.2 d (by omega)).2.2.trans pk_us) (by omega) ((hX.1 _ (by omega)).2.trans pk_us) (by omega) HQ
    refine zx_close_l (w := j) (k := 15) (c := 1) (by omega) ((hX2.2 d (by omega)).1.trans ((hX.2 d (by omega)).1.trans pk_us)) (by omega) hk h19 ((hX2.2 d (by omega)).2.1.trans pk_us) (by decide) (fun Q HQ => ?_) HC
    exact zx_behind_15b (by omega) HQ
theorem zc_8 (hD : zc_D kd K N E S Xdraft XdraftValues xspecial r dr) {n j jl h d : Nat} {sc : List Nat} {op ar wa dn ho so : Nat → Int32} (hPE : zz_PE kd E (48 * r) n (zz_op (kd j)) (j + 1) (jl + 1)) (hjl : jl < dr) (hR : zz_R so nI sc) (hB : ∀ x, x ∈ sc → x < 8) (hh : 256 * r ≤ h) (hh2 : h + 4 * (jl + 1 - j) < 256 * r + 256) (hd : d + (jl + 1 - j) ≤ 48) (hl : sc.length + (jl + 1 - j) ≤ 49) (IH : ∀ n', n' + 1 = n → ∀ (j jl h d : Nat) (sc : List Nat) (op ar wa dn ho so : Nat → Int32), zz_PE kd E (48 * r) (n') (zz_op (kd j)) (j + 1) (jl + 1) → jl < dr → zz_R so nI sc → (∀ x, x ∈ sc → x < 8) → 256 * r ≤ h → h + 4 * (jl + 1 - j) < 256 * r + 256 → d + (jl + 1 - j) ≤ 48 → sc.length + (jl + 1 - j) ≤ 49 → ∃ (e : Nat) (op' ar' wa' dn' ho' so' : Nat → Int32), zz_CD op' ar' K N E S r (n' + 1) (48 * r + j) h e sc ∧ e ≤ h + 4 * (jl + 1 - j) ∧ zc_X op ar wa dn ho op' ar' wa' dn' ho' h e d ∧ zz_R so' nI sc ∧ ∀ (post : SX → Prop) (m : Nat), wpX_close (zx_ck post m (nI jl)) (nI dr, xspecial, xdefined, nI (e), nI (d), nI (sc.length), xcells, xclosures, xtop, xundo, xpc, xenv, xbuffer, xtaken, xoutcome, xrunning, xgiven, xclosed, Xdraft, XdraftValues, op', ar', Xparameter, wa', dn', ho', so', Xplace, Xlocals, Xstack, Xcell, Xparent, Xbodies, Xbinds, Xscopes, Xwhat, Xfirst, Xsecond, Xthird, Xkept) → zx_cl post (m + (jl + 1 - j)) (nI j) (nI dr, xspecial, xdefined, nI (h), nI (d), nI (sc.length), xcells, xclosures, xtop, xundo, xpc, xenv, xbuffer, xtaken, xoutcome, xrunning, xgiven, xclosed, Xdraft, XdraftValues, op, ar, Xparameter, wa, dn, ho, so, Xplace, Xlocals, Xstack, Xcell, Xparent, Xbodies, Xbinds, Xscopes, Xwhat, Xfirst, Xsecond, Xthird, Xkept)) (ek : kd j = 8) : ∃ (e : Nat) (op' ar' wa' dn' ho' so' : Nat → Int32), zz_CD op' ar' K N E S r (n + 1) (48 * r + j) h e sc ∧ e ≤ h + 4 * (jl + 1 - j) ∧ zc_X op ar wa dn ho op' ar' wa' dn' ho' h e d ∧ zz_R so' nI sc ∧ ∀ (post : SX → Prop) (m : Nat), wpX_close (zx_ck post m (nI jl)) (nI dr, xspecial, xdefined, nI (e), nI (d), nI (sc.length), xcells, xclosures, xtop, xundo, xpc, xenv, xbuffer, xtaken, xoutcome, xrunning, xgiven, xclosed, Xdraft, XdraftValues, op', ar', Xparameter, wa', dn', ho', so', Xplace, Xlocals, Xstack, Xcell, Xparent, Xbodies, Xbinds, Xscopes, Xwhat, Xfirst, Xsecond, Xthird, Xkept) → zx_cl post (m + (jl + 1 - j)) (nI j) (nI dr, xspecial, xdefined, nI (h), nI (d), nI (sc.length), xcells, xclosures, xtop, xundo, xpc, xenv, xbuffer, xtaken, xoutcome, xrunning, xgiven, xclosed, Xdraft, XdraftValues, op, ar, Xparameter, wa, dn, ho, so, Xplace, Xlocals, Xstack, Xcell, Xparent, Xbodies, Xbinds, Xscopes, Xwhat, Xfirst, Xsecond, Xthird, Xkept) := by
  obtain ⟨hr, hdr, hS, hT⟩ := hD
  have l0 := zz_PEl _ _ _ _ hPE
  obtain ⟨hk, h19, hK, hN, hV⟩ := hT j (by omega)
  rw [ek, show zz_op 8 = 3 from by decide] at hPE l0
  rw [ek] at hk h19 hK
  obtain ⟨n', c, b, en, hE1, hE2, hP1, hP2, hP3⟩ := zz_PE3 hPE
  have en : n' + 1 = n := en.symm
  subst en
  have l1 := zz_PEl _ _ _ _ hP1
  have l2 := zz_PEl _ _ _ _ hP2
  have l3 := zz_PEl _ _ _ _ hP3
  obtain ⟨c, ec⟩ : ∃ c', c = c' + 1 := ⟨c - 1, by omega⟩
  obtain ⟨b, eb⟩ : ∃ b', b = b' + 1 := ⟨b - 1, by omega⟩
  subst ec eb
  obtain ⟨e1, op1, ar1, wa1, dn1, ho1, so1, hC, he, hX, hR1, hG⟩ := IH n' rfl (j + 1) c (h + 1) (d + 1) sc (upd op h (nI 20)) (upd ar h 0) (upd wa d (nI j)) (upd dn d (nI 0)) ho so hP1 (by omega) hR hB (by omega) (by omega) (by omega) (by omega)
  have cb := hC.1
  obtain ⟨e2, op2, ar2, wa2, dn2, ho2, so2, hC2, he2, hX2, hR2, hG2⟩ := IH n' rfl (c + 1) b (e1 + 1) (d + 1) sc (upd op1 e1 (nI 8)) (upd ar1 e1 0) wa1 (upd dn1 d (nI 1)) (upd ho1 d (nI e1)) so1 hP2 (by omega) hR1 hB (by omega) (by omega) (by omega) (by omega)
  have cb2 := hC2.1
  obtain ⟨e3, op3, ar3, wa3, dn3, ho3, so3, hC3, he3, hX3, hR3, hG3⟩ := IH n' rfl (b + 1) jl (e2 + 1) (d + 1) sc (upd op2 e2 (nI 23)) (upd (upd ar2 e1 (nI (0 + (e2 + 1) * 65536))) e2 0) wa2 (upd dn2 d (nI 2)) (upd ho2 d (nI e2)) so2 hP3 hjl hR2 hB (by omega) (by omega) (by omega) (by omega)
  have cb3 := hC3.1
  refine ⟨e3, op3, upd ar3 e2 (nI (0 + (e3 + 0) * 65536)), wa3, upd dn3 d (nI 3), ho3, so3, ?_, by omega, ⟨fun i hi => ⟨?_, ?_⟩, fun i hi => ⟨?_, ?_, ?_⟩⟩, hR3, fun post m HC => ?_⟩
  · refine ⟨⟨by omega, by omega, hh, by omega, by omega⟩, by rw [(hX3.1 _ (by omega)).1, pk_un (by omega), (hX2.1 _ (by omega)).1, pk_un (by omega), (hX.1 _ (by omega)).1, pk_us]; rfl, Or.inr (Or.inr (Or.inr (Or.inr (Or.inr (Or.inr (Or.inr (Or.inr (Or.inr (Or.inl ⟨hK, 48 * r + (c + 1), 48 * r + (b + 1), e1, e2, hE1, hE2, ?_, ?_, ?_, ?_, ?_, ?_, ?_⟩)))))))))⟩
    · exact zz_CDc (fun _ _ _ => ⟨rfl, rfl, rfl⟩) _ _ _ _ _ (fun i h1 h2 => ⟨(hX3.1 _ (by omega)).1.trans ((pk_un (by omega)).trans ((hX2.1 _ (by omega)).1.trans (pk_un (by omega)))), (pk_un (by omega)).trans ((hX3.1 _ (by omega)).2.trans ((pk_un (by omega)).trans ((pk_un (by omega)).trans ((hX2.1 _ (by omega)).2.trans (pk_un (by omega))))))⟩) hC
    · rw [(hX3.1 _ (by omega)).1, pk_un (by omega), (hX2.1 _ (by omega)).1, pk_us]; rfl
    · rw [pk_un (by omega), (hX3.1 _ (by omega)).2, pk_un (by omega), pk_us, Nat.zero_add]
    · exact zz_CDc (fun _ _ _ => ⟨rfl, rfl, rfl⟩) _ _ _ _ _ (fun i h1 h2 => ⟨(hX3.1 _ (by omega)).1.trans (pk_un (by omega)), (pk_un (by omega)).trans ((hX3.1 _ (by omega)).2.trans ((pk_un (by omega)).trans (pk_un (by omega))))⟩) hC2
    · rw [(hX3.1 _ (by omega)).1, pk_us]; rfl
    · rw [pk_us, Nat.zero_add, Nat.add_zero]
    · exact zz_CDc (fun _ _ _ => ⟨rfl, rfl, rfl⟩) _ _ _ _ _ (fun i h1 h2 => ⟨rfl, pk_un (by omega)⟩) hC3
  · rw [(hX3.1 _ (by omega)).1, pk_un (by omega), (hX2.1 _ (by omega)).1, pk_un (by omega), (hX.1 _ (by omega)).1, pk_un (by omega)]
  · rw [pk_un (by omega), (hX3.1 _ (by omega)).2, pk_un (by omega), pk_un (by omega), (hX2.1 _ (by omega)).2, pk_un (by omega), (hX.1 _ (by omega)).2, pk_un (by omega)]
  · rw [(hX3.2 _ (by omega)).1, (hX2.2 _ (by omega)).1, (hX.2 _ (by omega)).1, pk_un (by omega)]
  · rw [pk_un (by omega), (hX3.2 _ (by omega)).2.1, pk_un (by omega), (hX2.2 _ (by omega)).2.1, pk_un (by omega), (hX.2 _ (by omega)).2.1, pk_un (by omega)]
  · rw [(hX3.2 _ (by omega)).2.2, pk_un (by omega), (hX2.2 _ (by omega)).2.2, pk_un (by omega), (hX.2 _ (by omega)).2.2]
  · rw [show m + (jl + 1 - j) = m + (jl + 1 - (b + 1)) + (b + 1 - (c + 1)) + (c + 1 - (j + 1)) + 1 from by omega]
    refine zx_cl_1 (d := d) (by omega) hdr hk h19 (by decide) (by omega) (fun Q HQ => zx_begin_d (by decide) (by omega) HQ) (hG post _ ?_)
    refine zx_close_m (w := j) (k := 8) (c := 0) (by omega) ((hX.2 d (by omega)).1.trans pk_us) (by omega) hk h19 ((hX.2 d (by omega)).2.1.trans pk_us) (by decide) (fun Q HQ => zx_behind_8 (zx_choose_1 (by omega) (by omega) HQ)) (zx_ck_cl (hG2 post _ ?_))
    refine zx_close_m (w := j) (k := 8) (c := 1) (by omega) ((hX2.2 d (by omega)).1.trans ((hX.2 d (by omega)).1.trans pk_us)) (by omega) hk h19 ((hX2.2 d (by omega)).2.1.trans pk_us) (by decide) (fun Q HQ => ?_) (zx_ck_cl (hG3 post m ?_))
    · exact zx_behind_8 (zx_choose_2 (q := e1) (x := 0) (by omega) (by omega) ((hX2.2 d (by omega)).2.2.trans pk_us) (by omega) ((hX2.1 _ (by omega)).2.trans pk_us) (by omega) HQ)
    refine zx_close_l (w := j) (k := 8) (c := 2) (by omega) ((hX3.2 d (by omega)).1.trans ((hX2.2 d (by omega)).1.trans ((hX.2 d (by omega)).1.trans pk_us))) (by omega) hk h19 ((hX3.2 d (by omega)).2.1.trans pk_us) (by decide) (fun Q HQ => ?_) HC
    exact zx_behind_8 (zx_choose_3 (q := e2) (x := 0) (by omega) (by omega) ((hX3.2 d (by omega)).2.2.trans pk_us) (by omega) ((hX3.1 _ (by omega)).2.trans pk_us) (by omega) HQ)
/-- the code of an expression -/
theorem zc_expr (hD : zc_D kd K N E S Xdraft XdraftValues xspecial r dr) : ∀ n : Nat, ∀ (j jl h d : Nat) (sc : List Nat) (op ar wa dn ho so : Nat → Int32), zz_PE kd E (48 * r) (n) (zz_op (kd j)) (j + 1) (jl + 1) → jl < dr → zz_R so nI sc → (∀ x, x ∈ sc → x < 8) → 256 * r ≤ h → h + 4 * (jl + 1 - j) < 256 * r + 256 → d + (jl + 1 - j) ≤ 48 → sc.length + (jl + 1 - j) ≤ 49 → ∃ (e : Nat) (op' ar' wa' dn' ho' so' : Nat → Int32), zz_CD op' ar' K N E S r (n + 1) (48 * r + j) h e sc ∧ e ≤ h + 4 * (jl + 1 - j) ∧ zc_X op ar wa dn ho op' ar' wa' dn' ho' h e d ∧ zz_R so' nI sc ∧ ∀ (post : SX → Prop) (m : Nat), wpX_close (zx_ck post m (nI jl)) (nI dr, xspecial, xdefined, nI (e), nI (d), nI (sc.length), xcells, xclosures, xtop, xundo, xpc, xenv, xbuffer, xtaken, xoutcome, xrunning, xgiven, xclosed, Xdraft, XdraftValues, op', ar', Xparameter, wa', dn', ho', so', Xplace, Xlocals, Xstack, Xcell, Xparent, Xbodies, Xbinds, Xscopes, Xwhat, Xfirst, Xsecond, Xthird, Xkept) → zx_cl post (m + (jl + 1 - j)) (nI j) (nI dr, xspecial, xdefined, nI (h), nI (d), nI (sc.length), xcells, xclosures, xtop, xundo, xpc, xenv, xbuffer, xtaken, xoutcome, xrunning, xgiven, xclosed, Xdraft, XdraftValues, op, ar, Xparameter, wa, dn, ho, so, Xplace, Xlocals, Xstack, Xcell, Xparent, Xbodies, Xbinds, Xscopes, Xwhat, Xfirst, Xsecond, Xthird, Xkept) := by
  intro n
  induction n with
  | zero =>
    intro j jl h d sc op ar wa dn ho so hPE hjl hR hB hh hh2 hd hl
    have l0 := hPE.1
    have l1 := hPE.2
    have h19 := (hD.2.2.2 j (by omega)).2.1
    have : kd j = 0 ∨ kd j = 1 ∨ kd j = 18 := by
      revert l0
      generalize kd j = k at h19
      revert k
      decide
    rcases this with e | e | e
    · exact zc_0 hD hPE hjl hR hB hh hh2 hd hl e
    · exact zc_1 hD hPE hjl hR hB hh hh2 hd hl e
    · exact zc_18 hD hPE hjl hR hB hh hh2 hd hl e
  | succ n ih =>
    intro j jl h d sc op ar wa dn ho so hPE hjl hR hB hh hh2 hd hl
    have l0 := zz_PEl _ _ _ _ hPE
    have h19 := (hD.2.2.2 j (by omega)).2.1
    have IH : ∀ n', n' + 1 = n + 1 → ∀ (j jl h d : Nat) (sc : List Nat) (op ar wa dn ho so : Nat → Int32), zz_PE kd E (48 * r) (n') (zz_op (kd j)) (j + 1) (jl + 1) → jl < dr → zz_R so nI sc → (∀ x, x ∈ sc → x < 8) → 256 * r ≤ h → h + 4 * (jl + 1 - j) < 256 * r + 256 → d + (jl + 1 - j) ≤ 48 → sc.length + (jl + 1 - j) ≤ 49 → ∃ (e : Nat) (op' ar' wa' dn' ho' so' : Nat → Int32), zz_CD op' ar' K N E S r (n' + 1) (48 * r + j) h e sc ∧ e ≤ h + 4 * (jl + 1 - j) ∧ zc_X op ar wa dn ho op' ar' wa' dn' ho' h e d ∧ zz_R so' nI sc ∧ ∀ (post : SX → Prop) (m : Nat), wpX_close (zx_ck post m (nI jl)) (nI dr, xspecial, xdefined, nI (e), nI (d), nI (sc.length), xcells, xclosures, xtop, xundo, xpc, xenv, xbuffer, xtaken, xoutcome, xrunning, xgiven, xclosed, Xdraft, XdraftValues, op', ar', Xparameter, wa', dn', ho', so', Xplace, Xlocals, Xstack, Xcell, Xparent, Xbodies, Xbinds, Xscopes, Xwhat, Xfirst, Xsecond, Xthird, Xkept) → zx_cl post (m + (jl + 1 - j)) (nI j) (nI dr, xspecial, xdefined, nI (h), nI (d), nI (sc.length), xcells, xclosures, xtop, xundo, xpc, xenv, xbuffer, xtaken, xoutcome, xrunning, xgiven, xclosed, Xdraft, XdraftValues, op, ar, Xparameter, wa, dn, ho, so, Xplace, Xlocals, Xstack, Xcell, Xparent, Xbodies, Xbinds, Xscopes, Xwhat, Xfirst, Xsecond, Xthird, Xkept) := by
      intro n' en
      have en : n' = n := by omega
      subst en
      exact ih
    rcases Nat.lt_or_ge (kd j) 9 with z | z
    · have : kd j = 0 ∨ kd j = 1 ∨ kd j = 2 ∨ kd j = 3 ∨ kd j = 4 ∨ kd j = 5 ∨ kd j = 6 ∨ kd j = 7 ∨ kd j = 8 := by omega
      rcases this with e | e | e | e | e | e | e | e | e
      · exact zc_0 hD hPE hjl hR hB hh hh2 hd hl e
      · exact zc_1 hD hPE hjl hR hB hh hh2 hd hl e
      · exact zc_2 hD hPE hjl hR hB hh hh2 hd hl IH e
      · exact zc_3 hD hPE hjl hR hB hh hh2 hd hl IH e
      · exact zc_4 hD hPE hjl hR hB hh hh2 hd hl IH e
      · exact zc_5 hD hPE hjl hR hB hh hh2 hd hl IH e
      · exact zc_6 hD hPE hjl hR hB hh hh2 hd hl IH e
      · exact zc_7 hD hPE hjl hR hB hh hh2 hd hl IH e
      · exact zc_8 hD hPE hjl hR hB hh hh2 hd hl IH e
    · have : kd j = 9 ∨ kd j = 10 ∨ kd j = 11 ∨ kd j = 12 ∨ kd j = 13 ∨ kd j = 14 ∨ kd j = 15 ∨ kd j = 16 ∨ kd j = 17 ∨ kd j = 18 := by omega
      rcases this with e | e | e | e | e | e | e | e | e | e
      · exact zc_9 hD hPE hjl hR hB hh hh2 hd hl IH e
      · exact zc_10 hD hPE hjl hR hB hh hh2 hd hl IH e
      · exact zc_11 hD hPE hjl hR hB hh hh2 hd hl IH e
      · exact zc_12 hD hPE hjl hR hB hh hh2 hd hl IH e
      · exact zc_13 hD hPE hjl hR hB hh hh2 hd hl IH e
      · exact zc_14 hD hPE hjl hR hB hh hh2 hd hl IH e
      · exact zc_15 hD hPE hjl hR hB hh hh2 hd hl IH e
      · exact zc_16 hD hPE hjl hR hB hh hh2 hd hl IH e
      · exact zc_17 hD hPE hjl hR hB hh hh2 hd hl IH e
      · exact zc_18 hD hPE hjl hR hB hh hh2 hd hl e
/-- compile of a whole draft: its code, and then what follows -/
theorem zc_compile (hD : zc_D kd K N E S Xdraft XdraftValues xspecial r dr) {n h : Nat} {sc : List Nat} (hPE : zz_PE kd E (48 * r) n 1 0 dr) (hR : zz_R Xscope nI sc) (hB : ∀ x, x ∈ sc → x < 8) (hl : sc.length ≤ 1) :
    ∃ (e n' : Nat) (op' ar' wa' dn' ho' so' : Nat → Int32), zz_CD op' ar' K N E S r n' (48 * r) (256 * r) e sc ∧ (∀ i, i < 256 * r ∨ e ≤ i → op' i = Xop i ∧ ar' i = Xarg i) ∧ e < 256 * r + 255 ∧ zz_R so' nI sc ∧ ∀ post : SX → Prop, post (nI dr, xspecial, xdefined, nI (e), nI (0), nI (sc.length), xcells, xclosures, xtop, xundo, xpc, xenv, xbuffer, xtaken, xoutcome, xrunning, xgiven, xclosed, Xdraft, XdraftValues, op', ar', Xparameter, wa', dn', ho', so', Xplace, Xlocals, Xstack, Xcell, Xparent, Xbodies, Xbinds, Xscopes, Xwhat, Xfirst, Xsecond, Xthird, Xkept) → wpX_compile post (nI dr, xspecial, xdefined, xhere, xdepth, nI sc.length, xcells, xclosures, xtop, xundo, xpc, xenv, xbuffer, xtaken, xoutcome, xrunning, xgiven, xclosed, Xdraft, XdraftValues, Xop, Xarg, Xparameter, Xwaiting, Xdone, Xhole, Xscope, Xplace, Xlocals, Xstack, Xcell, Xparent, Xbodies, Xbinds, Xscopes, Xwhat, Xfirst, Xsecond, Xthird, Xkept) (nI (256 * r)) := by
  have l0 := zz_PEl _ _ _ _ hPE
  obtain ⟨n', _, hP⟩ := zz_PE1 hPE
  have hdr := hD.2.1
  obtain ⟨dl, ed⟩ : ∃ q, dr = q + 1 := ⟨dr - 1, by omega⟩
  obtain ⟨e, op', ar', wa', dn', ho', so', hC, he, hX, hR1, hG⟩ := zc_expr hD n' 0 dl (256 * r) 0 sc Xop Xarg Xwaiting Xdone Xhole Xscope (by rw [← ed]; exact hP) (by omega) hR hB (Nat.le_refl _) (by omega) (by omega) (by omega)
  refine ⟨e, n' + 1, op', ar', wa', dn', ho', so', hC, hX.1, by omega, hR1, fun post HP => ⟨1 + (dl + 1 - 0), ?_⟩⟩
  refine hG post 1 ?_
  refine br_t (by decide) ⟨1, br_t rfl (zx_ck_cl ?_)⟩
  rw [← ed]
  exact zx_cl_e HP
end
end
section
theorem zz_POu {kd : Nat → Nat} : ∀ n n' m a b b', zz_PO kd n m a b → zz_PO kd n' m a b' → b = b' := by
  intro n
  induction n with
  | zero =>
    intro n' m a b b' h h'
    obtain ⟨h1, h2⟩ := h
    subst h1 h2
    cases n' with
    | zero => exact h'.2
    | succ n' =>
      rcases h' with h' | ⟨m', c, e, _⟩
      · exact h'.2
      · omega
  | succ n ih =>
    intro n' m a b b' h h'
    rcases h with h | ⟨m1, c, e, h1, h2⟩
    · obtain ⟨e1, e2⟩ := h
      subst e1 e2
      cases n' with
      | zero => exact h'.2
      | succ n' =>
        rcases h' with h' | ⟨m', c, e, _⟩
        · exact h'.2
        · omega
    · cases n' with
      | zero => have := h'.1; omega
      | succ n' =>
        rcases h' with h' | ⟨m', c', e', h3, h4⟩
        · omega
        · have em : m1 = m' := by omega
          subst em
          have ec := ih _ _ _ _ _ h1 h3
          subst ec
          exact ih _ _ _ _ _ h2 h4
theorem zz_mo {m o : Nat} : nI (m + 1) + (nI o - 1) = nI (m + o) := by
  rw [← nI_1, ← nI_add]
  grind
section
variable {xdrafted xspecial xdefined xhere xdepth xscoped xcells xclosures xtop xundo xpc xenv xbuffer xtaken xoutcome xrunning xclosed : Int32} {xgiven : Int64} {Xdraft XdraftValues Xop Xarg Xparameter Xwaiting Xdone Xhole Xscope Xlocals Xparent Xbodies Xbinds Xscopes Xwhat Xfirst Xsecond Xthird : Nat → Int32} {Xplace Xstack Xcell Xkept : Nat → Int64} {yenvs yclosures ywork ybuffer ysteps ymode yat yenv ykind yvalue ycode ytag yresultKind yresultValue : Int32} {Ykinds Ynumbers Yends Ylengths Yparameters Yspecial YplaceKind YplaceValue Ythere YsymbolOf YplaceOf YnextOf YclosureSymbol YclosureBody YclosureEnv YworkToken YworkPhase YworkEnv YkeptKind YkeptValue YboundPlace YoldKind YoldValue YoldBuffer : Nat → Int32} {kd : Nat → Nat} {dr : Nat}
/-- both checks of the draft, side by side -/
theorem zw_whole (hdr : dr ≤ 48) (hx : ∀ j, j < dr → Xdraft j = nI (kd j) ∧ kd j < 19) (hy : ∀ j, j < dr → Ykinds (192 + j) = nI (kd j)) (hL : Ylengths 4 = nI dr) : ∀ d m a : Nat, a + d = dr → m + 3 * d ≤ 200 → ∃ r : Int32, (r = 0 ∨ (r = 1 ∧ zz_OK kd d m a)) ∧ (∀ post : Int32 → Prop, post r → wX_whole_4 post (nI dr) xspecial xdefined xhere xdepth xscoped xcells xclosures xtop xundo xpc xenv xbuffer xtaken xoutcome xrunning xgiven xclosed Xdraft XdraftValues Xop Xarg Xparameter Xwaiting Xdone Xhole Xscope Xplace Xlocals Xstack Xcell Xparent Xbodies Xbinds Xscopes Xwhat Xfirst Xsecond Xthird Xkept (d + 1) (nI m) (nI a)) ∧ (∀ post : Int32 → Prop, post r → wY_isExpression_6 post yenvs yclosures ywork ybuffer ysteps ymode yat yenv ykind yvalue ycode ytag yresultKind yresultValue Ykinds Ynumbers Yends Ylengths Yparameters Yspecial YplaceKind YplaceValue Ythere YsymbolOf YplaceOf YnextOf YclosureSymbol YclosureBody YclosureEnv YworkToken YworkPhase YworkEnv YkeptKind YkeptValue YboundPlace YoldKind YoldValue YoldBuffer (d + 1) (nI m) (nI (192 + a))) := by
  have eL : (192 : Int32) + Ylengths 4 = nI (192 + dr) := by rw [hL]; exact nI_add 192 dr
  intro d
  induction d with
  | zero =>
    intro m a ha hm
    have e : a = dr := by omega
    subst e
    have hle : (192 : Int32) + Ylengths 4 ≤ nI (192 + a) := by rw [eL]; exact Int32.le_refl _
    by_cases z : m = 0
    · subst z
      exact ⟨1, Or.inr ⟨rfl, rfl⟩, fun post H => br_t (Int32.le_refl _) (br_t rfl H), fun post H => br_t hle (br_t rfl H)⟩
    · have z' : ¬ nI m = 0 := nI_ne0 (by omega) (by omega)
      exact ⟨0, Or.inl rfl, fun post H => br_t (Int32.le_refl _) (br_f z' H), fun post H => br_t hle (br_f z' H)⟩
  | succ d ih =>
    intro m a ha hm
    have hx1 : ¬ nI dr ≤ nI a := nI_ge (by omega) (by omega)
    have hy1 : ¬ (192 : Int32) + Ylengths 4 ≤ nI (192 + a) := by rw [eL]; exact nI_ge (by omega) (by omega)
    by_cases z : m = 0
    · subst z
      exact ⟨0, Or.inl rfl, fun post H => br_f hx1 (br_t rfl H), fun post H => br_f hy1 (br_t rfl H)⟩
    · have z' : ¬ nI m = 0 := nI_ne0 (by omega) (by omega)
      obtain ⟨m', e⟩ : ∃ m', m = m' + 1 := ⟨m - 1, by omega⟩
      subst e
      obtain ⟨hk, h19⟩ := hx a (by omega)
      have ho : zz_op (kd a) < 4 := by
        generalize kd a = k at h19
        revert k; decide
      obtain ⟨r, h1, h2, h3⟩ := ih (m' + zz_op (kd a)) (a + 1) (by omega) (by omega)
      refine ⟨r, ?_, fun post H => ?_, fun post H => ?_⟩
      · rcases h1 with h1 | ⟨h1, h4⟩
        · exact Or.inl h1
        · exact Or.inr ⟨h1, m', rfl, h4⟩
      · refine br_f hx1 (br_f z' (And.intro (vp_in_nI (by omega) (by omega)) ?_))
        rw [nI_clamp (by omega), hk]
        exact zx_operands _ h19 (nm_r zz_mo (nm_r (nI_1 a) (h2 post H)))
      · refine br_f hy1 (br_f z' (And.intro (vp_in_nI (by omega) (by omega)) ?_))
        rw [nI_clamp (by omega), hy a (by omega)]
        exact zy_operands _ h19 (nm_r zz_mo (nm_r (nI_1 (192 + a)) (h3 post H)))
theorem zw_check (hdr : dr ≤ 48) (hx : ∀ j, j < dr → Xdraft j = nI (kd j) ∧ kd j < 19) (hy : ∀ j, j < dr → Ykinds (192 + j) = nI (kd j)) (hL : Ylengths 4 = nI dr) : ∃ r : Int32, (r = 0 ∨ (r = 1 ∧ zz_OK kd dr 1 0)) ∧ (∀ post : Int32 → Prop, post r → wpX_whole post (nI dr, xspecial, xdefined, xhere, xdepth, xscoped, xcells, xclosures, xtop, xundo, xpc, xenv, xbuffer, xtaken, xoutcome, xrunning, xgiven, xclosed, Xdraft, XdraftValues, Xop, Xarg, Xparameter, Xwaiting, Xdone, Xhole, Xscope, Xplace, Xlocals, Xstack, Xcell, Xparent, Xbodies, Xbinds, Xscopes, Xwhat, Xfirst, Xsecond, Xthird, Xkept)) ∧ (∀ post : Int32 → Prop, post r → wpY_isExpression post (yenvs, yclosures, ywork, ybuffer, ysteps, ymode, yat, yenv, ykind, yvalue, ycode, ytag, yresultKind, yresultValue, Ykinds, Ynumbers, Yends, Ylengths, Yparameters, Yspecial, YplaceKind, YplaceValue, Ythere, YsymbolOf, YplaceOf, YnextOf, YclosureSymbol, YclosureBody, YclosureEnv, YworkToken, YworkPhase, YworkEnv, YkeptKind, YkeptValue, YboundPlace, YoldKind, YoldValue, YoldBuffer)) := by
  obtain ⟨r, h1, h2, h3⟩ := zw_whole (Xdraft := Xdraft) hdr hx hy hL dr 1 0 (by omega) (by omega)
  exact ⟨r, h1, fun post H => ⟨dr + 1, h2 post H⟩, fun post H => ⟨dr + 1, h3 post H⟩⟩
/-! where each expression ends -/
def zy_I (kd : Nat → Nat) (E : Nat → Int32) (B dr k : Nat) : Prop := ∀ j, k ≤ j → j < dr → ∀ f c, c ≤ dr → zz_PO kd f (zz_op (kd j)) (j + 1) c → E (B + j) = nI (B + c)
theorem zy_fi {B k : Nat} {post : SY → Prop} {J : Int32 → (Nat → Int32) → Prop} (hB : B + dr ≤ 240) (hk : k < dr) (hK : Ykinds (B + k) = nI (kd k)) (h19 : kd k < 19) (hI : zy_I kd Yends B dr (k + 1)) (x1 : Int32) {cend : Nat} (hce : cend ≤ dr) {J6 : Int32 → (Nat → Int32) → (Nat → Int32) → (Nat → Int32) → (Nat → Int32) → (Nat → Int32) → (Nat → Int32) → (Nat → Int32) → (Nat → Int32) → (Nat → Int32) → (Nat → Int32) → (Nat → Int32) → (Nat → Int32) → (Nat → Int32) → (Nat → Int32) → (Nat → Int32) → (Nat → Int32) → (Nat → Int32) → (Nat → Int32) → (Nat → Int32) → (Nat → Int32) → (Nat → Int32) → (Nat → Int32) → (Nat → Int32) → (Nat → Int32) → Prop} (HJ : J6 (nI (B + k) - 1) Ykinds Ynumbers (upd Yends (B + k) (nI (B + cend))) Ylengths Yparameters Yspecial YplaceKind YplaceValue Ythere YsymbolOf YplaceOf YnextOf YclosureSymbol YclosureBody YclosureEnv YworkToken YworkPhase YworkEnv YkeptKind YkeptValue YboundPlace YoldKind YoldValue YoldBuffer) : ∀ rem i c f : Nat, i + rem = zz_op (kd k) → zz_PO kd f rem c cend → k < c → wY_findEnds_19 post J6 x1 (nI (B + k)) yenvs yclosures ywork ybuffer ysteps ymode yat yenv ykind yvalue ycode ytag yresultKind yresultValue Ykinds Ynumbers Yends Ylengths Yparameters Yspecial YplaceKind YplaceValue Ythere YsymbolOf YplaceOf YnextOf YclosureSymbol YclosureBody YclosureEnv YworkToken YworkPhase YworkEnv YkeptKind YkeptValue YboundPlace YoldKind YoldValue YoldBuffer (rem + 1) (nI (B + c)) (nI i) := by
  have ho : zz_op (kd k) < 4 := by
    generalize kd k = q at h19
    revert q; decide
  have ik : vp_in (nI (B + k)) 240 := vp_in_nI (by omega) (by omega)
  have ek : (nI (B + k)).toNatClampNeg = B + k := nI_clamp (by omega)
  intro rem
  induction rem with
  | zero =>
    intro i c f hi hP hc
    have e : c = cend := zz_POu _ _ _ _ _ _ (zz_PO0 f c) hP
    subst e
    refine And.intro ik ?_
    rw [ek, hK]
    refine zy_operands _ h19 (br_t (nI_le (by omega) (by omega)) (And.intro ik ?_))
    exact nm_e (nm_r (e' := nI (B + k) - 1) (by rw [Int32.sub_eq_add_neg]) HJ)
  | succ rem ih =>
    intro i c f hi hP hc
    cases f with
    | zero => have := hP.1; omega
    | succ f =>
      rcases hP with hP | ⟨m', c2, e, h1, h2⟩
      · omega
      · have e : m' = rem := by omega
        subst e
        have l1 := zz_POl _ _ _ _ h1
        have l2 := zz_POl _ _ _ _ h2
        have eE := hI c (by omega) (by omega) f c2 (by omega) h1
        refine And.intro ik ?_
        rw [ek, hK]
        refine zy_operands _ h19 (br_f (nI_ge (by omega) (by omega)) (And.intro (vp_in_nI (by omega) (by omega)) (nm_r (e' := nI (B + c2)) ?_ (nm_r (nI_1 i) (ih (i + 1) c2 f (by omega) h2 (by omega))))))
        rw [nI_clamp (by omega), eE]
theorem zy_fo {B f : Nat} (hB : B + dr ≤ 240) (hK : ∀ j, j < dr → Ykinds (B + j) = nI (kd j) ∧ kd j < 19) (hP : zz_PO kd f 1 0 dr) : ∀ (k : Nat) (E0 : Nat → Int32), k ≤ dr → zy_I kd E0 B dr k → ∃ E' : Nat → Int32, zy_I kd E' B dr 0 ∧ (∀ i, i < B ∨ B + dr ≤ i → E' i = E0 i) ∧ ∀ post : SY → Prop, post (yenvs, yclosures, ywork, ybuffer, ysteps, ymode, yat, yenv, ykind, yvalue, ycode, ytag, yresultKind, yresultValue, Ykinds, Ynumbers, E', Ylengths, Yparameters, Yspecial, YplaceKind, YplaceValue, Ythere, YsymbolOf, YplaceOf, YnextOf, YclosureSymbol, YclosureBody, YclosureEnv, YworkToken, YworkPhase, YworkEnv, YkeptKind, YkeptValue, YboundPlace, YoldKind, YoldValue, YoldBuffer) → wY_findEnds_6 post (nI B) yenvs yclosures ywork ybuffer ysteps ymode yat yenv ykind yvalue ycode ytag yresultKind yresultValue (k + 1) (nI (B + k) - 1) Ykinds Ynumbers E0 Ylengths Yparameters Yspecial YplaceKind YplaceValue Ythere YsymbolOf YplaceOf YnextOf YclosureSymbol YclosureBody YclosureEnv YworkToken YworkPhase YworkEnv YkeptKind YkeptValue YboundPlace YoldKind YoldValue YoldBuffer := by
  intro k
  induction k with
  | zero =>
    intro E0 _ hI
    refine ⟨E0, hI, fun _ _ => rfl, fun post H => br_t ?_ H⟩
    rw [Nat.add_zero, Int32.lt_iff_toInt_lt]
    cases B with
    | zero => decide
    | succ b =>
      rw [nI_pred, nI_toInt (by omega), nI_toInt (by omega)]
      omega
  | succ k ih =>
    intro E0 hk hI
    obtain ⟨cend, hc, hPk⟩ := zz_POi _ _ _ _ hP k (by omega) (by omega)
    have l1 := zz_POl _ _ _ _ hPk
    have hI' : zy_I kd (upd E0 (B + k) (nI (B + cend))) B dr k := by
      intro j hj hj2 f' c hc2 hP2
      by_cases z : j = k
      · subst z
        rw [pk_us, zz_POu _ _ _ _ _ _ hPk hP2]
      · rw [pk_un (by omega)]
        exact hI j (by omega) hj2 f' c hc2 hP2
    obtain ⟨E', h1, h2, h3⟩ := ih (upd E0 (B + k) (nI (B + cend))) (by omega) hI'
    refine ⟨E', h1, fun i hi => (h2 i hi).trans (pk_un (by omega)), fun post H => ?_⟩
    rw [show nI (B + (k + 1)) - 1 = nI (B + k) from nI_pred (B + k)]
    refine br_f (nI_nlt (by omega) (by omega)) (nm_r (nI_1 (B + k)) ⟨zz_op (kd k) + 1, ?_⟩)
    obtain ⟨hKk, h19⟩ := hK k (by omega)
    exact zy_fi (J := fun _ _ => True) (kd := kd) (dr := dr) hB (by omega) hKk h19 hI (nI B) hc (h3 post H) (zz_op (kd k)) 0 (k + 1) f (by omega) hPk (by omega)
theorem zy_findEnds {B f : Nat} (hB : B + dr ≤ 240) (hd : 0 < dr) (hK : ∀ j, j < dr → Ykinds (B + j) = nI (kd j) ∧ kd j < 19) (hP : zz_PO kd f 1 0 dr) : ∃ E' : Nat → Int32, zz_PE kd E' B f 1 0 dr ∧ (∀ i, i < B ∨ B + dr ≤ i → E' i = Yends i) ∧ ∀ post : SY → Prop, post (yenvs, yclosures, ywork, ybuffer, ysteps, ymode, yat, yenv, ykind, yvalue, ycode, ytag, yresultKind, yresultValue, Ykinds, Ynumbers, E', Ylengths, Yparameters, Yspecial, YplaceKind, YplaceValue, Ythere, YsymbolOf, YplaceOf, YnextOf, YclosureSymbol, YclosureBody, YclosureEnv, YworkToken, YworkPhase, YworkEnv, YkeptKind, YkeptValue, YboundPlace, YoldKind, YoldValue, YoldBuffer) → wpY_findEnds post (yenvs, yclosures, ywork, ybuffer, ysteps, ymode, yat, yenv, ykind, yvalue, ycode, ytag, yresultKind, yresultValue, Ykinds, Ynumbers, Yends, Ylengths, Yparameters, Yspecial, YplaceKind, YplaceValue, Ythere, YsymbolOf, YplaceOf, YnextOf, YclosureSymbol, YclosureBody, YclosureEnv, YworkToken, YworkPhase, YworkEnv, YkeptKind, YkeptValue, YboundPlace, YoldKind, YoldValue, YoldBuffer) (nI B) (nI dr) := by
  obtain ⟨E', h1, h2, h3⟩ := zy_fo (Ykinds := Ykinds) (kd := kd) hB hK hP dr Yends (Nat.le_refl _) (fun j h1 h2 => by omega)
  refine ⟨E', zz_POE (b0 := dr) (fun n k c hk hc hp => h1 k (by omega) hk n c hc hp) _ _ _ _ (Nat.le_refl _) hP, h2, fun post H => ?_⟩
  exact nm_r (e' := nI (B + dr) - 1) (by rw [nI_add]) ⟨dr + 1, h3 post H⟩
/-! the copy of a draft -/
theorem zy_copy {k s : Int32} {q : Nat} (hq : q < 4) (hk : k = nI q) (hdr : dr ≤ 48) (hL : Ylengths 4 = nI dr) : ∀ (d j : Nat) (K1 N1 : Nat → Int32), j + d = dr → (∀ i, i < j → K1 (48 * q + i) = Ykinds (192 + i) ∧ N1 (48 * q + i) = Ynumbers (192 + i)) → (∀ i, i < 48 * q ∨ 48 * q + 48 ≤ i → K1 i = Ykinds i ∧ N1 i = Ynumbers i) → ∃ K' N' : Nat → Int32, (∀ i, i < dr → K' (48 * q + i) = Ykinds (192 + i) ∧ N' (48 * q + i) = Ynumbers (192 + i)) ∧ (∀ i, i < 48 * q ∨ 48 * q + 48 ≤ i → K' i = Ykinds i ∧ N' i = Ynumbers i) ∧ ∀ (post : Int32 → SY → Prop) (n : Nat), wY_define_28 post k s yenvs yclosures ywork ybuffer ysteps ymode yat yenv ykind yvalue ycode ytag yresultKind yresultValue n (nI dr) K' N' Yends Ylengths Yparameters Yspecial YplaceKind YplaceValue Ythere YsymbolOf YplaceOf YnextOf YclosureSymbol YclosureBody YclosureEnv YworkToken YworkPhase YworkEnv YkeptKind YkeptValue YboundPlace YoldKind YoldValue YoldBuffer → wY_define_28 post k s yenvs yclosures ywork ybuffer ysteps ymode yat yenv ykind yvalue ycode ytag yresultKind yresultValue (n + d) (nI j) K1 N1 Yends Ylengths Yparameters Yspecial YplaceKind YplaceValue Ythere YsymbolOf YplaceOf YnextOf YclosureSymbol YclosureBody YclosureEnv YworkToken YworkPhase YworkEnv YkeptKind YkeptValue YboundPlace YoldKind YoldValue YoldBuffer := by
  subst hk
  intro d
  induction d with
  | zero =>
    intro j K1 N1 hj h1 h2
    have e : j = dr := by omega
    subst e
    exact ⟨K1, N1, h1, h2, fun post n H => H⟩
  | succ d ih =>
    intro j K1 N1 hj h1 h2
    have e1 : (192 : Int32) + nI j = nI (192 + j) := nI_add 192 j
    have e2 : (48 : Int32) * nI q + nI j = nI (48 * q + j) := by rw [← nI_add, ← pk_mul]; rfl
    obtain ⟨a1, a2⟩ := h2 (192 + j) (by omega)
    obtain ⟨K', N', g1, g2, g3⟩ := ih (j + 1) (upd K1 (48 * q + j) (Ykinds (192 + j))) (upd N1 (48 * q + j) (Ynumbers (192 + j))) (by omega) (fun i hi => by
      by_cases z : i = j
      · subst z; exact ⟨pk_us, pk_us⟩
      · rw [pk_un (by omega), pk_un (by omega)]; exact h1 i (by omega)) (fun i hi => by
      rw [pk_un (by omega), pk_un (by omega)]; exact h2 i hi)
    refine ⟨K', N', g1, g2, fun post n H => ?_⟩
    refine br_f (by rw [hL]; exact nI_ge (by omega) (by omega)) ?_
    have i1 : vp_in ((192 : Int32) + nI j) 240 := by rw [e1]; exact vp_in_nI (by omega) (by omega)
    have i2 : vp_in ((48 : Int32) * nI q + nI j) 240 := by rw [e2]; exact vp_in_nI (by omega) (by omega)
    refine And.intro i1 (And.intro i2 (nm_r (e' := upd K1 (48 * q + j) (Ykinds (192 + j))) ?_ (And.intro i1 (And.intro i2 (nm_r (e' := upd N1 (48 * q + j) (Ynumbers (192 + j))) ?_ (nm_r (nI_1 j) (g3 post n H)))))))
    · rw [e1, e2, nI_clamp (by omega), nI_clamp (by omega), a1]
    · rw [e1, e2, nI_clamp (by omega), nI_clamp (by omega), a2]
end
end
section
/-! X's instructions: from one state to the next -/
def zx_G (u u1 : SX) : Prop := ∀ P : SX → Prop, P u1 → wpX_step P u
def zz_pr (L : Nat → Int32) (b s : Nat) : Nat := if bt (L b) s = true then 8 + 8 * b + s else s
def zz_ev (e : Int32) : Prop := e = -1 ∨ ∃ i, i < 320 ∧ e = nI i
theorem zz_vse {e : Int32} (h : zz_ev e) : vp_nar .short e.toInt16.toInt32 = e := by
  rcases h with h | ⟨i, hi, h⟩
  · subst h; exact zz_vs1
  · subst h; exact zz_vs (by omega)
theorem zz_pr32 {L : Nat → Int32} {b s : Nat} (hb : b < 3) (hs : s < 8) : zz_pr L b s < 32 := by
  unfold zz_pr; split <;> omega
section
variable {xdrafted xspecial xdefined xhere xdepth xscoped xcells xclosures xtop xundo xpc xenv xbuffer xtaken xoutcome xrunning xclosed : Int32} {xgiven : Int64} {Xdraft XdraftValues Xop Xarg Xparameter Xwaiting Xdone Xhole Xscope Xlocals Xparent Xbodies Xbinds Xscopes Xwhat Xfirst Xsecond Xthird : Nat → Int32} {Xplace Xstack Xcell Xkept : Nat → Int64} {u1 : SX} {P : SX → Prop}
theorem zx_dS {p k : Nat} (hp : p < 1280) (hk : k ≤ 18) (hk2 : k ≤ 8 ∨ 12 ≤ k) (ho : Xop p = nI k) (H : ∀ Q : SX → Prop, Q u1 → wpX_simple Q (xdrafted, xspecial, xdefined, xhere, xdepth, xscoped, xcells, xclosures, xtop, xundo, nI (p + 1), xenv, xbuffer, xtaken, xoutcome, xrunning, xgiven, xclosed, Xdraft, XdraftValues, Xop, Xarg, Xparameter, Xwaiting, Xdone, Xhole, Xscope, Xplace, Xlocals, Xstack, Xcell, Xparent, Xbodies, Xbinds, Xscopes, Xwhat, Xfirst, Xsecond, Xthird, Xkept) (nI k) (Xarg p)) : zx_G (xdrafted, xspecial, xdefined, xhere, xdepth, xscoped, xcells, xclosures, xtop, xundo, nI p, xenv, xbuffer, xtaken, xoutcome, xrunning, xgiven, xclosed, Xdraft, XdraftValues, Xop, Xarg, Xparameter, Xwaiting, Xdone, Xhole, Xscope, Xplace, Xlocals, Xstack, Xcell, Xparent, Xbodies, Xbinds, Xscopes, Xwhat, Xfirst, Xsecond, Xthird, Xkept) u1 := by
  intro P HP
  have ip : vp_in (nI p) 1280 := vp_in_nI hp (by omega)
  have ep : (nI p).toNatClampNeg = p := nI_clamp (by omega)
  have hS : wX_step_98 P (nI k) (Xarg p) xdrafted xspecial xdefined xhere xdepth xscoped xcells xclosures xtop xundo (nI (p + 1)) xenv xbuffer xtaken xoutcome xrunning xgiven xclosed Xdraft XdraftValues Xop Xarg Xparameter Xwaiting Xdone Xhole Xscope Xplace Xlocals Xstack Xcell Xparent Xbodies Xbinds Xscopes Xwhat Xfirst Xsecond Xthird Xkept := H _ HP
  refine And.intro ip (nm_r (e' := nI k) (by rw [ep, ho]) (nm_r (e' := nI (p + 1)) (nI_1 p) (And.intro ip (nm_r (e' := Xarg p) (by rw [ep]) ?_))))
  refine br_f ?_ (br_t (nI_le (a := k) (b := 18) hk (by omega)) ?_)
  · rw [show (20 : Int32) = nI 20 from rfl, nI_eq (by omega) (by omega)]; omega
  · rcases hk2 with h | h
    · exact br_t (nI_le (a := k) (b := 8) h (by omega)) hS
    · exact br_f (nI_ge (a := 8) (b := k) (by omega) (by omega)) (br_t (nI_le (a := 12) (b := k) h (by omega)) hS)
theorem zx_dC {p k : Nat} (hp : p < 1280) (hk : 20 < k) (hk2 : k < 36) (ho : Xop p = nI k) (H : ∀ Q : SX → Prop, Q u1 → wpX_control Q (xdrafted, xspecial, xdefined, xhere, xdepth, xscoped, xcells, xclosures, xtop, xundo, nI (p + 1), xenv, xbuffer, xtaken, xoutcome, xrunning, xgiven, xclosed, Xdraft, XdraftValues, Xop, Xarg, Xparameter, Xwaiting, Xdone, Xhole, Xscope, Xplace, Xlocals, Xstack, Xcell, Xparent, Xbodies, Xbinds, Xscopes, Xwhat, Xfirst, Xsecond, Xthird, Xkept) (nI k) (Xarg p)) : zx_G (xdrafted, xspecial, xdefined, xhere, xdepth, xscoped, xcells, xclosures, xtop, xundo, nI p, xenv, xbuffer, xtaken, xoutcome, xrunning, xgiven, xclosed, Xdraft, XdraftValues, Xop, Xarg, Xparameter, Xwaiting, Xdone, Xhole, Xscope, Xplace, Xlocals, Xstack, Xcell, Xparent, Xbodies, Xbinds, Xscopes, Xwhat, Xfirst, Xsecond, Xthird, Xkept) u1 := by
  intro P HP
  have ip : vp_in (nI p) 1280 := vp_in_nI hp (by omega)
  have ep : (nI p).toNatClampNeg = p := nI_clamp (by omega)
  refine And.intro ip (nm_r (e' := nI k) (by rw [ep, ho]) (nm_r (e' := nI (p + 1)) (nI_1 p) (And.intro ip (nm_r (e' := Xarg p) (by rw [ep]) ?_))))
  refine br_f ?_ (br_f (nI_ge (a := 18) (b := k) (by omega) (by omega)) (H _ HP))
  rw [show (20 : Int32) = nI 20 from rfl, nI_eq (by omega) (by omega)]; omega
theorem zx_dR {p k : Nat} (hp : p < 1280) (hk : 8 < k) (hk2 : k < 12) (ho : Xop p = nI k) (H : ∀ Q : SX → Prop, Q u1 → wpX_reckon Q (xdrafted, xspecial, xdefined, xhere, xdepth, xscoped, xcells, xclosures, xtop, xundo, nI (p + 1), xenv, xbuffer, xtaken, xoutcome, xrunning, xgiven, xclosed, Xdraft, XdraftValues, Xop, Xarg, Xparameter, Xwaiting, Xdone, Xhole, Xscope, Xplace, Xlocals, Xstack, Xcell, Xparent, Xbodies, Xbinds, Xscopes, Xwhat, Xfirst, Xsecond, Xthird, Xkept) (nI k)) : zx_G (xdrafted, xspecial, xdefined, xhere, xdepth, xscoped, xcells, xclosures, xtop, xundo, nI p, xenv, xbuffer, xtaken, xoutcome, xrunning, xgiven, xclosed, Xdraft, XdraftValues, Xop, Xarg, Xparameter, Xwaiting, Xdone, Xhole, Xscope, Xplace, Xlocals, Xstack, Xcell, Xparent, Xbodies, Xbinds, Xscopes, Xwhat, Xfirst, Xsecond, Xthird, Xkept) u1 := by
  intro P HP
  have ip : vp_in (nI p) 1280 := vp_in_nI hp (by omega)
  have ep : (nI p).toNatClampNeg = p := nI_clamp (by omega)
  refine And.intro ip (nm_r (e' := nI k) (by rw [ep, ho]) (nm_r (e' := nI (p + 1)) (nI_1 p) (And.intro ip (nm_r (e' := Xarg p) (by rw [ep]) ?_))))
  refine br_f ?_ (br_t (nI_le (a := k) (b := 18) (by omega) (by omega)) (br_f (nI_ge (a := 8) (b := k) (by omega) (by omega)) (br_f (nI_ge (a := k) (b := 12) (by omega) (by omega)) (H _ HP))))
  rw [show (20 : Int32) = nI 20 from rfl, nI_eq (by omega) (by omega)]; omega
theorem zx_step20 {p n : Nat} (hp : p < 1280) (hn : n < 300) (ho : Xop p = 20) : zx_G (xdrafted, xspecial, xdefined, xhere, xdepth, xscoped, xcells, xclosures, xtop, xundo, nI p, xenv, xbuffer, nI n, xoutcome, xrunning, xgiven, xclosed, Xdraft, XdraftValues, Xop, Xarg, Xparameter, Xwaiting, Xdone, Xhole, Xscope, Xplace, Xlocals, Xstack, Xcell, Xparent, Xbodies, Xbinds, Xscopes, Xwhat, Xfirst, Xsecond, Xthird, Xkept) (xdrafted, xspecial, xdefined, xhere, xdepth, xscoped, xcells, xclosures, xtop, xundo, nI (p + 1), xenv, xbuffer, nI (n + 1), xoutcome, xrunning, xgiven, xclosed, Xdraft, XdraftValues, Xop, Xarg, Xparameter, Xwaiting, Xdone, Xhole, Xscope, Xplace, Xlocals, Xstack, Xcell, Xparent, Xbodies, Xbinds, Xscopes, Xwhat, Xfirst, Xsecond, Xthird, Xkept) := by
  intro P HP
  have ip : vp_in (nI p) 1280 := vp_in_nI hp (by omega)
  have ep : (nI p).toNatClampNeg = p := nI_clamp (by omega)
  refine And.intro ip (nm_r (e' := 20) (by rw [ep, ho]) (nm_r (e' := nI (p + 1)) (nI_1 p) (And.intro ip (nm_r (e' := Xarg p) (by rw [ep]) ?_))))
  refine br_t rfl (br_f ?_ (nm_r (nI_1 n) HP))
  rw [show (300 : Int32) = nI 300 from rfl, nI_eq (by omega) (by omega)]; omega
theorem zx_pres {Q : Int32 → Prop} {b s : Nat} (hb : b < 3) (hs : s < 8) (H : Q (nI (zz_pr Xlocals b s))) : wpX_present Q (xdrafted, xspecial, xdefined, xhere, xdepth, xscoped, xcells, xclosures, xtop, xundo, xpc, xenv, nI b, xtaken, xoutcome, xrunning, xgiven, xclosed, Xdraft, XdraftValues, Xop, Xarg, Xparameter, Xwaiting, Xdone, Xhole, Xscope, Xplace, Xlocals, Xstack, Xcell, Xparent, Xbodies, Xbinds, Xscopes, Xwhat, Xfirst, Xsecond, Xthird, Xkept) (nI s) := by
  have eb : (nI b).toNatClampNeg = b := nI_clamp (by omega)
  refine And.intro (vp_in_nI hb (by omega)) ?_
  rw [eb, zz_bit (by omega)]
  unfold zz_pr at H
  refine br_c (fun z => ?_) (fun z => ?_)
  · rw [if_pos z] at H
    rw [show ((8 : Int32) + 8 * nI b) + nI s = nI (8 + 8 * b + s) from by rw [show (8 : Int32) = nI 8 from rfl, pk_mul, nI_add, nI_add]]
    exact H
  · rw [if_neg z] at H
    exact H
/-- simple, where the place doesn't matter -/
theorem zx_simp {k : Int32} {g : Int32} {b : Nat} (hb : b < 3) (H : ∀ z, wX_simple_18 P k g z xdrafted xspecial xdefined xhere xdepth xscoped xcells xclosures xtop xundo xpc xenv (nI b) xtaken xoutcome xrunning xgiven xclosed Xdraft XdraftValues Xop Xarg Xparameter Xwaiting Xdone Xhole Xscope Xplace Xlocals Xstack Xcell Xparent Xbodies Xbinds Xscopes Xwhat Xfirst Xsecond Xthird Xkept) : wpX_simple P (xdrafted, xspecial, xdefined, xhere, xdepth, xscoped, xcells, xclosures, xtop, xundo, xpc, xenv, nI b, xtaken, xoutcome, xrunning, xgiven, xclosed, Xdraft, XdraftValues, Xop, Xarg, Xparameter, Xwaiting, Xdone, Xhole, Xscope, Xplace, Xlocals, Xstack, Xcell, Xparent, Xbodies, Xbinds, Xscopes, Xwhat, Xfirst, Xsecond, Xthird, Xkept) k g := by
  unfold wpX_simple
  refine zx_in (n := 8) (by omega) (fun j hj e => br_f (by decide) ?_) (fun _ => br_t rfl (H 0))
  rw [e]
  rw [e] at H
  exact zx_pres hb hj (H _)
theorem zx_simp8 {k : Int32} {s b : Nat} (hb : b < 3) (hs : s < 8) (H : wX_simple_18 P k (nI s) (nI (zz_pr Xlocals b s)) xdrafted xspecial xdefined xhere xdepth xscoped xcells xclosures xtop xundo xpc xenv (nI b) xtaken xoutcome xrunning xgiven xclosed Xdraft XdraftValues Xop Xarg Xparameter Xwaiting Xdone Xhole Xscope Xplace Xlocals Xstack Xcell Xparent Xbodies Xbinds Xscopes Xwhat Xfirst Xsecond Xthird Xkept) : wpX_simple P (xdrafted, xspecial, xdefined, xhere, xdepth, xscoped, xcells, xclosures, xtop, xundo, xpc, xenv, nI b, xtaken, xoutcome, xrunning, xgiven, xclosed, Xdraft, XdraftValues, Xop, Xarg, Xparameter, Xwaiting, Xdone, Xhole, Xscope, Xplace, Xlocals, Xstack, Xcell, Xparent, Xbodies, Xbinds, Xscopes, Xwhat, Xfirst, Xsecond, Xthird, Xkept) k (nI s) := by
  unfold wpX_simple
  refine zx_in (n := 8) (by omega) (fun j hj e => br_f (by decide) ?_) (fun h => (zz_ni hs (by omega) rfl h).elim)
  exact zx_pres hb hs H
theorem zx_num {p t b : Nat} (hp : p < 1280) (hb : b < 3) (ht : t < 640) (ho : Xop p = 0) : zx_G (xdrafted, xspecial, xdefined, xhere, xdepth, xscoped, xcells, xclosures, nI t, xundo, nI p, xenv, nI b, xtaken, xoutcome, xrunning, xgiven, xclosed, Xdraft, XdraftValues, Xop, Xarg, Xparameter, Xwaiting, Xdone, Xhole, Xscope, Xplace, Xlocals, Xstack, Xcell, Xparent, Xbodies, Xbinds, Xscopes, Xwhat, Xfirst, Xsecond, Xthird, Xkept) (xdrafted, xspecial, xdefined, xhere, xdepth, xscoped, xcells, xclosures, nI (t + 1), xundo, nI (p + 1), xenv, nI b, xtaken, xoutcome, xrunning, xgiven, xclosed, Xdraft, XdraftValues, Xop, Xarg, Xparameter, Xwaiting, Xdone, Xhole, Xscope, Xplace, Xlocals, vp_updL Xstack t (Xarg p).toInt64, Xcell, Xparent, Xbodies, Xbinds, Xscopes, Xwhat, Xfirst, Xsecond, Xthird, Xkept) := by
  refine zx_dS (k := 0) hp (by omega) (by omega) ho (fun Q HQ => zx_simp hb (fun z => ?_))
  refine br_f (by decide) (br_f (by decide) (br_t (by decide) (nm_r (nI_1 t) (And.intro (vp_in_nI ht (by omega)) (nm_r (e' := vp_updL Xstack t (Xarg p).toInt64) ?_ HQ)))))
  rw [nI_clamp (by omega)]
theorem zx_var {p t b s : Nat} (hp : p < 1280) (hb : b < 3) (hs : s < 8) (ht : t < 640) (ho : Xop p = 1) (ha : Xarg p = nI s) (hv : ¬ Xplace (zz_pr Xlocals b s) = 20000000000) : zx_G (xdrafted, xspecial, xdefined, xhere, xdepth, xscoped, xcells, xclosures, nI t, xundo, nI p, xenv, nI b, xtaken, xoutcome, xrunning, xgiven, xclosed, Xdraft, XdraftValues, Xop, Xarg, Xparameter, Xwaiting, Xdone, Xhole, Xscope, Xplace, Xlocals, Xstack, Xcell, Xparent, Xbodies, Xbinds, Xscopes, Xwhat, Xfirst, Xsecond, Xthird, Xkept) (xdrafted, xspecial, xdefined, xhere, xdepth, xscoped, xcells, xclosures, nI (t + 1), xundo, nI (p + 1), xenv, nI b, xtaken, xoutcome, xrunning, xgiven, xclosed, Xdraft, XdraftValues, Xop, Xarg, Xparameter, Xwaiting, Xdone, Xhole, Xscope, Xplace, Xlocals, vp_updL Xstack t (Xplace (zz_pr Xlocals b s)), Xcell, Xparent, Xbodies, Xbinds, Xscopes, Xwhat, Xfirst, Xsecond, Xthird, Xkept) := by
  have h32 := zz_pr32 (L := Xlocals) hb hs
  refine zx_dS (k := 1) hp (by omega) (by omega) ho (fun Q HQ => ?_)
  rw [ha]
  refine zx_simp8 hb hs ?_
  have iz : vp_in (nI (zz_pr Xlocals b s)) 32 := vp_in_nI h32 (by omega)
  have ez : (nI (zz_pr Xlocals b s)).toNatClampNeg = zz_pr Xlocals b s := nI_clamp (by omega)
  refine br_f (by decide) (br_f (by decide) (br_f (by decide) (br_t (by decide) (And.intro iz (br_f (by rw [ez]; exact hv) (nm_r (nI_1 t) (And.intro iz (And.intro (vp_in_nI ht (by omega)) (nm_r (e' := vp_updL Xstack t (Xplace (zz_pr Xlocals b s))) ?_ HQ)))))))))
  rw [nI_clamp (by omega), ez]
theorem zx_set {p t b s : Nat} (hp : p < 1280) (hb : b < 3) (hs : s < 8) (ht : t < 640) (ho : Xop p = 2) (ha : Xarg p = nI s) : zx_G (xdrafted, xspecial, xdefined, xhere, xdepth, xscoped, xcells, xclosures, nI (t + 1), xundo, nI p, xenv, nI b, xtaken, xoutcome, xrunning, xgiven, xclosed, Xdraft, XdraftValues, Xop, Xarg, Xparameter, Xwaiting, Xdone, Xhole, Xscope, Xplace, Xlocals, Xstack, Xcell, Xparent, Xbodies, Xbinds, Xscopes, Xwhat, Xfirst, Xsecond, Xthird, Xkept) (xdrafted, xspecial, xdefined, xhere, xdepth, xscoped, xcells, xclosures, nI (t + 1), xundo, nI (p + 1), xenv, nI b, xtaken, xoutcome, xrunning, xgiven, xclosed, Xdraft, XdraftValues, Xop, Xarg, Xparameter, Xwaiting, Xdone, Xhole, Xscope, vp_updL Xplace (zz_pr Xlocals b s) (Xstack t), Xlocals, Xstack, Xcell, Xparent, Xbodies, Xbinds, Xscopes, Xwhat, Xfirst, Xsecond, Xthird, Xkept) := by
  have h32 := zz_pr32 (L := Xlocals) hb hs
  refine zx_dS (k := 2) hp (by omega) (by omega) ho (fun Q HQ => ?_)
  rw [ha]
  refine zx_simp8 hb hs ?_
  have iz : vp_in (nI (zz_pr Xlocals b s)) 32 := vp_in_nI h32 (by omega)
  have ez : (nI (zz_pr Xlocals b s)).toNatClampNeg = zz_pr Xlocals b s := nI_clamp (by omega)
  refine br_f (by decide) (br_f (by decide) (br_f (by decide) (br_f (by decide) (br_t (by decide) (And.intro (by rw [nI_pred]; exact vp_in_nI ht (by omega)) (And.intro iz (nm_r (e' := vp_updL Xplace (zz_pr Xlocals b s) (Xstack t)) ?_ HQ)))))))
  rw [nI_pred, ez, nI_clamp (by omega)]
theorem zx_local {p t b s : Nat} (hp : p < 1280) (hb : b < 3) (hs : s < 8) (ht : t < 640) (ho : Xop p = 17) (ha : Xarg p = nI s) : zx_G (xdrafted, xspecial, xdefined, xhere, xdepth, xscoped, xcells, xclosures, nI (t + 1), xundo, nI p, xenv, nI b, xtaken, xoutcome, xrunning, xgiven, xclosed, Xdraft, XdraftValues, Xop, Xarg, Xparameter, Xwaiting, Xdone, Xhole, Xscope, Xplace, Xlocals, Xstack, Xcell, Xparent, Xbodies, Xbinds, Xscopes, Xwhat, Xfirst, Xsecond, Xthird, Xkept) (xdrafted, xspecial, xdefined, xhere, xdepth, xscoped, xcells, xclosures, nI (t + 1), xundo, nI (p + 1), xenv, nI b, xtaken, xoutcome, xrunning, xgiven, xclosed, Xdraft, XdraftValues, Xop, Xarg, Xparameter, Xwaiting, Xdone, Xhole, Xscope, vp_updL Xplace (8 + 8 * b + s) (Xstack t), upd Xlocals b ((Xlocals b) ||| ((1 : Int32) <<< (nI s &&& 31))), Xstack, Xcell, Xparent, Xbodies, Xbinds, Xscopes, Xwhat, Xfirst, Xsecond, Xthird, Xkept) := by
  refine zx_dS (k := 17) hp (by omega) (by omega) ho (fun Q HQ => ?_)
  rw [ha]
  refine zx_simp8 hb hs ?_
  have ib : vp_in (nI b) 3 := vp_in_nI hb (by omega)
  have eb : (nI b).toNatClampNeg = b := nI_clamp (by omega)
  have e8 : ((8 : Int32) + 8 * nI b) + nI s = nI (8 + 8 * b + s) := by rw [show (8 : Int32) = nI 8 from rfl, pk_mul, nI_add, nI_add]
  refine br_f (by decide) (br_f (by decide) (br_f (by decide) (br_f (by decide) (br_f (by decide) (br_f (by decide) (br_f (by decide) (br_f (by decide) (br_f (by decide) (br_f (by decide) (br_f (by decide) (br_f (by decide) (br_f (by decide) (br_f (by decide) (br_f (by decide) (br_f (by decide) (br_f (by decide) (br_f (by decide) (br_f (by decide) (br_t (by decide) (And.intro ib (And.intro ib (nm_r (e' := upd Xlocals b ((Xlocals b) ||| ((1 : Int32) <<< (nI s &&& 31)))) ?_ (And.intro (by rw [nI_pred]; exact vp_in_nI ht (by omega)) (And.intro (by rw [e8]; exact vp_in_nI (by omega) (by omega)) (nm_r (e' := vp_updL Xplace (8 + 8 * b + s) (Xstack t)) ?_ HQ)))))))))))))))))))))))))
  · rw [eb]
  · rw [nI_pred, e8, nI_clamp (by omega), nI_clamp (by omega)]
theorem zx_fun {p t b c a s : Nat} (hp : p < 1280) (hb : b < 3) (hs : s < 8) (ht : t < 640) (hc : c < 320) (ha2 : a < 1280) (he : zz_ev xenv) (ho : Xop p = 4) (ha : Xarg p = nI (a + s * 65536)) : zx_G (xdrafted, xspecial, xdefined, xhere, xdepth, xscoped, xcells, nI c, nI t, xundo, nI p, xenv, nI b, xtaken, xoutcome, xrunning, xgiven, xclosed, Xdraft, XdraftValues, Xop, Xarg, Xparameter, Xwaiting, Xdone, Xhole, Xscope, Xplace, Xlocals, Xstack, Xcell, Xparent, Xbodies, Xbinds, Xscopes, Xwhat, Xfirst, Xsecond, Xthird, Xkept) (xdrafted, xspecial, xdefined, xhere, xdepth, xscoped, xcells, nI (c + 1), nI (t + 1), xundo, nI (p + 1), xenv, nI b, xtaken, xoutcome, xrunning, xgiven, xclosed, Xdraft, XdraftValues, Xop, Xarg, Xparameter, Xwaiting, Xdone, Xhole, Xscope, Xplace, Xlocals, vp_updL Xstack t (zz_en 1 (nI c)), Xcell, Xparent, upd Xbodies c (nI a), upd Xbinds c (nI s), upd Xscopes c xenv, Xwhat, Xfirst, Xsecond, Xthird, Xkept) := by
  refine zx_dS (k := 4) hp (by omega) (by omega) ho (fun Q HQ => ?_)
  rw [ha]
  refine zx_simp hb (fun z => ?_)
  have ic : vp_in (nI c) 320 := vp_in_nI hc (by omega)
  have ec : (nI c).toNatClampNeg = c := nI_clamp (by omega)
  refine br_f (by decide) (br_f (by decide) (br_f (by decide) (br_f (by decide) (br_f (by decide) (br_f (by decide) (br_t (by decide) (And.intro ic (nm_r (e' := upd Xbodies c (nI a)) ?_ (And.intro ic (nm_r (e' := upd Xbinds c (nI s)) ?_ (And.intro ic (nm_r (e' := upd Xscopes c xenv) ?_ (nm_r (nI_1 t) (nm_r (nI_1 c) (And.intro (vp_in_nI ht (by omega)) (nm_r (e' := vp_updL Xstack t (zz_en 1 (nI c))) ?_ HQ))))))))))))))))
  · rw [ec, zz_lo (by omega) (by omega), zz_vs (by omega)]
  · rw [ec, zz_hi (by omega) (by omega), zz_vb (by omega)]
  · rw [ec, zz_vse he]
  · rw [nI_clamp (by omega), zz_en1]
theorem zx_if0 {p t b q : Nat} (hp : p < 1280) (hb : b < 3) (ht : t < 640) (hq : q < 1280) (ho : Xop p = 8) (ha : Xarg p = nI (q * 65536)) (hv : Xstack t = 0) : zx_G (xdrafted, xspecial, xdefined, xhere, xdepth, xscoped, xcells, xclosures, nI (t + 1), xundo, nI p, xenv, nI b, xtaken, xoutcome, xrunning, xgiven, xclosed, Xdraft, XdraftValues, Xop, Xarg, Xparameter, Xwaiting, Xdone, Xhole, Xscope, Xplace, Xlocals, Xstack, Xcell, Xparent, Xbodies, Xbinds, Xscopes, Xwhat, Xfirst, Xsecond, Xthird, Xkept) (xdrafted, xspecial, xdefined, xhere, xdepth, xscoped, xcells, xclosures, nI t, xundo, nI q, xenv, nI b, xtaken, xoutcome, xrunning, xgiven, xclosed, Xdraft, XdraftValues, Xop, Xarg, Xparameter, Xwaiting, Xdone, Xhole, Xscope, Xplace, Xlocals, Xstack, Xcell, Xparent, Xbodies, Xbinds, Xscopes, Xwhat, Xfirst, Xsecond, Xthird, Xkept) := by
  refine zx_dS (k := 8) hp (by omega) (by omega) ho (fun Q HQ => ?_)
  rw [ha]
  refine zx_simp hb (fun z => ?_)
  exact br_f (by decide) (br_f (by decide) (br_f (by decide) (br_f (by decide) (br_f (by decide) (br_f (by decide) (br_f (by decide) (br_f (by decide) (br_f (by decide) (br_f (by decide) (br_t (by decide) (nm_r (e' := nI t) (nI_pred t) (And.intro (vp_in_nI ht (by omega)) (br_t (by rw [nI_clamp (by omega)]; exact hv) (nm_r (e' := nI q) (zz_hi0 (by omega)) HQ))))))))))))))
theorem zx_if1 {p t b : Nat} (hp : p < 1280) (hb : b < 3) (ht : t < 640) (ho : Xop p = 8) (hv : ¬ Xstack t = 0) : zx_G (xdrafted, xspecial, xdefined, xhere, xdepth, xscoped, xcells, xclosures, nI (t + 1), xundo, nI p, xenv, nI b, xtaken, xoutcome, xrunning, xgiven, xclosed, Xdraft, XdraftValues, Xop, Xarg, Xparameter, Xwaiting, Xdone, Xhole, Xscope, Xplace, Xlocals, Xstack, Xcell, Xparent, Xbodies, Xbinds, Xscopes, Xwhat, Xfirst, Xsecond, Xthird, Xkept) (xdrafted, xspecial, xdefined, xhere, xdepth, xscoped, xcells, xclosures, nI t, xundo, nI (p + 1), xenv, nI b, xtaken, xoutcome, xrunning, xgiven, xclosed, Xdraft, XdraftValues, Xop, Xarg, Xparameter, Xwaiting, Xdone, Xhole, Xscope, Xplace, Xlocals, Xstack, Xcell, Xparent, Xbodies, Xbinds, Xscopes, Xwhat, Xfirst, Xsecond, Xthird, Xkept) := by
  refine zx_dS (k := 8) hp (by omega) (by omega) ho (fun Q HQ => ?_)
  refine zx_simp hb (fun z => ?_)
  exact br_f (by decide) (br_f (by decide) (br_f (by decide) (br_f (by decide) (br_f (by decide) (br_f (by decide) (br_f (by decide) (br_f (by decide) (br_f (by decide) (br_f (by decide) (br_t (by decide) (nm_r (e' := nI t) (nI_pred t) (And.intro (vp_in_nI ht (by omega)) (br_f (by rw [nI_clamp (by omega)]; exact hv) HQ)))))))))))))
/-! reckoning -/
theorem zx_add {p t : Nat} {x y : Int32} (hp : p < 1280) (ht : t + 1 < 640) (ho : Xop p = 9) (hx : Xstack t = zz_en 0 x) (hy : Xstack (t + 1) = zz_en 0 y) : zx_G (xdrafted, xspecial, xdefined, xhere, xdepth, xscoped, xcells, xclosures, nI (t + 1 + 1), xundo, nI p, xenv, xbuffer, xtaken, xoutcome, xrunning, xgiven, xclosed, Xdraft, XdraftValues, Xop, Xarg, Xparameter, Xwaiting, Xdone, Xhole, Xscope, Xplace, Xlocals, Xstack, Xcell, Xparent, Xbodies, Xbinds, Xscopes, Xwhat, Xfirst, Xsecond, Xthird, Xkept) (xdrafted, xspecial, xdefined, xhere, xdepth, xscoped, xcells, xclosures, nI (t + 1), xundo, nI (p + 1), xenv, xbuffer, xtaken, xoutcome, xrunning, xgiven, xclosed, Xdraft, XdraftValues, Xop, Xarg, Xparameter, Xwaiting, Xdone, Xhole, Xscope, Xplace, Xlocals, vp_updL Xstack t (zz_en 0 (x + y)), Xcell, Xparent, Xbodies, Xbinds, Xscopes, Xwhat, Xfirst, Xsecond, Xthird, Xkept) := by
  refine zx_dR (k := 9) hp (by omega) (by omega) ho (fun Q HQ => ?_)
  have e2 : nI (t + 1 + 1) - 2 = nI t := pk_sub (a := t + 1 + 1) (b := 2) (by omega)
  have e1 : nI (t + 1 + 1) - 1 = nI (t + 1) := nI_pred (t + 1)
  have e0 : nI (t + 1) - 1 = nI t := nI_pred t
  have i0 : vp_in (nI (t + 1) - 1) 640 := by rw [e0]; exact vp_in_nI (by omega) (by omega)
  have w : zz_W 0 0 x := Or.inl (Or.inl rfl)
  have w2 : zz_W 0 0 y := Or.inl (Or.inl rfl)
  refine And.intro (by rw [e2]; exact vp_in_nI (by omega) (by omega)) (nm_r (e' := zz_en 0 x) (by rw [e2, nI_clamp (by omega), hx]) (And.intro (by rw [e1]; exact vp_in_nI ht (by omega)) (nm_r (e' := zz_en 0 y) (by rw [e1, nI_clamp (by omega), hy]) (br_f (by rw [zz_ge (by omega) w]; decide) (br_t (by rw [zz_lt (by omega) w2]; decide) (nm_r (e' := nI (t + 1)) e1 ?_))))))
  refine br_t (by decide) (And.intro i0 (nm_r (e' := vp_updL Xstack t (zz_en 0 (x + y))) ?_ HQ))
  rw [e0, nI_clamp (by omega), zz_add]
theorem zx_sub {p t : Nat} {x y : Int32} (hp : p < 1280) (ht : t + 1 < 640) (ho : Xop p = 10) (hx : Xstack t = zz_en 0 x) (hy : Xstack (t + 1) = zz_en 0 y) : zx_G (xdrafted, xspecial, xdefined, xhere, xdepth, xscoped, xcells, xclosures, nI (t + 1 + 1), xundo, nI p, xenv, xbuffer, xtaken, xoutcome, xrunning, xgiven, xclosed, Xdraft, XdraftValues, Xop, Xarg, Xparameter, Xwaiting, Xdone, Xhole, Xscope, Xplace, Xlocals, Xstack, Xcell, Xparent, Xbodies, Xbinds, Xscopes, Xwhat, Xfirst, Xsecond, Xthird, Xkept) (xdrafted, xspecial, xdefined, xhere, xdepth, xscoped, xcells, xclosures, nI (t + 1), xundo, nI (p + 1), xenv, xbuffer, xtaken, xoutcome, xrunning, xgiven, xclosed, Xdraft, XdraftValues, Xop, Xarg, Xparameter, Xwaiting, Xdone, Xhole, Xscope, Xplace, Xlocals, vp_updL Xstack t (zz_en 0 (x - y)), Xcell, Xparent, Xbodies, Xbinds, Xscopes, Xwhat, Xfirst, Xsecond, Xthird, Xkept) := by
  refine zx_dR (k := 10) hp (by omega) (by omega) ho (fun Q HQ => ?_)
  have e2 : nI (t + 1 + 1) - 2 = nI t := pk_sub (a := t + 1 + 1) (b := 2) (by omega)
  have e1 : nI (t + 1 + 1) - 1 = nI (t + 1) := nI_pred (t + 1)
  have e0 : nI (t + 1) - 1 = nI t := nI_pred t
  have i0 : vp_in (nI (t + 1) - 1) 640 := by rw [e0]; exact vp_in_nI (by omega) (by omega)
  have w : zz_W 0 0 x := Or.inl (Or.inl rfl)
  have w2 : zz_W 0 0 y := Or.inl (Or.inl rfl)
  refine And.intro (by rw [e2]; exact vp_in_nI (by omega) (by omega)) (nm_r (e' := zz_en 0 x) (by rw [e2, nI_clamp (by omega), hx]) (And.intro (by rw [e1]; exact vp_in_nI ht (by omega)) (nm_r (e' := zz_en 0 y) (by rw [e1, nI_clamp (by omega), hy]) (br_f (by rw [zz_ge (by omega) w]; decide) (br_t (by rw [zz_lt (by omega) w2]; decide) (nm_r (e' := nI (t + 1)) e1 ?_))))))
  refine br_f (by decide) (br_t (by decide) (And.intro i0 (nm_r (e' := vp_updL Xstack t (zz_en 0 (x - y))) ?_ HQ)))
  rw [e0, nI_clamp (by omega), zz_sub]
theorem zx_less {p t : Nat} {x y : Int32} (hp : p < 1280) (ht : t + 1 < 640) (ho : Xop p = 11) (hx : Xstack t = zz_en 0 x) (hy : Xstack (t + 1) = zz_en 0 y) : zx_G (xdrafted, xspecial, xdefined, xhere, xdepth, xscoped, xcells, xclosures, nI (t + 1 + 1), xundo, nI p, xenv, xbuffer, xtaken, xoutcome, xrunning, xgiven, xclosed, Xdraft, XdraftValues, Xop, Xarg, Xparameter, Xwaiting, Xdone, Xhole, Xscope, Xplace, Xlocals, Xstack, Xcell, Xparent, Xbodies, Xbinds, Xscopes, Xwhat, Xfirst, Xsecond, Xthird, Xkept) (xdrafted, xspecial, xdefined, xhere, xdepth, xscoped, xcells, xclosures, nI (t + 1), xundo, nI (p + 1), xenv, xbuffer, xtaken, xoutcome, xrunning, xgiven, xclosed, Xdraft, XdraftValues, Xop, Xarg, Xparameter, Xwaiting, Xdone, Xhole, Xscope, Xplace, Xlocals, vp_updL Xstack t (zz_en 0 (if y ≤ x then 0 else 1)), Xcell, Xparent, Xbodies, Xbinds, Xscopes, Xwhat, Xfirst, Xsecond, Xthird, Xkept) := by
  refine zx_dR (k := 11) hp (by omega) (by omega) ho (fun Q HQ => ?_)
  have e2 : nI (t + 1 + 1) - 2 = nI t := pk_sub (a := t + 1 + 1) (b := 2) (by omega)
  have e1 : nI (t + 1 + 1) - 1 = nI (t + 1) := nI_pred (t + 1)
  have e0 : nI (t + 1) - 1 = nI t := nI_pred t
  have i0 : vp_in (nI (t + 1) - 1) 640 := by rw [e0]; exact vp_in_nI (by omega) (by omega)
  have w : zz_W 0 0 x := Or.inl (Or.inl rfl)
  have w2 : zz_W 0 0 y := Or.inl (Or.inl rfl)
  refine And.intro (by rw [e2]; exact vp_in_nI (by omega) (by omega)) (nm_r (e' := zz_en 0 x) (by rw [e2, nI_clamp (by omega), hx]) (And.intro (by rw [e1]; exact vp_in_nI ht (by omega)) (nm_r (e' := zz_en 0 y) (by rw [e1, nI_clamp (by omega), hy]) (br_f (by rw [zz_ge (by omega) w]; decide) (br_t (by rw [zz_lt (by omega) w2]; decide) (nm_r (e' := nI (t + 1)) e1 ?_))))))
  refine br_f (by decide) (br_f (by decide) (br_c (fun z => And.intro i0 (nm_r (e' := vp_updL Xstack t (zz_en 0 (if y ≤ x then 0 else 1))) ?_ HQ)) (fun z => And.intro i0 (nm_r (e' := vp_updL Xstack t (zz_en 0 (if y ≤ x then 0 else 1))) ?_ HQ))))
  · rw [e0, nI_clamp (by omega), if_pos ((zz_les x y).mp z)]; rfl
  · rw [e0, nI_clamp (by omega), if_neg (fun w => z ((zz_les x y).mpr w))]; rfl
/-! the second stack -/
theorem zx_push {n k : Nat} {a b c : Int32} {v : Int64} (hn : n < 960) (hk : k < 128) (H : P (xdrafted, xspecial, xdefined, xhere, xdepth, xscoped, xcells, xclosures, xtop, nI (n + 1), xpc, xenv, xbuffer, xtaken, xoutcome, xrunning, xgiven, xclosed, Xdraft, XdraftValues, Xop, Xarg, Xparameter, Xwaiting, Xdone, Xhole, Xscope, Xplace, Xlocals, Xstack, Xcell, Xparent, Xbodies, Xbinds, Xscopes, upd Xwhat n (nI k), upd Xfirst n a, upd Xsecond n b, upd Xthird n c, vp_updL Xkept n v)) : wpX_push P (xdrafted, xspecial, xdefined, xhere, xdepth, xscoped, xcells, xclosures, xtop, nI n, xpc, xenv, xbuffer, xtaken, xoutcome, xrunning, xgiven, xclosed, Xdraft, XdraftValues, Xop, Xarg, Xparameter, Xwaiting, Xdone, Xhole, Xscope, Xplace, Xlocals, Xstack, Xcell, Xparent, Xbodies, Xbinds, Xscopes, Xwhat, Xfirst, Xsecond, Xthird, Xkept) (nI k) a b c v := by
  have ii : vp_in (nI n) 960 := vp_in_nI hn (by omega)
  have en : (nI n).toNatClampNeg = n := nI_clamp (by omega)
  refine And.intro ii (nm_r (e' := upd Xwhat n (nI k)) ?_ (And.intro ii (nm_r (e' := upd Xfirst n a) ?_ (And.intro ii (nm_r (e' := upd Xsecond n b) ?_ (And.intro ii (nm_r (e' := upd Xthird n c) ?_ (nm_r (nI_1 n) (And.intro ii (nm_r (e' := vp_updL Xkept n v) ?_ H))))))))))
  · rw [en, zz_vb hk]
  · rw [en]
  · rw [en]
  · rw [en]
  · rw [en]
theorem zx_bindS {S : Nat → Int32} {n b s : Nat} {v : Int64} (hS : zz_SP xspecial S) (hs : s < 8) (hb : b < 3) (hn : n < 960) (hz : ¬ S s = 0) (H : P (xdrafted, xspecial, xdefined, xhere, xdepth, xscoped, xcells, xclosures, xtop, nI (n + 1), xpc, xenv, nI b, xtaken, xoutcome, xrunning, xgiven, xclosed, Xdraft, XdraftValues, Xop, Xarg, Xparameter, Xwaiting, Xdone, Xhole, Xscope, vp_updL Xplace (zz_pr Xlocals b s) v, Xlocals, Xstack, Xcell, Xparent, Xbodies, Xbinds, Xscopes, upd Xwhat n (nI 1), upd Xfirst n (nI (zz_pr Xlocals b s)), upd Xsecond n 0, upd Xthird n 0, vp_updL Xkept n (Xplace (zz_pr Xlocals b s)))) : wpX_bind P (xdrafted, xspecial, xdefined, xhere, xdepth, xscoped, xcells, xclosures, xtop, nI n, xpc, xenv, nI b, xtaken, xoutcome, xrunning, xgiven, xclosed, Xdraft, XdraftValues, Xop, Xarg, Xparameter, Xwaiting, Xdone, Xhole, Xscope, Xplace, Xlocals, Xstack, Xcell, Xparent, Xbodies, Xbinds, Xscopes, Xwhat, Xfirst, Xsecond, Xthird, Xkept) (nI s) v := by
  have h32 := zz_pr32 (L := Xlocals) hb hs
  have iz : vp_in (nI (zz_pr Xlocals b s)) 32 := vp_in_nI h32 (by omega)
  have ez : (nI (zz_pr Xlocals b s)).toNatClampNeg = zz_pr Xlocals b s := nI_clamp (by omega)
  unfold wpX_bind
  refine zx_isSp hS hs (fun _ => br_f (by decide) (zx_pres hb hs (And.intro iz ?_))) (fun w => absurd w hz)
  rw [ez]
  exact zx_push (k := 1) hn (by omega) (And.intro iz (nm_r (e' := vp_updL Xplace (zz_pr Xlocals b s) v) rfl H))
theorem zx_bindL {S : Nat → Int32} {n c s : Nat} {v : Int64} (hS : zz_SP xspecial S) (hs : s < 8) (hn : n < 960) (hc : c < 320) (he : zz_ev xenv) (hz : S s = 0) (H : P (xdrafted, xspecial, xdefined, xhere, xdepth, xscoped, nI (c + 1), xclosures, xtop, nI (n + 1), xpc, nI c, xbuffer, xtaken, xoutcome, xrunning, xgiven, xclosed, Xdraft, XdraftValues, Xop, Xarg, Xparameter, Xwaiting, Xdone, Xhole, Xscope, Xplace, Xlocals, Xstack, vp_updL Xcell c v, upd Xparent c xenv, Xbodies, Xbinds, Xscopes, upd Xwhat n (nI 2), upd Xfirst n xenv, upd Xsecond n 0, upd Xthird n 0, vp_updL Xkept n 0)) : wpX_bind P (xdrafted, xspecial, xdefined, xhere, xdepth, xscoped, nI c, xclosures, xtop, nI n, xpc, xenv, xbuffer, xtaken, xoutcome, xrunning, xgiven, xclosed, Xdraft, XdraftValues, Xop, Xarg, Xparameter, Xwaiting, Xdone, Xhole, Xscope, Xplace, Xlocals, Xstack, Xcell, Xparent, Xbodies, Xbinds, Xscopes, Xwhat, Xfirst, Xsecond, Xthird, Xkept) (nI s) v := by
  have ic : vp_in (nI c) 320 := vp_in_nI hc (by omega)
  have ec : (nI c).toNatClampNeg = c := nI_clamp (by omega)
  unfold wpX_bind
  refine zx_isSp hS hs (fun w => absurd hz w) (fun _ => br_t rfl ?_)
  refine zx_push (k := 2) hn (by omega) (And.intro ic (nm_r (e' := vp_updL Xcell c v) (by rw [ec]) (And.intro ic (nm_r (e' := upd Xparent c xenv) (by rw [ec, zz_vse he]) (nm_r (nI_1 c) H)))))
end
end
section
def zx_U (how t : Int32) (v : Int64) (u u1 : SX) : Prop := ∀ P : SX → Prop, P u1 → wpX_unwind P u how t v
section
variable {xdrafted xspecial xdefined xhere xdepth xscoped xcells xclosures xtop xundo xpc xenv xbuffer xtaken xoutcome xrunning xclosed : Int32} {xgiven : Int64} {Xdraft XdraftValues Xop Xarg Xparameter Xwaiting Xdone Xhole Xscope Xlocals Xparent Xbodies Xbinds Xscopes Xwhat Xfirst Xsecond Xthird : Nat → Int32} {Xplace Xstack Xcell Xkept : Nat → Int64} {u1 : SX} {P : SX → Prop}
theorem zx_jump {p q : Nat} (hp : p < 1280) (hq : q < 1280) (ho : Xop p = 23) (ha : Xarg p = nI (q * 65536)) : zx_G (xdrafted, xspecial, xdefined, xhere, xdepth, xscoped, xcells, xclosures, xtop, xundo, nI p, xenv, xbuffer, xtaken, xoutcome, xrunning, xgiven, xclosed, Xdraft, XdraftValues, Xop, Xarg, Xparameter, Xwaiting, Xdone, Xhole, Xscope, Xplace, Xlocals, Xstack, Xcell, Xparent, Xbodies, Xbinds, Xscopes, Xwhat, Xfirst, Xsecond, Xthird, Xkept) (xdrafted, xspecial, xdefined, xhere, xdepth, xscoped, xcells, xclosures, xtop, xundo, nI q, xenv, xbuffer, xtaken, xoutcome, xrunning, xgiven, xclosed, Xdraft, XdraftValues, Xop, Xarg, Xparameter, Xwaiting, Xdone, Xhole, Xscope, Xplace, Xlocals, Xstack, Xcell, Xparent, Xbodies, Xbinds, Xscopes, Xwhat, Xfirst, Xsecond, Xthird, Xkept) := by
  refine zx_dC (k := 23) hp (by omega) (by omega) ho (fun Q HQ => ?_)
  rw [ha]
  exact br_f (by decide) (br_f (by decide) (br_f (by decide) (br_f (by decide) (br_t (by decide) (nm_r (e' := nI q) (zz_hi0 (by omega)) HQ)))))
theorem zx_drop {p t : Nat} (hp : p < 1280) (ho : Xop p = 30) : zx_G (xdrafted, xspecial, xdefined, xhere, xdepth, xscoped, xcells, xclosures, nI (t + 1), xundo, nI p, xenv, xbuffer, xtaken, xoutcome, xrunning, xgiven, xclosed, Xdraft, XdraftValues, Xop, Xarg, Xparameter, Xwaiting, Xdone, Xhole, Xscope, Xplace, Xlocals, Xstack, Xcell, Xparent, Xbodies, Xbinds, Xscopes, Xwhat, Xfirst, Xsecond, Xthird, Xkept) (xdrafted, xspecial, xdefined, xhere, xdepth, xscoped, xcells, xclosures, nI t, xundo, nI (p + 1), xenv, xbuffer, xtaken, xoutcome, xrunning, xgiven, xclosed, Xdraft, XdraftValues, Xop, Xarg, Xparameter, Xwaiting, Xdone, Xhole, Xscope, Xplace, Xlocals, Xstack, Xcell, Xparent, Xbodies, Xbinds, Xscopes, Xwhat, Xfirst, Xsecond, Xthird, Xkept) :=
  zx_dC (k := 30) hp (by omega) (by omega) ho (fun Q HQ => br_f (by decide) (br_f (by decide) (br_f (by decide) (br_f (by decide) (br_f (by decide) (br_f (by decide) (br_f (by decide) (br_f (by decide) (br_f (by decide) (br_f (by decide) (br_f (by decide) (br_t (by decide) (nm_r (e' := nI t) (nI_pred t) HQ)))))))))))))
theorem zx_leave {p n : Nat} (hp : p < 1280) (ho : Xop p = 26) : zx_G (xdrafted, xspecial, xdefined, xhere, xdepth, xscoped, xcells, xclosures, xtop, nI (n + 1), nI p, xenv, xbuffer, xtaken, xoutcome, xrunning, xgiven, xclosed, Xdraft, XdraftValues, Xop, Xarg, Xparameter, Xwaiting, Xdone, Xhole, Xscope, Xplace, Xlocals, Xstack, Xcell, Xparent, Xbodies, Xbinds, Xscopes, Xwhat, Xfirst, Xsecond, Xthird, Xkept) (xdrafted, xspecial, xdefined, xhere, xdepth, xscoped, xcells, xclosures, xtop, nI n, nI (p + 1), xenv, xbuffer, xtaken, xoutcome, xrunning, xgiven, xclosed, Xdraft, XdraftValues, Xop, Xarg, Xparameter, Xwaiting, Xdone, Xhole, Xscope, Xplace, Xlocals, Xstack, Xcell, Xparent, Xbodies, Xbinds, Xscopes, Xwhat, Xfirst, Xsecond, Xthird, Xkept) :=
  zx_dC (k := 26) hp (by omega) (by omega) ho (fun Q HQ => br_f (by decide) (br_f (by decide) (br_f (by decide) (br_f (by decide) (br_f (by decide) (br_f (by decide) (br_f (by decide) (br_t (by decide) (nm_r (e' := nI n) (nI_pred n) HQ)))))))))
theorem zx_back {p n : Nat} (hp : p < 1280) (hn : n < 960) (ho : Xop p = 34) : zx_G (xdrafted, xspecial, xdefined, xhere, xdepth, xscoped, xcells, xclosures, xtop, nI (n + 1), nI p, xenv, xbuffer, xtaken, xoutcome, xrunning, xgiven, xclosed, Xdraft, XdraftValues, Xop, Xarg, Xparameter, Xwaiting, Xdone, Xhole, Xscope, Xplace, Xlocals, Xstack, Xcell, Xparent, Xbodies, Xbinds, Xscopes, Xwhat, Xfirst, Xsecond, Xthird, Xkept) (xdrafted, xspecial, xdefined, xhere, xdepth, xscoped, xcells, xclosures, xtop, nI n, nI (p + 1), xenv, Xfirst n, xtaken, xoutcome, xrunning, xgiven, xclosed, Xdraft, XdraftValues, Xop, Xarg, Xparameter, Xwaiting, Xdone, Xhole, Xscope, Xplace, Xlocals, Xstack, Xcell, Xparent, Xbodies, Xbinds, Xscopes, Xwhat, Xfirst, Xsecond, Xthird, Xkept) :=
  zx_dC (k := 34) hp (by omega) (by omega) ho (fun Q HQ => br_f (by decide) (br_f (by decide) (br_f (by decide) (br_f (by decide) (br_f (by decide) (br_f (by decide) (br_f (by decide) (br_f (by decide) (br_f (by decide) (br_f (by decide) (br_f (by decide) (br_f (by decide) (br_f (by decide) (br_f (by decide) (br_f (by decide) (br_t (by decide) (nm_r (e' := nI n) (nI_pred n) (And.intro (vp_in_nI hn (by omega)) (nm_r (e' := Xfirst n) (by rw [nI_clamp (by omega)]) HQ)))))))))))))))))))
theorem zx_move {p n : Nat} (hp : p < 1280) (hn : n < 960) (ho : Xop p = 33) : zx_G (xdrafted, xspecial, xdefined, xhere, xdepth, xscoped, xcells, xclosures, xtop, nI n, nI p, xenv, xbuffer, xtaken, xoutcome, xrunning, xgiven, xclosed, Xdraft, XdraftValues, Xop, Xarg, Xparameter, Xwaiting, Xdone, Xhole, Xscope, Xplace, Xlocals, Xstack, Xcell, Xparent, Xbodies, Xbinds, Xscopes, Xwhat, Xfirst, Xsecond, Xthird, Xkept) (xdrafted, xspecial, xdefined, xhere, xdepth, xscoped, xcells, xclosures, xtop, nI (n + 1), nI (p + 1), xenv, Xarg p, xtaken, xoutcome, xrunning, xgiven, xclosed, Xdraft, XdraftValues, Xop, Xarg, Xparameter, Xwaiting, Xdone, Xhole, Xscope, Xplace, Xlocals, Xstack, Xcell, Xparent, Xbodies, Xbinds, Xscopes, upd Xwhat n (nI 3), upd Xfirst n xbuffer, upd Xsecond n 0, upd Xthird n 0, vp_updL Xkept n 0) :=
  zx_dC (k := 33) hp (by omega) (by omega) ho (fun Q HQ => br_f (by decide) (br_f (by decide) (br_f (by decide) (br_f (by decide) (br_f (by decide) (br_f (by decide) (br_f (by decide) (br_f (by decide) (br_f (by decide) (br_f (by decide) (br_f (by decide) (br_f (by decide) (br_f (by decide) (br_f (by decide) (br_t (by decide) (zx_push (k := 3) hn (by omega) HQ))))))))))))))))
theorem zx_enterC {p n s q : Nat} (hp : p < 1280) (hn : n < 960) (hs : s < 65536) (hq : q < 1280) (ho : Xop p = 25) (ha : Xarg p = nI (s + q * 65536)) : zx_G (xdrafted, xspecial, xdefined, xhere, xdepth, xscoped, xcells, xclosures, xtop, nI n, nI p, xenv, xbuffer, xtaken, xoutcome, xrunning, xgiven, xclosed, Xdraft, XdraftValues, Xop, Xarg, Xparameter, Xwaiting, Xdone, Xhole, Xscope, Xplace, Xlocals, Xstack, Xcell, Xparent, Xbodies, Xbinds, Xscopes, Xwhat, Xfirst, Xsecond, Xthird, Xkept) (xdrafted, xspecial, xdefined, xhere, xdepth, xscoped, xcells, xclosures, xtop, nI (n + 1), nI (p + 1), xenv, xbuffer, xtaken, xoutcome, xrunning, xgiven, xclosed, Xdraft, XdraftValues, Xop, Xarg, Xparameter, Xwaiting, Xdone, Xhole, Xscope, Xplace, Xlocals, Xstack, Xcell, Xparent, Xbodies, Xbinds, Xscopes, upd Xwhat n (nI 4), upd Xfirst n (nI q), upd Xsecond n xtop, upd Xthird n xenv, vp_updL Xkept n (lN s)) := by
  refine zx_dC (k := 25) hp (by omega) (by omega) ho (fun Q HQ => ?_)
  rw [ha]
  refine br_f (by decide) (br_f (by decide) (br_f (by decide) (br_f (by decide) (br_f (by decide) (br_f (by decide) (br_t (by decide) ?_))))))
  rw [zz_hi hs (by omega), zz_lo hs (by omega), nI_l (by omega)]
  exact zx_push (k := 4) hn (by omega) HQ
theorem zx_attempt {p n q : Nat} (hp : p < 1280) (hn : n < 960) (hq : q < 1280) (ho : Xop p = 35) (ha : Xarg p = nI (q * 65536)) : zx_G (xdrafted, xspecial, xdefined, xhere, xdepth, xscoped, xcells, xclosures, xtop, nI n, nI p, xenv, xbuffer, xtaken, xoutcome, xrunning, xgiven, xclosed, Xdraft, XdraftValues, Xop, Xarg, Xparameter, Xwaiting, Xdone, Xhole, Xscope, Xplace, Xlocals, Xstack, Xcell, Xparent, Xbodies, Xbinds, Xscopes, Xwhat, Xfirst, Xsecond, Xthird, Xkept) (xdrafted, xspecial, xdefined, xhere, xdepth, xscoped, xcells, xclosures, xtop, nI (n + 1), nI (p + 1), xenv, xbuffer, xtaken, xoutcome, xrunning, xgiven, xclosed, Xdraft, XdraftValues, Xop, Xarg, Xparameter, Xwaiting, Xdone, Xhole, Xscope, Xplace, Xlocals, Xstack, Xcell, Xparent, Xbodies, Xbinds, Xscopes, upd Xwhat n (nI 5), upd Xfirst n (nI q), upd Xsecond n xtop, upd Xthird n xenv, vp_updL Xkept n 0) := by
  refine zx_dC (k := 35) hp (by omega) (by omega) ho (fun Q HQ => ?_)
  rw [ha]
  refine br_f (by decide) (br_f (by decide) (br_f (by decide) (br_f (by decide) (br_f (by decide) (br_f (by decide) (br_f (by decide) (br_f (by decide) (br_f (by decide) (br_f (by decide) (br_f (by decide) (br_f (by decide) (br_f (by decide) (br_f (by decide) (br_f (by decide) (br_f (by decide) (br_t (by decide) ?_))))))))))))))))
  rw [zz_hi0 (by omega)]
  exact zx_push (k := 5) hn (by omega) HQ
theorem zx_guard {p n q : Nat} (hp : p < 1280) (hn : n < 960) (hq : q < 1280) (ho : Xop p = 27) (ha : Xarg p = nI (q * 65536)) : zx_G (xdrafted, xspecial, xdefined, xhere, xdepth, xscoped, xcells, xclosures, xtop, nI n, nI p, xenv, xbuffer, xtaken, xoutcome, xrunning, xgiven, xclosed, Xdraft, XdraftValues, Xop, Xarg, Xparameter, Xwaiting, Xdone, Xhole, Xscope, Xplace, Xlocals, Xstack, Xcell, Xparent, Xbodies, Xbinds, Xscopes, Xwhat, Xfirst, Xsecond, Xthird, Xkept) (xdrafted, xspecial, xdefined, xhere, xdepth, xscoped, xcells, xclosures, xtop, nI (n + 1), nI (p + 1), xenv, xbuffer, xtaken, xoutcome, xrunning, xgiven, xclosed, Xdraft, XdraftValues, Xop, Xarg, Xparameter, Xwaiting, Xdone, Xhole, Xscope, Xplace, Xlocals, Xstack, Xcell, Xparent, Xbodies, Xbinds, Xscopes, upd Xwhat n (nI 6), upd Xfirst n (nI q), upd Xsecond n xtop, upd Xthird n xenv, vp_updL Xkept n 0) := by
  refine zx_dC (k := 27) hp (by omega) (by omega) ho (fun Q HQ => ?_)
  rw [ha]
  refine br_f (by decide) (br_f (by decide) (br_f (by decide) (br_f (by decide) (br_f (by decide) (br_f (by decide) (br_f (by decide) (br_f (by decide) (br_t (by decide) ?_))))))))
  rw [zz_hi0 (by omega)]
  exact zx_push (k := 6) hn (by omega) HQ
theorem zx_clean {p n : Nat} (hp : p < 1280) (hn : n < 960) (ho : Xop p = 28) : zx_G (xdrafted, xspecial, xdefined, xhere, xdepth, xscoped, xcells, xclosures, xtop, nI (n + 1), nI p, xenv, xbuffer, xtaken, xoutcome, xrunning, xgiven, xclosed, Xdraft, XdraftValues, Xop, Xarg, Xparameter, Xwaiting, Xdone, Xhole, Xscope, Xplace, Xlocals, Xstack, Xcell, Xparent, Xbodies, Xbinds, Xscopes, Xwhat, Xfirst, Xsecond, Xthird, Xkept) (xdrafted, xspecial, xdefined, xhere, xdepth, xscoped, xcells, xclosures, xtop, nI (n + 1), nI (p + 1), xenv, xbuffer, xtaken, xoutcome, xrunning, xgiven, xclosed, Xdraft, XdraftValues, Xop, Xarg, Xparameter, Xwaiting, Xdone, Xhole, Xscope, Xplace, Xlocals, Xstack, Xcell, Xparent, Xbodies, Xbinds, Xscopes, upd Xwhat n (nI 7), upd Xfirst n 0, upd Xsecond n 0, upd Xthird n 0, vp_updL Xkept n 0) :=
  zx_dC (k := 28) hp (by omega) (by omega) ho (fun Q HQ => br_f (by decide) (br_f (by decide) (br_f (by decide) (br_f (by decide) (br_f (by decide) (br_f (by decide) (br_f (by decide) (br_f (by decide) (br_f (by decide) (br_t (by decide) (nm_r (e' := nI n) (nI_pred n) (zx_push (k := 7) hn (by omega) HQ))))))))))))
theorem zx_resume0 {p n t : Nat} (hp : p < 1280) (hn : n < 960) (ho : Xop p = 29) (hf : Xfirst n = 0) : zx_G (xdrafted, xspecial, xdefined, xhere, xdepth, xscoped, xcells, xclosures, nI (t + 1), nI (n + 1), nI p, xenv, xbuffer, xtaken, xoutcome, xrunning, xgiven, xclosed, Xdraft, XdraftValues, Xop, Xarg, Xparameter, Xwaiting, Xdone, Xhole, Xscope, Xplace, Xlocals, Xstack, Xcell, Xparent, Xbodies, Xbinds, Xscopes, Xwhat, Xfirst, Xsecond, Xthird, Xkept) (xdrafted, xspecial, xdefined, xhere, xdepth, xscoped, xcells, xclosures, nI t, nI n, nI (p + 1), xenv, xbuffer, xtaken, xoutcome, xrunning, xgiven, xclosed, Xdraft, XdraftValues, Xop, Xarg, Xparameter, Xwaiting, Xdone, Xhole, Xscope, Xplace, Xlocals, Xstack, Xcell, Xparent, Xbodies, Xbinds, Xscopes, Xwhat, Xfirst, Xsecond, Xthird, Xkept) := by
  refine zx_dC (k := 29) hp (by omega) (by omega) ho (fun Q HQ => br_f (by decide) (br_f (by decide) (br_f (by decide) (br_f (by decide) (br_f (by decide) (br_f (by decide) (br_f (by decide) (br_f (by decide) (br_f (by decide) (br_f (by decide) (br_t (by decide) ?_)))))))))))
  exact nm_r (e' := nI t) (nI_pred t) (nm_r (e' := nI n) (nI_pred n) (And.intro (vp_in_nI hn (by omega)) (br_t (by rw [nI_clamp (by omega), hf]; decide) HQ)))
theorem zx_resumeU {p n t : Nat} (hp : p < 1280) (hn : n < 960) (ho : Xop p = 29) (hf : ¬ Xfirst n ≤ 0) (HU : zx_U (Xfirst n) (Xsecond n) (Xkept n) (xdrafted, xspecial, xdefined, xhere, xdepth, xscoped, xcells, xclosures, nI t, nI n, nI (p + 1), xenv, xbuffer, xtaken, xoutcome, xrunning, xgiven, xclosed, Xdraft, XdraftValues, Xop, Xarg, Xparameter, Xwaiting, Xdone, Xhole, Xscope, Xplace, Xlocals, Xstack, Xcell, Xparent, Xbodies, Xbinds, Xscopes, Xwhat, Xfirst, Xsecond, Xthird, Xkept) u1) : zx_G (xdrafted, xspecial, xdefined, xhere, xdepth, xscoped, xcells, xclosures, nI (t + 1), nI (n + 1), nI p, xenv, xbuffer, xtaken, xoutcome, xrunning, xgiven, xclosed, Xdraft, XdraftValues, Xop, Xarg, Xparameter, Xwaiting, Xdone, Xhole, Xscope, Xplace, Xlocals, Xstack, Xcell, Xparent, Xbodies, Xbinds, Xscopes, Xwhat, Xfirst, Xsecond, Xthird, Xkept) u1 := by
  refine zx_dC (k := 29) hp (by omega) (by omega) ho (fun Q HQ => br_f (by decide) (br_f (by decide) (br_f (by decide) (br_f (by decide) (br_f (by decide) (br_f (by decide) (br_f (by decide) (br_f (by decide) (br_f (by decide) (br_f (by decide) (br_t (by decide) ?_)))))))))))
  have ii : vp_in (nI n) 960 := vp_in_nI hn (by omega)
  have en : (nI n).toNatClampNeg = n := nI_clamp (by omega)
  refine nm_r (e' := nI t) (nI_pred t) (nm_r (e' := nI n) (nI_pred n) (And.intro ii (br_f (by rw [en]; exact hf) (And.intro ii (And.intro ii (And.intro ii ?_))))))
  rw [en]
  exact HU _ HQ
theorem zx_freeK {n q : Nat} (hn : n < 960) (hq : q < 32) (hw : Xwhat n = 1) (hf : Xfirst n = nI q) (H : P (xdrafted, xspecial, xdefined, xhere, xdepth, xscoped, xcells, xclosures, xtop, nI n, xpc, xenv, xbuffer, xtaken, xoutcome, xrunning, xgiven, xclosed, Xdraft, XdraftValues, Xop, Xarg, Xparameter, Xwaiting, Xdone, Xhole, Xscope, vp_updL Xplace q (Xkept n), Xlocals, Xstack, Xcell, Xparent, Xbodies, Xbinds, Xscopes, Xwhat, Xfirst, Xsecond, Xthird, Xkept)) : wpX_free P (xdrafted, xspecial, xdefined, xhere, xdepth, xscoped, xcells, xclosures, xtop, nI (n + 1), xpc, xenv, xbuffer, xtaken, xoutcome, xrunning, xgiven, xclosed, Xdraft, XdraftValues, Xop, Xarg, Xparameter, Xwaiting, Xdone, Xhole, Xscope, Xplace, Xlocals, Xstack, Xcell, Xparent, Xbodies, Xbinds, Xscopes, Xwhat, Xfirst, Xsecond, Xthird, Xkept) := by
  have ii : vp_in (nI n) 960 := vp_in_nI hn (by omega)
  have en : (nI n).toNatClampNeg = n := nI_clamp (by omega)
  refine nm_r (e' := nI n) (nI_pred n) (And.intro ii (br_t (by rw [en, hw]) (And.intro ii (And.intro ii (And.intro (by rw [en, hf]; exact vp_in_nI hq (by omega)) (nm_r (e' := vp_updL Xplace q (Xkept n)) ?_ H))))))
  rw [en, hf, nI_clamp (by omega)]
theorem zx_freeL {n : Nat} (hn : n < 960) (hw : ¬ Xwhat n = 1) (H : P (xdrafted, xspecial, xdefined, xhere, xdepth, xscoped, xcells, xclosures, xtop, nI n, xpc, Xfirst n, xbuffer, xtaken, xoutcome, xrunning, xgiven, xclosed, Xdraft, XdraftValues, Xop, Xarg, Xparameter, Xwaiting, Xdone, Xhole, Xscope, Xplace, Xlocals, Xstack, Xcell, Xparent, Xbodies, Xbinds, Xscopes, Xwhat, Xfirst, Xsecond, Xthird, Xkept)) : wpX_free P (xdrafted, xspecial, xdefined, xhere, xdepth, xscoped, xcells, xclosures, xtop, nI (n + 1), xpc, xenv, xbuffer, xtaken, xoutcome, xrunning, xgiven, xclosed, Xdraft, XdraftValues, Xop, Xarg, Xparameter, Xwaiting, Xdone, Xhole, Xscope, Xplace, Xlocals, Xstack, Xcell, Xparent, Xbodies, Xbinds, Xscopes, Xwhat, Xfirst, Xsecond, Xthird, Xkept) := by
  have ii : vp_in (nI n) 960 := vp_in_nI hn (by omega)
  have en : (nI n).toNatClampNeg = n := nI_clamp (by omega)
  exact nm_r (e' := nI n) (nI_pred n) (And.intro ii (br_f (by rw [en]; exact hw) (And.intro ii (nm_r (e' := Xfirst n) (by rw [en]) H))))
theorem zx_free22K {p n q : Nat} (hp : p < 1280) (hn : n < 960) (hq : q < 32) (ho : Xop p = 22) (hw : Xwhat n = 1) (hf : Xfirst n = nI q) : zx_G (xdrafted, xspecial, xdefined, xhere, xdepth, xscoped, xcells, xclosures, xtop, nI (n + 1), nI p, xenv, xbuffer, xtaken, xoutcome, xrunning, xgiven, xclosed, Xdraft, XdraftValues, Xop, Xarg, Xparameter, Xwaiting, Xdone, Xhole, Xscope, Xplace, Xlocals, Xstack, Xcell, Xparent, Xbodies, Xbinds, Xscopes, Xwhat, Xfirst, Xsecond, Xthird, Xkept) (xdrafted, xspecial, xdefined, xhere, xdepth, xscoped, xcells, xclosures, xtop, nI n, nI (p + 1), xenv, xbuffer, xtaken, xoutcome, xrunning, xgiven, xclosed, Xdraft, XdraftValues, Xop, Xarg, Xparameter, Xwaiting, Xdone, Xhole, Xscope, vp_updL Xplace q (Xkept n), Xlocals, Xstack, Xcell, Xparent, Xbodies, Xbinds, Xscopes, Xwhat, Xfirst, Xsecond, Xthird, Xkept) :=
  zx_dC (k := 22) hp (by omega) (by omega) ho (fun Q HQ => br_f (by decide) (br_f (by decide) (br_f (by decide) (br_t (by decide) (zx_freeK hn hq hw hf HQ)))))
theorem zx_free22L {p n : Nat} (hp : p < 1280) (hn : n < 960) (ho : Xop p = 22) (hw : ¬ Xwhat n = 1) : zx_G (xdrafted, xspecial, xdefined, xhere, xdepth, xscoped, xcells, xclosures, xtop, nI (n + 1), nI p, xenv, xbuffer, xtaken, xoutcome, xrunning, xgiven, xclosed, Xdraft, XdraftValues, Xop, Xarg, Xparameter, Xwaiting, Xdone, Xhole, Xscope, Xplace, Xlocals, Xstack, Xcell, Xparent, Xbodies, Xbinds, Xscopes, Xwhat, Xfirst, Xsecond, Xthird, Xkept) (xdrafted, xspecial, xdefined, xhere, xdepth, xscoped, xcells, xclosures, xtop, nI n, nI (p + 1), Xfirst n, xbuffer, xtaken, xoutcome, xrunning, xgiven, xclosed, Xdraft, XdraftValues, Xop, Xarg, Xparameter, Xwaiting, Xdone, Xhole, Xscope, Xplace, Xlocals, Xstack, Xcell, Xparent, Xbodies, Xbinds, Xscopes, Xwhat, Xfirst, Xsecond, Xthird, Xkept) :=
  zx_dC (k := 22) hp (by omega) (by omega) ho (fun Q HQ => br_f (by decide) (br_f (by decide) (br_f (by decide) (br_t (by decide) (zx_freeL hn hw HQ)))))
theorem zx_ret0 {p : Nat} (hp : p < 1280) (ho : Xop p = 24) : zx_G (xdrafted, xspecial, xdefined, xhere, xdepth, xscoped, xcells, xclosures, xtop, nI 0, nI p, xenv, xbuffer, xtaken, xoutcome, xrunning, xgiven, xclosed, Xdraft, XdraftValues, Xop, Xarg, Xparameter, Xwaiting, Xdone, Xhole, Xscope, Xplace, Xlocals, Xstack, Xcell, Xparent, Xbodies, Xbinds, Xscopes, Xwhat, Xfirst, Xsecond, Xthird, Xkept) (xdrafted, xspecial, xdefined, xhere, xdepth, xscoped, xcells, xclosures, xtop, nI 0, nI (p + 1), xenv, xbuffer, xtaken, xoutcome, 0, xgiven, xclosed, Xdraft, XdraftValues, Xop, Xarg, Xparameter, Xwaiting, Xdone, Xhole, Xscope, Xplace, Xlocals, Xstack, Xcell, Xparent, Xbodies, Xbinds, Xscopes, Xwhat, Xfirst, Xsecond, Xthird, Xkept) :=
  zx_dC (k := 24) hp (by omega) (by omega) ho (fun Q HQ => br_f (by decide) (br_f (by decide) (br_f (by decide) (br_f (by decide) (br_f (by decide) (br_t (by decide) (br_t rfl HQ)))))))
theorem zx_retK {p n q : Nat} (hp : p < 1280) (hn : n + 1 < 960) (hq : q < 32) (ho : Xop p = 24) (hw : Xwhat (n + 1) = 1) (hf : Xfirst (n + 1) = nI q) : zx_G (xdrafted, xspecial, xdefined, xhere, xdepth, xscoped, xcells, xclosures, xtop, nI (n + 1 + 1), nI p, xenv, xbuffer, xtaken, xoutcome, xrunning, xgiven, xclosed, Xdraft, XdraftValues, Xop, Xarg, Xparameter, Xwaiting, Xdone, Xhole, Xscope, Xplace, Xlocals, Xstack, Xcell, Xparent, Xbodies, Xbinds, Xscopes, Xwhat, Xfirst, Xsecond, Xthird, Xkept) (xdrafted, xspecial, xdefined, xhere, xdepth, xscoped, xcells, xclosures, xtop, nI n, Xfirst n, Xsecond n, xbuffer, xtaken, xoutcome, xrunning, xgiven, xclosed, Xdraft, XdraftValues, Xop, Xarg, Xparameter, Xwaiting, Xdone, Xhole, Xscope, vp_updL Xplace q (Xkept (n + 1)), Xlocals, Xstack, Xcell, Xparent, Xbodies, Xbinds, Xscopes, Xwhat, Xfirst, Xsecond, Xthird, Xkept) := by
  have ii : vp_in (nI n) 960 := vp_in_nI (by omega) (by omega)
  have en : (nI n).toNatClampNeg = n := nI_clamp (by omega)
  refine zx_dC (k := 24) hp (by omega) (by omega) ho (fun Q HQ => br_f (by decide) (br_f (by decide) (br_f (by decide) (br_f (by decide) (br_f (by decide) (br_t (by decide) (br_f (nI_ne0 (by omega) (by omega)) (zx_freeK hn hq hw hf ?_))))))))
  exact nm_r (e' := nI n) (nI_pred n) (And.intro ii (nm_r (e' := Xfirst n) (by rw [en]) (And.intro ii (nm_r (e' := Xsecond n) (by rw [en]) HQ))))
theorem zx_retL {p n : Nat} (hp : p < 1280) (hn : n + 1 < 960) (ho : Xop p = 24) (hw : ¬ Xwhat (n + 1) = 1) : zx_G (xdrafted, xspecial, xdefined, xhere, xdepth, xscoped, xcells, xclosures, xtop, nI (n + 1 + 1), nI p, xenv, xbuffer, xtaken, xoutcome, xrunning, xgiven, xclosed, Xdraft, XdraftValues, Xop, Xarg, Xparameter, Xwaiting, Xdone, Xhole, Xscope, Xplace, Xlocals, Xstack, Xcell, Xparent, Xbodies, Xbinds, Xscopes, Xwhat, Xfirst, Xsecond, Xthird, Xkept) (xdrafted, xspecial, xdefined, xhere, xdepth, xscoped, xcells, xclosures, xtop, nI n, Xfirst n, Xsecond n, xbuffer, xtaken, xoutcome, xrunning, xgiven, xclosed, Xdraft, XdraftValues, Xop, Xarg, Xparameter, Xwaiting, Xdone, Xhole, Xscope, Xplace, Xlocals, Xstack, Xcell, Xparent, Xbodies, Xbinds, Xscopes, Xwhat, Xfirst, Xsecond, Xthird, Xkept) := by
  have ii : vp_in (nI n) 960 := vp_in_nI (by omega) (by omega)
  have en : (nI n).toNatClampNeg = n := nI_clamp (by omega)
  refine zx_dC (k := 24) hp (by omega) (by omega) ho (fun Q HQ => br_f (by decide) (br_f (by decide) (br_f (by decide) (br_f (by decide) (br_f (by decide) (br_t (by decide) (br_f (nI_ne0 (by omega) (by omega)) (zx_freeL hn hw ?_))))))))
  exact nm_r (e' := nI n) (nI_pred n) (And.intro ii (nm_r (e' := Xfirst n) (by rw [en]) (And.intro ii (nm_r (e' := Xsecond n) (by rw [en]) HQ))))
theorem zx_letS {S : Nat → Int32} {p n t b s : Nat} (hp : p < 1280) (hn : n < 960) (ht : t < 640) (hb : b < 3) (hs : s < 8) (hS : zz_SP xspecial S) (hz : ¬ S s = 0) (ho : Xop p = 21) (ha : Xarg p = nI s) : zx_G (xdrafted, xspecial, xdefined, xhere, xdepth, xscoped, xcells, xclosures, nI (t + 1), nI n, nI p, xenv, nI b, xtaken, xoutcome, xrunning, xgiven, xclosed, Xdraft, XdraftValues, Xop, Xarg, Xparameter, Xwaiting, Xdone, Xhole, Xscope, Xplace, Xlocals, Xstack, Xcell, Xparent, Xbodies, Xbinds, Xscopes, Xwhat, Xfirst, Xsecond, Xthird, Xkept) (xdrafted, xspecial, xdefined, xhere, xdepth, xscoped, xcells, xclosures, nI t, nI (n + 1), nI (p + 1), xenv, nI b, xtaken, xoutcome, xrunning, xgiven, xclosed, Xdraft, XdraftValues, Xop, Xarg, Xparameter, Xwaiting, Xdone, Xhole, Xscope, vp_updL Xplace (zz_pr Xlocals b s) (Xstack t), Xlocals, Xstack, Xcell, Xparent, Xbodies, Xbinds, Xscopes, upd Xwhat n (nI 1), upd Xfirst n (nI (zz_pr Xlocals b s)), upd Xsecond n 0, upd Xthird n 0, vp_updL Xkept n (Xplace (zz_pr Xlocals b s))) := by
  refine zx_dC (k := 21) hp (by omega) (by omega) ho (fun Q HQ => ?_)
  rw [ha]
  refine br_f (by decide) (br_f (by decide) (br_t (by decide) (nm_r (e' := nI t) (nI_pred t) (And.intro (vp_in_nI ht (by omega)) ?_))))
  rw [nI_clamp (by omega)]
  exact zx_bindS hS hs hb hn hz HQ
theorem zx_letL {S : Nat → Int32} {p n t c s : Nat} (hp : p < 1280) (hn : n < 960) (ht : t < 640) (hc : c < 320) (hs : s < 8) (he : zz_ev xenv) (hS : zz_SP xspecial S) (hz : S s = 0) (ho : Xop p = 21) (ha : Xarg p = nI s) : zx_G (xdrafted, xspecial, xdefined, xhere, xdepth, xscoped, nI c, xclosures, nI (t + 1), nI n, nI p, xenv, xbuffer, xtaken, xoutcome, xrunning, xgiven, xclosed, Xdraft, XdraftValues, Xop, Xarg, Xparameter, Xwaiting, Xdone, Xhole, Xscope, Xplace, Xlocals, Xstack, Xcell, Xparent, Xbodies, Xbinds, Xscopes, Xwhat, Xfirst, Xsecond, Xthird, Xkept) (xdrafted, xspecial, xdefined, xhere, xdepth, xscoped, nI (c + 1), xclosures, nI t, nI (n + 1), nI (p + 1), nI c, xbuffer, xtaken, xoutcome, xrunning, xgiven, xclosed, Xdraft, XdraftValues, Xop, Xarg, Xparameter, Xwaiting, Xdone, Xhole, Xscope, Xplace, Xlocals, Xstack, vp_updL Xcell c (Xstack t), upd Xparent c xenv, Xbodies, Xbinds, Xscopes, upd Xwhat n (nI 2), upd Xfirst n xenv, upd Xsecond n 0, upd Xthird n 0, vp_updL Xkept n 0) := by
  refine zx_dC (k := 21) hp (by omega) (by omega) ho (fun Q HQ => ?_)
  rw [ha]
  refine br_f (by decide) (br_f (by decide) (br_t (by decide) (nm_r (e' := nI t) (nI_pred t) (And.intro (vp_in_nI ht (by omega)) ?_))))
  rw [nI_clamp (by omega)]
  exact zx_bindL hS hs hn hc he hz HQ
/-! a body begins -/
theorem zx_enterS {S : Nat → Int32} {a s n b : Nat} {en : Int32} {v : Int64} (hS : zz_SP xspecial S) (hs : s < 8) (hb : b < 3) (hn : n + 1 < 960) (hz : ¬ S s = 0) (H : P (xdrafted, xspecial, xdefined, xhere, xdepth, xscoped, xcells, xclosures, xtop, nI (n + 1 + 1), nI a, en, nI b, xtaken, xoutcome, xrunning, xgiven, xclosed, Xdraft, XdraftValues, Xop, Xarg, Xparameter, Xwaiting, Xdone, Xhole, Xscope, vp_updL Xplace (zz_pr Xlocals b s) v, Xlocals, Xstack, Xcell, Xparent, Xbodies, Xbinds, Xscopes, upd (upd Xwhat n (nI 0)) (n + 1) (nI 1), upd (upd Xfirst n xpc) (n + 1) (nI (zz_pr Xlocals b s)), upd (upd Xsecond n xenv) (n + 1) 0, upd (upd Xthird n 0) (n + 1) 0, vp_updL (vp_updL Xkept n 0) (n + 1) (Xplace (zz_pr Xlocals b s)))) : wpX_enter P (xdrafted, xspecial, xdefined, xhere, xdepth, xscoped, xcells, xclosures, xtop, nI n, xpc, xenv, nI b, xtaken, xoutcome, xrunning, xgiven, xclosed, Xdraft, XdraftValues, Xop, Xarg, Xparameter, Xwaiting, Xdone, Xhole, Xscope, Xplace, Xlocals, Xstack, Xcell, Xparent, Xbodies, Xbinds, Xscopes, Xwhat, Xfirst, Xsecond, Xthird, Xkept) (nI a) (nI s) en v := by
  unfold wpX_enter
  exact zx_push (k := 0) (by omega) (by omega) (zx_bindS hS hs hb hn hz H)
theorem zx_enterL {S : Nat → Int32} {a s n c : Nat} {en : Int32} {v : Int64} (hS : zz_SP xspecial S) (hs : s < 8) (hn : n + 1 < 960) (hc : c < 320) (he : zz_ev en) (hz : S s = 0) (H : P (xdrafted, xspecial, xdefined, xhere, xdepth, xscoped, nI (c + 1), xclosures, xtop, nI (n + 1 + 1), nI a, nI c, xbuffer, xtaken, xoutcome, xrunning, xgiven, xclosed, Xdraft, XdraftValues, Xop, Xarg, Xparameter, Xwaiting, Xdone, Xhole, Xscope, Xplace, Xlocals, Xstack, vp_updL Xcell c v, upd Xparent c en, Xbodies, Xbinds, Xscopes, upd (upd Xwhat n (nI 0)) (n + 1) (nI 2), upd (upd Xfirst n xpc) (n + 1) en, upd (upd Xsecond n xenv) (n + 1) 0, upd (upd Xthird n 0) (n + 1) 0, vp_updL (vp_updL Xkept n 0) (n + 1) 0)) : wpX_enter P (xdrafted, xspecial, xdefined, xhere, xdepth, xscoped, nI c, xclosures, xtop, nI n, xpc, xenv, xbuffer, xtaken, xoutcome, xrunning, xgiven, xclosed, Xdraft, XdraftValues, Xop, Xarg, Xparameter, Xwaiting, Xdone, Xhole, Xscope, Xplace, Xlocals, Xstack, Xcell, Xparent, Xbodies, Xbinds, Xscopes, Xwhat, Xfirst, Xsecond, Xthird, Xkept) (nI a) (nI s) en v := by
  unfold wpX_enter
  exact zx_push (k := 0) (by omega) (by omega) (zx_bindL hS hs hn hc he hz H)
theorem zx_call {p t c a s b : Nat} {en : Int32} (hp : p < 1280) (hb : b < 3) (ht : t + 1 < 640) (hc : c < 320) (ho : Xop p = 5) (hf : Xstack t = zz_en 1 (nI c)) (ea : Xbodies c = nI a) (es : Xbinds c = nI s) (ee : Xscopes c = en) (H : ∀ Q : SX → Prop, Q u1 → wpX_enter Q (xdrafted, xspecial, xdefined, xhere, xdepth, xscoped, xcells, xclosures, nI t, xundo, nI (p + 1), xenv, nI b, xtaken, xoutcome, xrunning, xgiven, xclosed, Xdraft, XdraftValues, Xop, Xarg, Xparameter, Xwaiting, Xdone, Xhole, Xscope, Xplace, Xlocals, Xstack, Xcell, Xparent, Xbodies, Xbinds, Xscopes, Xwhat, Xfirst, Xsecond, Xthird, Xkept) (nI a) (nI s) en (Xstack (t + 1))) : zx_G (xdrafted, xspecial, xdefined, xhere, xdepth, xscoped, xcells, xclosures, nI (t + 1 + 1), xundo, nI p, xenv, nI b, xtaken, xoutcome, xrunning, xgiven, xclosed, Xdraft, XdraftValues, Xop, Xarg, Xparameter, Xwaiting, Xdone, Xhole, Xscope, Xplace, Xlocals, Xstack, Xcell, Xparent, Xbodies, Xbinds, Xscopes, Xwhat, Xfirst, Xsecond, Xthird, Xkept) u1 := by
  refine zx_dS (k := 5) hp (by omega) (by omega) ho (fun Q HQ => zx_simp hb (fun z => ?_))
  have e2 : nI (t + 1 + 1) - 2 = nI t := pk_sub (a := t + 1 + 1) (b := 2) (by omega)
  have e1 : nI t + 1 = nI (t + 1) := nI_1 t
  have w : zz_W (c + 1) 1 (nI c) := Or.inl (Or.inr ⟨rfl, c, by omega, rfl⟩)
  have ic : vp_in (nI c) 320 := vp_in_nI hc (by omega)
  have ec : (nI c).toNatClampNeg = c := nI_clamp (by omega)
  refine br_f (by decide) (br_f (by decide) (br_f (by decide) (br_f (by decide) (br_f (by decide) (br_f (by decide) (br_f (by decide) (br_t (by decide) ?_)))))))
  refine And.intro (by rw [e2]; exact vp_in_nI (by omega) (by omega)) (nm_r (e' := zz_en 1 (nI c)) (by rw [e2, nI_clamp (by omega), hf]) (br_t (by rw [zz_ge (by omega) w]) (nm_r (e' := nI c) (zz_cl (by omega)) (nm_r (e' := nI t) e2 (And.intro ic (And.intro ic (And.intro ic (And.intro (by rw [e1]; exact vp_in_nI ht (by omega)) ?_))))))))
  rw [ec, ea, es, ee, e1, nI_clamp (by omega)]
  exact H _ HQ
theorem zx_named {p t q s b : Nat} (hp : p < 1280) (hb : b < 3) (ht : t < 640) (hq : q < 4) (ho : Xop p = 6) (ha : Xarg p = nI q) (hd : bt xdefined q = true) (es : Xparameter q = nI s) (H : ∀ Q : SX → Prop, Q u1 → wpX_enter Q (xdrafted, xspecial, xdefined, xhere, xdepth, xscoped, xcells, xclosures, nI t, xundo, nI (p + 1), xenv, nI b, xtaken, xoutcome, xrunning, xgiven, xclosed, Xdraft, XdraftValues, Xop, Xarg, Xparameter, Xwaiting, Xdone, Xhole, Xscope, Xplace, Xlocals, Xstack, Xcell, Xparent, Xbodies, Xbinds, Xscopes, Xwhat, Xfirst, Xsecond, Xthird, Xkept) (nI (256 * q)) (nI s) (-1) (Xstack t)) : zx_G (xdrafted, xspecial, xdefined, xhere, xdepth, xscoped, xcells, xclosures, nI (t + 1), xundo, nI p, xenv, nI b, xtaken, xoutcome, xrunning, xgiven, xclosed, Xdraft, XdraftValues, Xop, Xarg, Xparameter, Xwaiting, Xdone, Xhole, Xscope, Xplace, Xlocals, Xstack, Xcell, Xparent, Xbodies, Xbinds, Xscopes, Xwhat, Xfirst, Xsecond, Xthird, Xkept) u1 := by
  refine zx_dS (k := 6) hp (by omega) (by omega) ho (fun Q HQ => ?_)
  rw [ha]
  refine zx_simp hb (fun z => ?_)
  refine br_f (by decide) (br_f (by decide) (br_f (by decide) (br_f (by decide) (br_f (by decide) (br_f (by decide) (br_f (by decide) (br_f (by decide) (br_t (by decide) (br_f (by rw [zz_bitz (by omega), hd]; decide) (nm_r (e' := nI t) (nI_pred t) (And.intro (vp_in_nI hq (by omega)) (And.intro (vp_in_nI ht (by omega)) ?_))))))))))))
  rw [nI_clamp (by omega), es, nI_clamp (by omega), show (256 : Int32) * nI q = nI (256 * q) from pk_mul 256 q]
  exact H _ HQ
/-! lexical places -/
theorem zx_near {p t c : Nat} (hp : p < 1280) (ht : t < 640) (hc : c < 320) (ho : Xop p = 31) (hN : ∀ Q : Int32 → Prop, Q (nI c) → wpX_nearCell Q (xdrafted, xspecial, xdefined, xhere, xdepth, xscoped, xcells, xclosures, nI t, xundo, nI (p + 1), xenv, xbuffer, xtaken, xoutcome, xrunning, xgiven, xclosed, Xdraft, XdraftValues, Xop, Xarg, Xparameter, Xwaiting, Xdone, Xhole, Xscope, Xplace, Xlocals, Xstack, Xcell, Xparent, Xbodies, Xbinds, Xscopes, Xwhat, Xfirst, Xsecond, Xthird, Xkept) (Xarg p)) : zx_G (xdrafted, xspecial, xdefined, xhere, xdepth, xscoped, xcells, xclosures, nI t, xundo, nI p, xenv, xbuffer, xtaken, xoutcome, xrunning, xgiven, xclosed, Xdraft, XdraftValues, Xop, Xarg, Xparameter, Xwaiting, Xdone, Xhole, Xscope, Xplace, Xlocals, Xstack, Xcell, Xparent, Xbodies, Xbinds, Xscopes, Xwhat, Xfirst, Xsecond, Xthird, Xkept) (xdrafted, xspecial, xdefined, xhere, xdepth, xscoped, xcells, xclosures, nI (t + 1), xundo, nI (p + 1), xenv, xbuffer, xtaken, xoutcome, xrunning, xgiven, xclosed, Xdraft, XdraftValues, Xop, Xarg, Xparameter, Xwaiting, Xdone, Xhole, Xscope, Xplace, Xlocals, vp_updL Xstack t (Xcell c), Xcell, Xparent, Xbodies, Xbinds, Xscopes, Xwhat, Xfirst, Xsecond, Xthird, Xkept) := by
  refine zx_dC (k := 31) hp (by omega) (by omega) ho (fun Q HQ => br_f (by decide) (br_f (by decide) (br_f (by decide) (br_f (by decide) (br_f (by decide) (br_f (by decide) (br_f (by decide) (br_f (by decide) (br_f (by decide) (br_f (by decide) (br_f (by decide) (br_f (by decide) (br_t (by decide) ?_)))))))))))))
  unfold wX_control_349
  refine hN _ (br_t (by decide) (nm_r (nI_1 t) (And.intro (vp_in_nI hc (by omega)) (And.intro (vp_in_nI ht (by omega)) (nm_r (e' := vp_updL Xstack t (Xcell c)) ?_ HQ)))))
  rw [nI_clamp (by omega), nI_clamp (by omega)]
theorem zx_nearset {p t c : Nat} (hp : p < 1280) (ht : t < 640) (hc : c < 320) (ho : Xop p = 32) (hN : ∀ Q : Int32 → Prop, Q (nI c) → wpX_nearCell Q (xdrafted, xspecial, xdefined, xhere, xdepth, xscoped, xcells, xclosures, nI (t + 1), xundo, nI (p + 1), xenv, xbuffer, xtaken, xoutcome, xrunning, xgiven, xclosed, Xdraft, XdraftValues, Xop, Xarg, Xparameter, Xwaiting, Xdone, Xhole, Xscope, Xplace, Xlocals, Xstack, Xcell, Xparent, Xbodies, Xbinds, Xscopes, Xwhat, Xfirst, Xsecond, Xthird, Xkept) (Xarg p)) : zx_G (xdrafted, xspecial, xdefined, xhere, xdepth, xscoped, xcells, xclosures, nI (t + 1), xundo, nI p, xenv, xbuffer, xtaken, xoutcome, xrunning, xgiven, xclosed, Xdraft, XdraftValues, Xop, Xarg, Xparameter, Xwaiting, Xdone, Xhole, Xscope, Xplace, Xlocals, Xstack, Xcell, Xparent, Xbodies, Xbinds, Xscopes, Xwhat, Xfirst, Xsecond, Xthird, Xkept) (xdrafted, xspecial, xdefined, xhere, xdepth, xscoped, xcells, xclosures, nI (t + 1), xundo, nI (p + 1), xenv, xbuffer, xtaken, xoutcome, xrunning, xgiven, xclosed, Xdraft, XdraftValues, Xop, Xarg, Xparameter, Xwaiting, Xdone, Xhole, Xscope, Xplace, Xlocals, Xstack, vp_updL Xcell c (Xstack t), Xparent, Xbodies, Xbinds, Xscopes, Xwhat, Xfirst, Xsecond, Xthird, Xkept) := by
  refine zx_dC (k := 32) hp (by omega) (by omega) ho (fun Q HQ => br_f (by decide) (br_f (by decide) (br_f (by decide) (br_f (by decide) (br_f (by decide) (br_f (by decide) (br_f (by decide) (br_f (by decide) (br_f (by decide) (br_f (by decide) (br_f (by decide) (br_f (by decide) (br_f (by decide) (br_t (by decide) ?_))))))))))))))
  unfold wX_control_349
  refine hN _ (br_f (by decide) (And.intro (by rw [nI_pred]; exact vp_in_nI ht (by omega)) (And.intro (vp_in_nI hc (by omega)) (nm_r (e' := vp_updL Xcell c (Xstack t)) ?_ HQ))))
  rw [nI_pred, nI_clamp (by omega), nI_clamp (by omega)]
/-! what ends by an error -/
theorem zx_failE {p b : Nat} (hp : p < 1280) (hb : b < 3) (ho : Xop p = 18) (HU : zx_U 2 4 0 (xdrafted, xspecial, xdefined, xhere, xdepth, xscoped, xcells, xclosures, xtop, xundo, nI (p + 1), xenv, nI b, xtaken, xoutcome, xrunning, xgiven, xclosed, Xdraft, XdraftValues, Xop, Xarg, Xparameter, Xwaiting, Xdone, Xhole, Xscope, Xplace, Xlocals, Xstack, Xcell, Xparent, Xbodies, Xbinds, Xscopes, Xwhat, Xfirst, Xsecond, Xthird, Xkept) u1) : zx_G (xdrafted, xspecial, xdefined, xhere, xdepth, xscoped, xcells, xclosures, xtop, xundo, nI p, xenv, nI b, xtaken, xoutcome, xrunning, xgiven, xclosed, Xdraft, XdraftValues, Xop, Xarg, Xparameter, Xwaiting, Xdone, Xhole, Xscope, Xplace, Xlocals, Xstack, Xcell, Xparent, Xbodies, Xbinds, Xscopes, Xwhat, Xfirst, Xsecond, Xthird, Xkept) u1 :=
  zx_dS (k := 18) hp (by omega) (by omega) ho (fun Q HQ => zx_simp hb (fun z => br_f (by decide) (br_t (by decide) (HU _ HQ))))
theorem zx_varE {p b s : Nat} (hp : p < 1280) (hb : b < 3) (hs : s < 8) (ho : Xop p = 1) (ha : Xarg p = nI s) (hv : Xplace (zz_pr Xlocals b s) = 20000000000) (HU : zx_U 2 1 0 (xdrafted, xspecial, xdefined, xhere, xdepth, xscoped, xcells, xclosures, xtop, xundo, nI (p + 1), xenv, nI b, xtaken, xoutcome, xrunning, xgiven, xclosed, Xdraft, XdraftValues, Xop, Xarg, Xparameter, Xwaiting, Xdone, Xhole, Xscope, Xplace, Xlocals, Xstack, Xcell, Xparent, Xbodies, Xbinds, Xscopes, Xwhat, Xfirst, Xsecond, Xthird, Xkept) u1) : zx_G (xdrafted, xspecial, xdefined, xhere, xdepth, xscoped, xcells, xclosures, xtop, xundo, nI p, xenv, nI b, xtaken, xoutcome, xrunning, xgiven, xclosed, Xdraft, XdraftValues, Xop, Xarg, Xparameter, Xwaiting, Xdone, Xhole, Xscope, Xplace, Xlocals, Xstack, Xcell, Xparent, Xbodies, Xbinds, Xscopes, Xwhat, Xfirst, Xsecond, Xthird, Xkept) u1 := by
  have h32 := zz_pr32 (L := Xlocals) hb hs
  refine zx_dS (k := 1) hp (by omega) (by omega) ho (fun Q HQ => ?_)
  rw [ha]
  refine zx_simp8 hb hs ?_
  exact br_f (by decide) (br_f (by decide) (br_f (by decide) (br_t (by decide) (And.intro (vp_in_nI h32 (by omega)) (br_t (by rw [nI_clamp (by omega)]; exact hv) (HU _ HQ))))))
theorem zx_callE {p t b : Nat} (hp : p < 1280) (hb : b < 3) (ht : t + 1 < 640) (ho : Xop p = 5) (hf : ¬ 30000000000 ≤ Xstack t) (HU : zx_U 2 2 0 (xdrafted, xspecial, xdefined, xhere, xdepth, xscoped, xcells, xclosures, nI (t + 1 + 1), xundo, nI (p + 1), xenv, nI b, xtaken, xoutcome, xrunning, xgiven, xclosed, Xdraft, XdraftValues, Xop, Xarg, Xparameter, Xwaiting, Xdone, Xhole, Xscope, Xplace, Xlocals, Xstack, Xcell, Xparent, Xbodies, Xbinds, Xscopes, Xwhat, Xfirst, Xsecond, Xthird, Xkept) u1) : zx_G (xdrafted, xspecial, xdefined, xhere, xdepth, xscoped, xcells, xclosures, nI (t + 1 + 1), xundo, nI p, xenv, nI b, xtaken, xoutcome, xrunning, xgiven, xclosed, Xdraft, XdraftValues, Xop, Xarg, Xparameter, Xwaiting, Xdone, Xhole, Xscope, Xplace, Xlocals, Xstack, Xcell, Xparent, Xbodies, Xbinds, Xscopes, Xwhat, Xfirst, Xsecond, Xthird, Xkept) u1 := by
  have e2 : nI (t + 1 + 1) - 2 = nI t := pk_sub (a := t + 1 + 1) (b := 2) (by omega)
  refine zx_dS (k := 5) hp (by omega) (by omega) ho (fun Q HQ => zx_simp hb (fun z => br_f (by decide) (br_f (by decide) (br_f (by decide) (br_f (by decide) (br_f (by decide) (br_f (by decide) (br_f (by decide) (br_t (by decide) ?_)))))))))
  exact And.intro (by rw [e2]; exact vp_in_nI (by omega) (by omega)) (nm_r (e' := Xstack t) (by rw [e2, nI_clamp (by omega)]) (br_f hf (HU _ HQ)))
theorem zx_namedE {p t q b : Nat} (hp : p < 1280) (hb : b < 3) (hq : q < 4) (ho : Xop p = 6) (ha : Xarg p = nI q) (hd : bt xdefined q = false) (HU : zx_U 2 3 0 (xdrafted, xspecial, xdefined, xhere, xdepth, xscoped, xcells, xclosures, nI (t + 1), xundo, nI (p + 1), xenv, nI b, xtaken, xoutcome, xrunning, xgiven, xclosed, Xdraft, XdraftValues, Xop, Xarg, Xparameter, Xwaiting, Xdone, Xhole, Xscope, Xplace, Xlocals, Xstack, Xcell, Xparent, Xbodies, Xbinds, Xscopes, Xwhat, Xfirst, Xsecond, Xthird, Xkept) u1) : zx_G (xdrafted, xspecial, xdefined, xhere, xdepth, xscoped, xcells, xclosures, nI (t + 1), xundo, nI p, xenv, nI b, xtaken, xoutcome, xrunning, xgiven, xclosed, Xdraft, XdraftValues, Xop, Xarg, Xparameter, Xwaiting, Xdone, Xhole, Xscope, Xplace, Xlocals, Xstack, Xcell, Xparent, Xbodies, Xbinds, Xscopes, Xwhat, Xfirst, Xsecond, Xthird, Xkept) u1 := by
  refine zx_dS (k := 6) hp (by omega) (by omega) ho (fun Q HQ => ?_)
  rw [ha]
  refine zx_simp hb (fun z => ?_)
  exact br_f (by decide) (br_f (by decide) (br_f (by decide) (br_f (by decide) (br_f (by decide) (br_f (by decide) (br_f (by decide) (br_f (by decide) (br_t (by decide) (br_t (by rw [zz_bitz (by omega), hd]) (HU _ HQ))))))))))
theorem zx_reckE {p t k : Nat} (hp : p < 1280) (ht : t + 1 < 640) (hk : k = 9 ∨ k = 10 ∨ k = 11) (ho : Xop p = nI k) (hf : 30000000000 ≤ Xstack t ∨ (¬ 30000000000 ≤ Xstack t ∧ ¬ Xstack (t + 1) < 30000000000)) (HU : zx_U 2 2 0 (xdrafted, xspecial, xdefined, xhere, xdepth, xscoped, xcells, xclosures, nI (t + 1 + 1), xundo, nI (p + 1), xenv, xbuffer, xtaken, xoutcome, xrunning, xgiven, xclosed, Xdraft, XdraftValues, Xop, Xarg, Xparameter, Xwaiting, Xdone, Xhole, Xscope, Xplace, Xlocals, Xstack, Xcell, Xparent, Xbodies, Xbinds, Xscopes, Xwhat, Xfirst, Xsecond, Xthird, Xkept) u1) : zx_G (xdrafted, xspecial, xdefined, xhere, xdepth, xscoped, xcells, xclosures, nI (t + 1 + 1), xundo, nI p, xenv, xbuffer, xtaken, xoutcome, xrunning, xgiven, xclosed, Xdraft, XdraftValues, Xop, Xarg, Xparameter, Xwaiting, Xdone, Xhole, Xscope, Xplace, Xlocals, Xstack, Xcell, Xparent, Xbodies, Xbinds, Xscopes, Xwhat, Xfirst, Xsecond, Xthird, Xkept) u1 := by
  refine zx_dR (k := k) hp (by omega) (by omega) ho (fun Q HQ => ?_)
  have e2 : nI (t + 1 + 1) - 2 = nI t := pk_sub (a := t + 1 + 1) (b := 2) (by omega)
  have e1 : nI (t + 1 + 1) - 1 = nI (t + 1) := nI_pred (t + 1)
  have h42 : wX_reckon_42 Q xdrafted xspecial xdefined xhere xdepth xscoped xcells xclosures (nI (t + 1 + 1)) xundo (nI (p + 1)) xenv xbuffer xtaken xoutcome xrunning xgiven xclosed Xdraft XdraftValues Xop Xarg Xparameter Xwaiting Xdone Xhole Xscope Xplace Xlocals Xstack Xcell Xparent Xbodies Xbinds Xscopes Xwhat Xfirst Xsecond Xthird Xkept := HU _ HQ
  refine And.intro (by rw [e2]; exact vp_in_nI (by omega) (by omega)) (nm_r (e' := Xstack t) (by rw [e2, nI_clamp (by omega)]) (And.intro (by rw [e1]; exact vp_in_nI ht (by omega)) (nm_r (e' := Xstack (t + 1)) (by rw [e1, nI_clamp (by omega)]) ?_)))
  rcases hf with h | ⟨h, h'⟩
  · exact br_t h h42
  · exact br_f h (br_f h' h42)
end
end
section
abbrev zz_XE : Type := Int32 × Int32 × Int32 × Int32 × Int64
abbrev zz_YF : Type := Nat × Nat × Int32 × Int32 × Int32 × Int32 × Int32 × Int32 × Nat × Nat
def zx_L (how t : Int32) (v : Int64) (u u1 : SX) : Prop := match u with
  | (xdrafted, xspecial, xdefined, xhere, xdepth, xscoped, xcells, xclosures, xtop, xundo, xpc, xenv, xbuffer, xtaken, xoutcome, xrunning, xgiven, xclosed, Xdraft, XdraftValues, Xop, Xarg, Xparameter, Xwaiting, Xdone, Xhole, Xscope, Xplace, Xlocals, Xstack, Xcell, Xparent, Xbodies, Xbinds, Xscopes, Xwhat, Xfirst, Xsecond, Xthird, Xkept) => ∃ n, ∀ P : SX → Prop, P u1 → wX_unwind_0 P how t v xdrafted xspecial xdefined xhere xdepth xscoped xcells xclosures xtop xpc xenv xtaken xoutcome xrunning xgiven xclosed n xundo xbuffer Xdraft XdraftValues Xop Xarg Xparameter Xwaiting Xdone Xhole Xscope Xplace Xlocals Xstack Xcell Xparent Xbodies Xbinds Xscopes Xwhat Xfirst Xsecond Xthird Xkept
def zx_T (u u1 : SX) : Prop := match u with
  | (xdrafted, xspecial, xdefined, xhere, xdepth, xscoped, xcells, xclosures, xtop, xundo, xpc, xenv, xbuffer, xtaken, xoutcome, xrunning, xgiven, xclosed, Xdraft, XdraftValues, Xop, Xarg, Xparameter, Xwaiting, Xdone, Xhole, Xscope, Xplace, Xlocals, Xstack, Xcell, Xparent, Xbodies, Xbinds, Xscopes, Xwhat, Xfirst, Xsecond, Xthird, Xkept) => ∃ n, ∀ P : SX → Prop, P u1 → wX_stop_10 P xdrafted xspecial xdefined xhere xdepth xscoped xcells xclosures xtop xpc xenv xbuffer xtaken xoutcome xrunning xgiven xclosed n xundo Xdraft XdraftValues Xop Xarg Xparameter Xwaiting Xdone Xhole Xscope Xplace Xlocals Xstack Xcell Xparent Xbodies Xbinds Xscopes Xwhat Xfirst Xsecond Xthird Xkept
def zz_mt (s : Nat) (l : List zz_XE) : Prop := ∃ y, y ∈ l ∧ y.1 = 4 ∧ y.2.2.2.2 = lN s
section
variable {xdrafted xspecial xdefined xhere xdepth xscoped xcells xclosures xtop xundo xpc xenv xbuffer xtaken xoutcome xrunning xclosed : Int32} {xgiven : Int64} {Xdraft XdraftValues Xop Xarg Xparameter Xwaiting Xdone Xhole Xscope Xlocals Xparent Xbodies Xbinds Xscopes Xwhat Xfirst Xsecond Xthird : Nat → Int32} {Xplace Xstack Xcell Xkept : Nat → Int64} {u1 : SX} {P : SX → Prop}
theorem zx_LU {how t : Int32} {v : Int64} (H : zx_L how t v (xdrafted, xspecial, xdefined, xhere, xdepth, xscoped, xcells, xclosures, xtop, xundo, xpc, xenv, xbuffer, xtaken, xoutcome, xrunning, xgiven, xclosed, Xdraft, XdraftValues, Xop, Xarg, Xparameter, Xwaiting, Xdone, Xhole, Xscope, Xplace, Xlocals, Xstack, Xcell, Xparent, Xbodies, Xbinds, Xscopes, Xwhat, Xfirst, Xsecond, Xthird, Xkept) u1) : zx_U how t v (xdrafted, xspecial, xdefined, xhere, xdepth, xscoped, xcells, xclosures, xtop, xundo, xpc, xenv, xbuffer, xtaken, xoutcome, xrunning, xgiven, xclosed, Xdraft, XdraftValues, Xop, Xarg, Xparameter, Xwaiting, Xdone, Xhole, Xscope, Xplace, Xlocals, Xstack, Xcell, Xparent, Xbodies, Xbinds, Xscopes, Xwhat, Xfirst, Xsecond, Xthird, Xkept) u1 := by
  obtain ⟨n, h⟩ := H
  exact fun P HP => ⟨n, h P HP⟩
/-! tails of one turn of unwind -/
theorem zx_u73s {how t w : Int32} {v : Int64} {k n : Nat} (h1 : ¬ w = 1) (h3 : ¬ w = 3) (h6 : ¬ w = 6) (H : wX_unwind_0 P how t v xdrafted xspecial xdefined xhere xdepth xscoped xcells xclosures xtop xpc xenv xtaken xoutcome xrunning xgiven xclosed k (nI n) xbuffer Xdraft XdraftValues Xop Xarg Xparameter Xwaiting Xdone Xhole Xscope Xplace Xlocals Xstack Xcell Xparent Xbodies Xbinds Xscopes Xwhat Xfirst Xsecond Xthird Xkept) : wX_unwind_73 P (wX_unwind_0 P how t v xdrafted xspecial xdefined xhere xdepth xscoped xcells xclosures xtop xpc xenv xtaken xoutcome xrunning xgiven xclosed k) how t v w 0 xdrafted xspecial xdefined xhere xdepth xscoped xcells xclosures xtop (nI n) xpc xenv xbuffer xtaken xoutcome xrunning xgiven xclosed Xdraft XdraftValues Xop Xarg Xparameter Xwaiting Xdone Xhole Xscope Xplace Xlocals Xstack Xcell Xparent Xbodies Xbinds Xscopes Xwhat Xfirst Xsecond Xthird Xkept :=
  br_f h1 (br_f h3 (br_f h6 (br_t rfl H)))
theorem zx_u73k {how t : Int32} {v : Int64} {k n q : Nat} (hn : n < 960) (hq : q < 32) (hf : Xfirst n = nI q) (H : wX_unwind_0 P how t v xdrafted xspecial xdefined xhere xdepth xscoped xcells xclosures xtop xpc xenv xtaken xoutcome xrunning xgiven xclosed k (nI n) xbuffer Xdraft XdraftValues Xop Xarg Xparameter Xwaiting Xdone Xhole Xscope (vp_updL Xplace q (Xkept n)) Xlocals Xstack Xcell Xparent Xbodies Xbinds Xscopes Xwhat Xfirst Xsecond Xthird Xkept) : wX_unwind_73 P (wX_unwind_0 P how t v xdrafted xspecial xdefined xhere xdepth xscoped xcells xclosures xtop xpc xenv xtaken xoutcome xrunning xgiven xclosed k) how t v 1 0 xdrafted xspecial xdefined xhere xdepth xscoped xcells xclosures xtop (nI n) xpc xenv xbuffer xtaken xoutcome xrunning xgiven xclosed Xdraft XdraftValues Xop Xarg Xparameter Xwaiting Xdone Xhole Xscope Xplace Xlocals Xstack Xcell Xparent Xbodies Xbinds Xscopes Xwhat Xfirst Xsecond Xthird Xkept := by
  have ii : vp_in (nI n) 960 := vp_in_nI hn (by omega)
  have en : (nI n).toNatClampNeg = n := nI_clamp (by omega)
  refine br_t rfl (And.intro ii (And.intro ii (And.intro (by rw [en, hf]; exact vp_in_nI hq (by omega)) (nm_r (e' := vp_updL Xplace q (Xkept n)) (by rw [en, hf, nI_clamp (by omega)]) ?_))))
  exact br_f (by decide) (br_f (by decide) (br_t rfl H))
theorem zx_u73b {how t : Int32} {v : Int64} {k n : Nat} (hn : n < 960) (H : wX_unwind_0 P how t v xdrafted xspecial xdefined xhere xdepth xscoped xcells xclosures xtop xpc xenv xtaken xoutcome xrunning xgiven xclosed k (nI n) (Xfirst n) Xdraft XdraftValues Xop Xarg Xparameter Xwaiting Xdone Xhole Xscope Xplace Xlocals Xstack Xcell Xparent Xbodies Xbinds Xscopes Xwhat Xfirst Xsecond Xthird Xkept) : wX_unwind_73 P (wX_unwind_0 P how t v xdrafted xspecial xdefined xhere xdepth xscoped xcells xclosures xtop xpc xenv xtaken xoutcome xrunning xgiven xclosed k) how t v 3 0 xdrafted xspecial xdefined xhere xdepth xscoped xcells xclosures xtop (nI n) xpc xenv xbuffer xtaken xoutcome xrunning xgiven xclosed Xdraft XdraftValues Xop Xarg Xparameter Xwaiting Xdone Xhole Xscope Xplace Xlocals Xstack Xcell Xparent Xbodies Xbinds Xscopes Xwhat Xfirst Xsecond Xthird Xkept := by
  have ii : vp_in (nI n) 960 := vp_in_nI hn (by omega)
  have en : (nI n).toNatClampNeg = n := nI_clamp (by omega)
  refine br_f (by decide) (br_t rfl (And.intro ii (nm_r (e' := Xfirst n) (by rw [en]) ?_)))
  exact br_f (by decide) (br_t rfl H)
theorem zx_u73g {how t : Int32} {v : Int64} {k n : Nat} (hn : n < 960) (H : P (xdrafted, xspecial, xdefined, xhere, xdepth, xscoped, xcells, xclosures, Xsecond n, nI (n + 1), Xfirst n, Xthird n, xbuffer, xtaken, xoutcome, xrunning, xgiven, xclosed, Xdraft, XdraftValues, Xop, Xarg, Xparameter, Xwaiting, Xdone, Xhole, Xscope, Xplace, Xlocals, Xstack, Xcell, Xparent, Xbodies, Xbinds, Xscopes, upd Xwhat n (nI 7), upd Xfirst n how, upd Xsecond n t, upd Xthird n 0, vp_updL Xkept n v)) : wX_unwind_73 P (wX_unwind_0 P how t v xdrafted xspecial xdefined xhere xdepth xscoped xcells xclosures xtop xpc xenv xtaken xoutcome xrunning xgiven xclosed k) how t v 6 0 xdrafted xspecial xdefined xhere xdepth xscoped xcells xclosures xtop (nI n) xpc xenv xbuffer xtaken xoutcome xrunning xgiven xclosed Xdraft XdraftValues Xop Xarg Xparameter Xwaiting Xdone Xhole Xscope Xplace Xlocals Xstack Xcell Xparent Xbodies Xbinds Xscopes Xwhat Xfirst Xsecond Xthird Xkept := by
  have ii : vp_in (nI n) 960 := vp_in_nI hn (by omega)
  have en : (nI n).toNatClampNeg = n := nI_clamp (by omega)
  refine br_f (by decide) (br_f (by decide) (br_t rfl ?_))
  exact And.intro ii (nm_r (e' := Xfirst n) (by rw [en]) (And.intro ii (nm_r (e' := Xsecond n) (by rw [en]) (And.intro ii (nm_r (e' := Xthird n) (by rw [en]) (br_t rfl (zx_push (k := 7) hn (by omega) H)))))))
theorem zx_u73c {t : Int32} {v : Int64} {k n q : Nat} (hn : n < 960) (hq : q < 640) (hs : Xsecond n = nI q) (H : P (xdrafted, xspecial, xdefined, xhere, xdepth, xscoped, xcells, xclosures, nI (q + 1), nI n, Xfirst n, Xthird n, xbuffer, xtaken, xoutcome, xrunning, xgiven, xclosed, Xdraft, XdraftValues, Xop, Xarg, Xparameter, Xwaiting, Xdone, Xhole, Xscope, Xplace, Xlocals, vp_updL Xstack q v, Xcell, Xparent, Xbodies, Xbinds, Xscopes, Xwhat, Xfirst, Xsecond, Xthird, Xkept)) : wX_unwind_73 P (wX_unwind_0 P 1 t v xdrafted xspecial xdefined xhere xdepth xscoped xcells xclosures xtop xpc xenv xtaken xoutcome xrunning xgiven xclosed k) 1 t v 4 1 xdrafted xspecial xdefined xhere xdepth xscoped xcells xclosures xtop (nI n) xpc xenv xbuffer xtaken xoutcome xrunning xgiven xclosed Xdraft XdraftValues Xop Xarg Xparameter Xwaiting Xdone Xhole Xscope Xplace Xlocals Xstack Xcell Xparent Xbodies Xbinds Xscopes Xwhat Xfirst Xsecond Xthird Xkept := by
  have ii : vp_in (nI n) 960 := vp_in_nI hn (by omega)
  have en : (nI n).toNatClampNeg = n := nI_clamp (by omega)
  refine br_f (by decide) (br_f (by decide) (br_f (by decide) (br_f (by decide) ?_)))
  exact And.intro ii (nm_r (e' := Xfirst n) (by rw [en]) (And.intro ii (nm_r (e' := nI q) (by rw [en, hs]) (And.intro ii (nm_r (e' := Xthird n) (by rw [en]) (br_f (by decide) (br_t rfl (nm_r (nI_1 q) (And.intro (vp_in_nI hq (by omega)) (nm_r (e' := vp_updL Xstack q v) (by rw [nI_clamp (by omega)]) H))))))))))
theorem zx_u73t {t : Int32} {v : Int64} {k n : Nat} (hn : n < 960) (H : P (xdrafted, xspecial, xdefined, xhere, xdepth, xscoped, xcells, xclosures, Xsecond n, nI n, Xfirst n, Xthird n, xbuffer, xtaken, xoutcome, xrunning, xgiven, xclosed, Xdraft, XdraftValues, Xop, Xarg, Xparameter, Xwaiting, Xdone, Xhole, Xscope, Xplace, Xlocals, Xstack, Xcell, Xparent, Xbodies, Xbinds, Xscopes, Xwhat, Xfirst, Xsecond, Xthird, Xkept)) : wX_unwind_73 P (wX_unwind_0 P 2 t v xdrafted xspecial xdefined xhere xdepth xscoped xcells xclosures xtop xpc xenv xtaken xoutcome xrunning xgiven xclosed k) 2 t v 5 1 xdrafted xspecial xdefined xhere xdepth xscoped xcells xclosures xtop (nI n) xpc xenv xbuffer xtaken xoutcome xrunning xgiven xclosed Xdraft XdraftValues Xop Xarg Xparameter Xwaiting Xdone Xhole Xscope Xplace Xlocals Xstack Xcell Xparent Xbodies Xbinds Xscopes Xwhat Xfirst Xsecond Xthird Xkept := by
  have ii : vp_in (nI n) 960 := vp_in_nI hn (by omega)
  have en : (nI n).toNatClampNeg = n := nI_clamp (by omega)
  refine br_f (by decide) (br_f (by decide) (br_f (by decide) (br_f (by decide) ?_)))
  exact And.intro ii (nm_r (e' := Xfirst n) (by rw [en]) (And.intro ii (nm_r (e' := Xsecond n) (by rw [en]) (And.intro ii (nm_r (e' := Xthird n) (by rw [en]) (br_f (by decide) (br_f (by decide) H)))))))
/-! heads of one turn -/
theorem zx_uh {how t w : Int32} {v : Int64} {k n : Nat} (hh : how = 1 ∨ how = 2) (hn : n < 960) (hw : Xwhat n = w) (hx : (how = 1 ∧ (w = 4 → ¬ Xkept n = t.toInt64)) ∨ (how = 2 ∧ ¬ w = 5)) (H : wX_unwind_73 P (wX_unwind_0 P how t v xdrafted xspecial xdefined xhere xdepth xscoped xcells xclosures xtop xpc xenv xtaken xoutcome xrunning xgiven xclosed k) how t v w 0 xdrafted xspecial xdefined xhere xdepth xscoped xcells xclosures xtop (nI n) xpc xenv xbuffer xtaken xoutcome xrunning xgiven xclosed Xdraft XdraftValues Xop Xarg Xparameter Xwaiting Xdone Xhole Xscope Xplace Xlocals Xstack Xcell Xparent Xbodies Xbinds Xscopes Xwhat Xfirst Xsecond Xthird Xkept) : wX_unwind_0 P how t v xdrafted xspecial xdefined xhere xdepth xscoped xcells xclosures xtop xpc xenv xtaken xoutcome xrunning xgiven xclosed (k + 1) (nI (n + 1)) xbuffer Xdraft XdraftValues Xop Xarg Xparameter Xwaiting Xdone Xhole Xscope Xplace Xlocals Xstack Xcell Xparent Xbodies Xbinds Xscopes Xwhat Xfirst Xsecond Xthird Xkept := by
  have ii : vp_in (nI n) 960 := vp_in_nI hn (by omega)
  have en : (nI n).toNatClampNeg = n := nI_clamp (by omega)
  refine br_f (nI_nle (by omega) (by omega)) (nm_r (e' := nI n) (nI_pred n) (And.intro ii (nm_r (e' := w) (by rw [en, hw]) ?_)))
  rcases hx with ⟨e, hx⟩ | ⟨e, hx⟩
  · subst e
    refine br_t rfl (br_c (fun z => And.intro ii (br_f (by rw [en]; exact hx z) ?_)) (fun z => ?_))
    · exact H
    · exact H
  · subst e
    exact br_f (by decide) (br_f hx H)
theorem zx_lskip {how t w : Int32} {v : Int64} {n : Nat} (hn : n < 960) (hw : Xwhat n = w) (h1 : ¬ w = 1) (h3 : ¬ w = 3) (h6 : ¬ w = 6) (hx : (how = 1 ∧ (w = 4 → ¬ Xkept n = t.toInt64)) ∨ (how = 2 ∧ ¬ w = 5)) (H : zx_L how t v (xdrafted, xspecial, xdefined, xhere, xdepth, xscoped, xcells, xclosures, xtop, nI n, xpc, xenv, xbuffer, xtaken, xoutcome, xrunning, xgiven, xclosed, Xdraft, XdraftValues, Xop, Xarg, Xparameter, Xwaiting, Xdone, Xhole, Xscope, Xplace, Xlocals, Xstack, Xcell, Xparent, Xbodies, Xbinds, Xscopes, Xwhat, Xfirst, Xsecond, Xthird, Xkept) u1) : zx_L how t v (xdrafted, xspecial, xdefined, xhere, xdepth, xscoped, xcells, xclosures, xtop, nI (n + 1), xpc, xenv, xbuffer, xtaken, xoutcome, xrunning, xgiven, xclosed, Xdraft, XdraftValues, Xop, Xarg, Xparameter, Xwaiting, Xdone, Xhole, Xscope, Xplace, Xlocals, Xstack, Xcell, Xparent, Xbodies, Xbinds, Xscopes, Xwhat, Xfirst, Xsecond, Xthird, Xkept) u1 := by
  obtain ⟨k, h⟩ := H
  exact ⟨k + 1, fun P HP => zx_uh (hx.elim (fun z => Or.inl z.1) (fun z => Or.inr z.1)) hn hw hx (zx_u73s h1 h3 h6 (h P HP))⟩
theorem zx_lkept {how t : Int32} {v : Int64} {n q : Nat} (hh : how = 1 ∨ how = 2) (hn : n < 960) (hq : q < 32) (hw : Xwhat n = 1) (hf : Xfirst n = nI q) (H : zx_L how t v (xdrafted, xspecial, xdefined, xhere, xdepth, xscoped, xcells, xclosures, xtop, nI n, xpc, xenv, xbuffer, xtaken, xoutcome, xrunning, xgiven, xclosed, Xdraft, XdraftValues, Xop, Xarg, Xparameter, Xwaiting, Xdone, Xhole, Xscope, vp_updL Xplace q (Xkept n), Xlocals, Xstack, Xcell, Xparent, Xbodies, Xbinds, Xscopes, Xwhat, Xfirst, Xsecond, Xthird, Xkept) u1) : zx_L how t v (xdrafted, xspecial, xdefined, xhere, xdepth, xscoped, xcells, xclosures, xtop, nI (n + 1), xpc, xenv, xbuffer, xtaken, xoutcome, xrunning, xgiven, xclosed, Xdraft, XdraftValues, Xop, Xarg, Xparameter, Xwaiting, Xdone, Xhole, Xscope, Xplace, Xlocals, Xstack, Xcell, Xparent, Xbodies, Xbinds, Xscopes, Xwhat, Xfirst, Xsecond, Xthird, Xkept) u1 := by
  obtain ⟨k, h⟩ := H
  exact ⟨k + 1, fun P HP => zx_uh hh hn hw (hh.elim (fun z => Or.inl ⟨z, fun w => absurd w (by decide)⟩) (fun z => Or.inr ⟨z, by decide⟩)) (zx_u73k hn hq hf (h P HP))⟩
theorem zx_lbuf {how t : Int32} {v : Int64} {n : Nat} (hh : how = 1 ∨ how = 2) (hn : n < 960) (hw : Xwhat n = 3) (H : zx_L how t v (xdrafted, xspecial, xdefined, xhere, xdepth, xscoped, xcells, xclosures, xtop, nI n, xpc, xenv, Xfirst n, xtaken, xoutcome, xrunning, xgiven, xclosed, Xdraft, XdraftValues, Xop, Xarg, Xparameter, Xwaiting, Xdone, Xhole, Xscope, Xplace, Xlocals, Xstack, Xcell, Xparent, Xbodies, Xbinds, Xscopes, Xwhat, Xfirst, Xsecond, Xthird, Xkept) u1) : zx_L how t v (xdrafted, xspecial, xdefined, xhere, xdepth, xscoped, xcells, xclosures, xtop, nI (n + 1), xpc, xenv, xbuffer, xtaken, xoutcome, xrunning, xgiven, xclosed, Xdraft, XdraftValues, Xop, Xarg, Xparameter, Xwaiting, Xdone, Xhole, Xscope, Xplace, Xlocals, Xstack, Xcell, Xparent, Xbodies, Xbinds, Xscopes, Xwhat, Xfirst, Xsecond, Xthird, Xkept) u1 := by
  obtain ⟨k, h⟩ := H
  exact ⟨k + 1, fun P HP => zx_uh hh hn hw (hh.elim (fun z => Or.inl ⟨z, fun w => absurd w (by decide)⟩) (fun z => Or.inr ⟨z, by decide⟩)) (zx_u73b hn (h P HP))⟩
theorem zx_lguard {how t : Int32} {v : Int64} {n : Nat} (hh : how = 1 ∨ how = 2) (hn : n < 960) (hw : Xwhat n = 6) : zx_L how t v (xdrafted, xspecial, xdefined, xhere, xdepth, xscoped, xcells, xclosures, xtop, nI (n + 1), xpc, xenv, xbuffer, xtaken, xoutcome, xrunning, xgiven, xclosed, Xdraft, XdraftValues, Xop, Xarg, Xparameter, Xwaiting, Xdone, Xhole, Xscope, Xplace, Xlocals, Xstack, Xcell, Xparent, Xbodies, Xbinds, Xscopes, Xwhat, Xfirst, Xsecond, Xthird, Xkept) (xdrafted, xspecial, xdefined, xhere, xdepth, xscoped, xcells, xclosures, Xsecond n, nI (n + 1), Xfirst n, Xthird n, xbuffer, xtaken, xoutcome, xrunning, xgiven, xclosed, Xdraft, XdraftValues, Xop, Xarg, Xparameter, Xwaiting, Xdone, Xhole, Xscope, Xplace, Xlocals, Xstack, Xcell, Xparent, Xbodies, Xbinds, Xscopes, upd Xwhat n (nI 7), upd Xfirst n how, upd Xsecond n t, upd Xthird n 0, vp_updL Xkept n v) :=
  ⟨1, fun P HP => zx_uh hh hn hw (hh.elim (fun z => Or.inl ⟨z, fun w => absurd w (by decide)⟩) (fun z => Or.inr ⟨z, by decide⟩)) (zx_u73g hn HP)⟩
theorem zx_lcatch {t : Int32} {v : Int64} {n q : Nat} (hn : n < 960) (hq : q < 640) (hw : Xwhat n = 4) (hk : Xkept n = t.toInt64) (hs : Xsecond n = nI q) : zx_L 1 t v (xdrafted, xspecial, xdefined, xhere, xdepth, xscoped, xcells, xclosures, xtop, nI (n + 1), xpc, xenv, xbuffer, xtaken, xoutcome, xrunning, xgiven, xclosed, Xdraft, XdraftValues, Xop, Xarg, Xparameter, Xwaiting, Xdone, Xhole, Xscope, Xplace, Xlocals, Xstack, Xcell, Xparent, Xbodies, Xbinds, Xscopes, Xwhat, Xfirst, Xsecond, Xthird, Xkept) (xdrafted, xspecial, xdefined, xhere, xdepth, xscoped, xcells, xclosures, nI (q + 1), nI n, Xfirst n, Xthird n, xbuffer, xtaken, xoutcome, xrunning, xgiven, xclosed, Xdraft, XdraftValues, Xop, Xarg, Xparameter, Xwaiting, Xdone, Xhole, Xscope, Xplace, Xlocals, vp_updL Xstack q v, Xcell, Xparent, Xbodies, Xbinds, Xscopes, Xwhat, Xfirst, Xsecond, Xthird, Xkept) := by
  have ii : vp_in (nI n) 960 := vp_in_nI hn (by omega)
  have en : (nI n).toNatClampNeg = n := nI_clamp (by omega)
  refine ⟨1, fun P HP => br_f (nI_nle (by omega) (by omega)) (nm_r (e' := nI n) (nI_pred n) (And.intro ii (nm_r (e' := 4) (by rw [en, hw]) ?_)))⟩
  exact br_t rfl (br_t rfl (And.intro ii (br_t (by rw [en]; exact hk) (zx_u73c hn hq hs HP))))
theorem zx_ltry {t : Int32} {v : Int64} {n : Nat} (hn : n < 960) (hw : Xwhat n = 5) : zx_L 2 t v (xdrafted, xspecial, xdefined, xhere, xdepth, xscoped, xcells, xclosures, xtop, nI (n + 1), xpc, xenv, xbuffer, xtaken, xoutcome, xrunning, xgiven, xclosed, Xdraft, XdraftValues, Xop, Xarg, Xparameter, Xwaiting, Xdone, Xhole, Xscope, Xplace, Xlocals, Xstack, Xcell, Xparent, Xbodies, Xbinds, Xscopes, Xwhat, Xfirst, Xsecond, Xthird, Xkept) (xdrafted, xspecial, xdefined, xhere, xdepth, xscoped, xcells, xclosures, Xsecond n, nI n, Xfirst n, Xthird n, xbuffer, xtaken, xoutcome, xrunning, xgiven, xclosed, Xdraft, XdraftValues, Xop, Xarg, Xparameter, Xwaiting, Xdone, Xhole, Xscope, Xplace, Xlocals, Xstack, Xcell, Xparent, Xbodies, Xbinds, Xscopes, Xwhat, Xfirst, Xsecond, Xthird, Xkept) := by
  have ii : vp_in (nI n) 960 := vp_in_nI hn (by omega)
  have en : (nI n).toNatClampNeg = n := nI_clamp (by omega)
  refine ⟨1, fun P HP => br_f (nI_nle (by omega) (by omega)) (nm_r (e' := nI n) (nI_pred n) (And.intro ii (nm_r (e' := 5) (by rw [en, hw]) ?_)))⟩
  exact br_f (by decide) (br_t rfl (zx_u73t hn HP))
theorem zx_lend {how t : Int32} {v : Int64} : zx_L how t v (xdrafted, xspecial, xdefined, xhere, xdepth, xscoped, xcells, xclosures, xtop, nI 0, xpc, xenv, xbuffer, xtaken, xoutcome, xrunning, xgiven, xclosed, Xdraft, XdraftValues, Xop, Xarg, Xparameter, Xwaiting, Xdone, Xhole, Xscope, Xplace, Xlocals, Xstack, Xcell, Xparent, Xbodies, Xbinds, Xscopes, Xwhat, Xfirst, Xsecond, Xthird, Xkept) (xdrafted, xspecial, xdefined, xhere, xdepth, xscoped, xcells, xclosures, xtop, nI 0, xpc, xenv, xbuffer, xtaken, t, 0, xgiven, xclosed, Xdraft, XdraftValues, Xop, Xarg, Xparameter, Xwaiting, Xdone, Xhole, Xscope, Xplace, Xlocals, Xstack, Xcell, Xparent, Xbodies, Xbinds, Xscopes, Xwhat, Xfirst, Xsecond, Xthird, Xkept) :=
  ⟨1, fun P HP => br_t (by decide) HP⟩
/-! the run is too long -/
theorem zx_t0 : zx_T (xdrafted, xspecial, xdefined, xhere, xdepth, xscoped, xcells, xclosures, xtop, nI 0, xpc, xenv, xbuffer, xtaken, xoutcome, xrunning, xgiven, xclosed, Xdraft, XdraftValues, Xop, Xarg, Xparameter, Xwaiting, Xdone, Xhole, Xscope, Xplace, Xlocals, Xstack, Xcell, Xparent, Xbodies, Xbinds, Xscopes, Xwhat, Xfirst, Xsecond, Xthird, Xkept) (xdrafted, xspecial, xdefined, xhere, xdepth, xscoped, xcells, xclosures, xtop, nI 0, xpc, xenv, xbuffer, xtaken, xoutcome, xrunning, xgiven, xclosed, Xdraft, XdraftValues, Xop, Xarg, Xparameter, Xwaiting, Xdone, Xhole, Xscope, Xplace, Xlocals, Xstack, Xcell, Xparent, Xbodies, Xbinds, Xscopes, Xwhat, Xfirst, Xsecond, Xthird, Xkept) := ⟨1, fun P HP => br_t (by decide) HP⟩
theorem zx_ts {n : Nat} (hn : n < 960) (hw : ¬ Xwhat n = 1) (H : zx_T (xdrafted, xspecial, xdefined, xhere, xdepth, xscoped, xcells, xclosures, xtop, nI n, xpc, xenv, xbuffer, xtaken, xoutcome, xrunning, xgiven, xclosed, Xdraft, XdraftValues, Xop, Xarg, Xparameter, Xwaiting, Xdone, Xhole, Xscope, Xplace, Xlocals, Xstack, Xcell, Xparent, Xbodies, Xbinds, Xscopes, Xwhat, Xfirst, Xsecond, Xthird, Xkept) u1) : zx_T (xdrafted, xspecial, xdefined, xhere, xdepth, xscoped, xcells, xclosures, xtop, nI (n + 1), xpc, xenv, xbuffer, xtaken, xoutcome, xrunning, xgiven, xclosed, Xdraft, XdraftValues, Xop, Xarg, Xparameter, Xwaiting, Xdone, Xhole, Xscope, Xplace, Xlocals, Xstack, Xcell, Xparent, Xbodies, Xbinds, Xscopes, Xwhat, Xfirst, Xsecond, Xthird, Xkept) u1 := by
  have en : (nI n).toNatClampNeg = n := nI_clamp (by omega)
  obtain ⟨k, h⟩ := H
  exact ⟨k + 1, fun P HP => br_f (nI_nle (by omega) (by omega)) (nm_r (e' := nI n) (nI_pred n) (And.intro (vp_in_nI hn (by omega)) (br_f (by rw [en]; exact hw) (h P HP))))⟩
theorem zx_tk {n q : Nat} (hn : n < 960) (hq : q < 32) (hw : Xwhat n = 1) (hf : Xfirst n = nI q) (H : zx_T (xdrafted, xspecial, xdefined, xhere, xdepth, xscoped, xcells, xclosures, xtop, nI n, xpc, xenv, xbuffer, xtaken, xoutcome, xrunning, xgiven, xclosed, Xdraft, XdraftValues, Xop, Xarg, Xparameter, Xwaiting, Xdone, Xhole, Xscope, vp_updL Xplace q (Xkept n), Xlocals, Xstack, Xcell, Xparent, Xbodies, Xbinds, Xscopes, Xwhat, Xfirst, Xsecond, Xthird, Xkept) u1) : zx_T (xdrafted, xspecial, xdefined, xhere, xdepth, xscoped, xcells, xclosures, xtop, nI (n + 1), xpc, xenv, xbuffer, xtaken, xoutcome, xrunning, xgiven, xclosed, Xdraft, XdraftValues, Xop, Xarg, Xparameter, Xwaiting, Xdone, Xhole, Xscope, Xplace, Xlocals, Xstack, Xcell, Xparent, Xbodies, Xbinds, Xscopes, Xwhat, Xfirst, Xsecond, Xthird, Xkept) u1 := by
  have ii : vp_in (nI n) 960 := vp_in_nI hn (by omega)
  have en : (nI n).toNatClampNeg = n := nI_clamp (by omega)
  obtain ⟨k, h⟩ := H
  exact ⟨k + 1, fun P HP => br_f (nI_nle (by omega) (by omega)) (nm_r (e' := nI n) (nI_pred n) (And.intro ii (br_t (by rw [en]; exact hw) (And.intro ii (And.intro ii (And.intro (by rw [en, hf]; exact vp_in_nI hq (by omega)) (nm_r (e' := vp_updL Xplace q (Xkept n)) (by rw [en, hf, nI_clamp (by omega)]) (h P HP))))))))⟩
theorem zx_stop20 {p : Nat} (hp : p < 1280) (ho : Xop p = 20) (H : zx_T (xdrafted, xspecial, xdefined, xhere, xdepth, xscoped, xcells, xclosures, xtop, xundo, nI (p + 1), xenv, xbuffer, nI 300, 5, 0, xgiven, xclosed, Xdraft, XdraftValues, Xop, Xarg, Xparameter, Xwaiting, Xdone, Xhole, Xscope, Xplace, Xlocals, Xstack, Xcell, Xparent, Xbodies, Xbinds, Xscopes, Xwhat, Xfirst, Xsecond, Xthird, Xkept) u1) : zx_G (xdrafted, xspecial, xdefined, xhere, xdepth, xscoped, xcells, xclosures, xtop, xundo, nI p, xenv, xbuffer, nI 300, xoutcome, xrunning, xgiven, xclosed, Xdraft, XdraftValues, Xop, Xarg, Xparameter, Xwaiting, Xdone, Xhole, Xscope, Xplace, Xlocals, Xstack, Xcell, Xparent, Xbodies, Xbinds, Xscopes, Xwhat, Xfirst, Xsecond, Xthird, Xkept) u1 := by
  obtain ⟨k, h⟩ := H
  intro P HP
  have ip : vp_in (nI p) 1280 := vp_in_nI hp (by omega)
  have ep : (nI p).toNatClampNeg = p := nI_clamp (by omega)
  refine And.intro ip (nm_r (e' := 20) (by rw [ep, ho]) (nm_r (e' := nI (p + 1)) (nI_1 p) (And.intro ip (nm_r (e' := Xarg p) (by rw [ep]) ?_))))
  exact br_t rfl (br_t rfl ⟨k, h _ HP⟩)
/-! toss -/
theorem zx_tossL {s t : Nat} (hs : s < 4) (ht : t < 640) : ∀ l : List zz_XE, l.length ≤ 960 → zz_R Xwhat (fun y => y.1) l → zz_R Xkept (fun y => y.2.2.2.2) l → (zz_mt s l → zx_U 1 (nI s) (Xstack t) (xdrafted, xspecial, xdefined, xhere, xdepth, xscoped, xcells, xclosures, nI (t + 1), xundo, xpc, xenv, xbuffer, xtaken, xoutcome, xrunning, xgiven, xclosed, Xdraft, XdraftValues, Xop, Xarg, Xparameter, Xwaiting, Xdone, Xhole, Xscope, Xplace, Xlocals, Xstack, Xcell, Xparent, Xbodies, Xbinds, Xscopes, Xwhat, Xfirst, Xsecond, Xthird, Xkept) u1) → ((¬ zz_mt s l) → zx_U 2 3 0 (xdrafted, xspecial, xdefined, xhere, xdepth, xscoped, xcells, xclosures, nI (t + 1), xundo, xpc, xenv, xbuffer, xtaken, xoutcome, xrunning, xgiven, xclosed, Xdraft, XdraftValues, Xop, Xarg, Xparameter, Xwaiting, Xdone, Xhole, Xscope, Xplace, Xlocals, Xstack, Xcell, Xparent, Xbodies, Xbinds, Xscopes, Xwhat, Xfirst, Xsecond, Xthird, Xkept) u1) → P u1 → wX_toss_7 P (nI s) xdrafted xspecial xdefined xhere xdepth xscoped xcells xclosures (nI (t + 1)) xundo xpc xenv xbuffer xtaken xoutcome xrunning xgiven xclosed Xdraft XdraftValues Xop Xarg Xparameter Xwaiting Xdone Xhole Xscope Xplace Xlocals Xstack Xcell Xparent Xbodies Xbinds Xscopes Xwhat Xfirst Xsecond Xthird Xkept (l.length + 1) (nI l.length - 1) := by
  intro l
  induction l with
  | nil =>
    intro _ _ _ HY HN HP
    have z : (nI 0 - 1 : Int32) < 0 := by decide
    exact br_t z (br_f (by decide) (HN (fun ⟨y, hy, _⟩ => by cases hy) _ HP))
  | cons y l ih =>
    intro hl hw hk HY HN HP
    have hll : l.length < 960 := hl
    rw [show nI (y :: l).length - 1 = nI l.length from nI_pred l.length]
    have z : ¬ nI l.length < 0 := nI_pos (by omega)
    have ii : vp_in (nI l.length) 960 := vp_in_nI hll (by omega)
    have en : (nI l.length).toNatClampNeg = l.length := nI_clamp (by omega)
    have em : nI l.length + (-1) = nI l.length - 1 := by rw [Int32.sub_eq_add_neg]
    have e1 : Xwhat (nI l.length).toNatClampNeg = y.1 := by rw [en]; exact hw.1
    have e2 : Xkept (nI l.length).toNatClampNeg = y.2.2.2.2 := by rw [en]; exact hk.1
    have es : (nI s).toInt64 = lN s := nI_l (by omega)
    have go : ¬ (y.1 = 4 ∧ y.2.2.2.2 = lN s) → wX_toss_7 P (nI s) xdrafted xspecial xdefined xhere xdepth xscoped xcells xclosures (nI (t + 1)) xundo xpc xenv xbuffer xtaken xoutcome xrunning xgiven xclosed Xdraft XdraftValues Xop Xarg Xparameter Xwaiting Xdone Xhole Xscope Xplace Xlocals Xstack Xcell Xparent Xbodies Xbinds Xscopes Xwhat Xfirst Xsecond Xthird Xkept (l.length + 1) (nI l.length - 1) := by
      intro hy
      refine ih (by omega) hw.2 hk.2 (fun ⟨q, hq, hq1, hq2⟩ => HY ⟨q, List.mem_cons_of_mem _ hq, hq1, hq2⟩) (fun hm => HN (fun ⟨q, hq, hq1, hq2⟩ => ?_)) HP
      rcases List.mem_cons.mp hq with e | e
      · subst e; exact hy ⟨hq1, hq2⟩
      · exact hm ⟨q, e, hq1, hq2⟩
    refine br_f z (And.intro ii (br_c (fun w => And.intro ii (br_c (fun w2 => ?_) (fun w2 => nm_r em (go ?_)))) (fun w => nm_r em (go ?_))))
    · rw [e1] at w
      rw [e2, es] at w2
      refine br_t (nI_pos' (by omega)) (And.intro (by rw [nI_pred]; exact vp_in_nI ht (by omega)) ?_)
      rw [nI_pred, nI_clamp (by omega)]
      exact HY ⟨y, List.mem_cons_self, w, w2⟩ _ HP
    · rw [e2, es] at w2
      exact fun h => w2 h.2
    · rw [e1] at w
      exact fun h => w h.1
theorem zx_toss {p s t b : Nat} {l : List zz_XE} (hp : p < 1280) (hb : b < 3) (hs : s < 4) (ht : t < 640) (hl : l.length ≤ 960) (hw : zz_R Xwhat (fun y => y.1) l) (hk : zz_R Xkept (fun y => y.2.2.2.2) l) (ho : Xop p = 13) (ha : Xarg p = nI s) (HY : zz_mt s l → zx_U 1 (nI s) (Xstack t) (xdrafted, xspecial, xdefined, xhere, xdepth, xscoped, xcells, xclosures, nI (t + 1), nI l.length, nI (p + 1), xenv, nI b, xtaken, xoutcome, xrunning, xgiven, xclosed, Xdraft, XdraftValues, Xop, Xarg, Xparameter, Xwaiting, Xdone, Xhole, Xscope, Xplace, Xlocals, Xstack, Xcell, Xparent, Xbodies, Xbinds, Xscopes, Xwhat, Xfirst, Xsecond, Xthird, Xkept) u1) (HN : ¬ zz_mt s l → zx_U 2 3 0 (xdrafted, xspecial, xdefined, xhere, xdepth, xscoped, xcells, xclosures, nI (t + 1), nI l.length, nI (p + 1), xenv, nI b, xtaken, xoutcome, xrunning, xgiven, xclosed, Xdraft, XdraftValues, Xop, Xarg, Xparameter, Xwaiting, Xdone, Xhole, Xscope, Xplace, Xlocals, Xstack, Xcell, Xparent, Xbodies, Xbinds, Xscopes, Xwhat, Xfirst, Xsecond, Xthird, Xkept) u1) : zx_G (xdrafted, xspecial, xdefined, xhere, xdepth, xscoped, xcells, xclosures, nI (t + 1), nI l.length, nI p, xenv, nI b, xtaken, xoutcome, xrunning, xgiven, xclosed, Xdraft, XdraftValues, Xop, Xarg, Xparameter, Xwaiting, Xdone, Xhole, Xscope, Xplace, Xlocals, Xstack, Xcell, Xparent, Xbodies, Xbinds, Xscopes, Xwhat, Xfirst, Xsecond, Xthird, Xkept) u1 := by
  refine zx_dS (k := 13) hp (by omega) (by omega) ho (fun Q HQ => ?_)
  rw [ha]
  refine zx_simp hb (fun z => br_f (by decide) (br_f (by decide) (br_f (by decide) (br_f (by decide) (br_f (by decide) (br_f (by decide) (br_f (by decide) (br_f (by decide) (br_f (by decide) (br_f (by decide) (br_f (by decide) (br_f (by decide) (br_f (by decide) (br_f (by decide) (br_f (by decide) (br_t (by decide) (nm_e ⟨l.length + 1, ?_⟩)))))))))))))))))
  exact zx_tossL hs ht l hl hw hk HY HN HQ
end
end
section
def zy_E (v v1 : SY) : Prop := ∀ P : SY → Prop, P v1 → wpY_evaluate P v
def zy_G (v v1 : SY) : Prop := ∀ P : SY → Prop, P v1 → wpY_give P v
def zy_N (v v1 : SY) : Prop := ∀ P : SY → Prop, P v1 → wpY_end P v
section
variable {yenvs yclosures ywork ybuffer ysteps ymode yat yenv ykind yvalue ycode ytag yresultKind yresultValue : Int32} {Ykinds Ynumbers Yends Ylengths Yparameters Yspecial YplaceKind YplaceValue Ythere YsymbolOf YplaceOf YnextOf YclosureSymbol YclosureBody YclosureEnv YworkToken YworkPhase YworkEnv YkeptKind YkeptValue YboundPlace YoldKind YoldValue YoldBuffer : Nat → Int32} {yenvs1 yclosures1 ywork1 ybuffer1 ysteps1 ymode1 yat1 yenv1 ykind1 yvalue1 ycode1 ytag1 yresultKind1 yresultValue1 : Int32} {Ykinds1 Ynumbers1 Yends1 Ylengths1 Yparameters1 Yspecial1 YplaceKind1 YplaceValue1 Ythere1 YsymbolOf1 YplaceOf1 YnextOf1 YclosureSymbol1 YclosureBody1 YclosureEnv1 YworkToken1 YworkPhase1 YworkEnv1 YkeptKind1 YkeptValue1 YboundPlace1 YoldKind1 YoldValue1 YoldBuffer1 : Nat → Int32} {P : SY → Prop}
theorem zy_ev300 : zy_E (yenvs, yclosures, ywork, ybuffer, nI 300, ymode, yat, yenv, ykind, yvalue, ycode, ytag, yresultKind, yresultValue, Ykinds, Ynumbers, Yends, Ylengths, Yparameters, Yspecial, YplaceKind, YplaceValue, Ythere, YsymbolOf, YplaceOf, YnextOf, YclosureSymbol, YclosureBody, YclosureEnv, YworkToken, YworkPhase, YworkEnv, YkeptKind, YkeptValue, YboundPlace, YoldKind, YoldValue, YoldBuffer) (yenvs, yclosures, ywork, ybuffer, nI 300, 3, yat, yenv, ykind, yvalue, ycode, ytag, yresultKind, yresultValue, Ykinds, Ynumbers, Yends, Ylengths, Yparameters, Yspecial, YplaceKind, YplaceValue, Ythere, YsymbolOf, YplaceOf, YnextOf, YclosureSymbol, YclosureBody, YclosureEnv, YworkToken, YworkPhase, YworkEnv, YkeptKind, YkeptValue, YboundPlace, YoldKind, YoldValue, YoldBuffer) := fun P HP => br_t rfl HP
theorem zy_ev0 {t n : Nat} (ht : t < 240) (hn : n < 300) (hk : Ykinds t = 0) : zy_E (yenvs, yclosures, ywork, ybuffer, nI n, ymode, nI t, yenv, ykind, yvalue, ycode, ytag, yresultKind, yresultValue, Ykinds, Ynumbers, Yends, Ylengths, Yparameters, Yspecial, YplaceKind, YplaceValue, Ythere, YsymbolOf, YplaceOf, YnextOf, YclosureSymbol, YclosureBody, YclosureEnv, YworkToken, YworkPhase, YworkEnv, YkeptKind, YkeptValue, YboundPlace, YoldKind, YoldValue, YoldBuffer) (yenvs, yclosures, ywork, ybuffer, nI (n + 1), 0, nI t, yenv, 0, Ynumbers t, ycode, ytag, yresultKind, yresultValue, Ykinds, Ynumbers, Yends, Ylengths, Yparameters, Yspecial, YplaceKind, YplaceValue, Ythere, YsymbolOf, YplaceOf, YnextOf, YclosureSymbol, YclosureBody, YclosureEnv, YworkToken, YworkPhase, YworkEnv, YkeptKind, YkeptValue, YboundPlace, YoldKind, YoldValue, YoldBuffer) := by
  have it : vp_in (nI t) 240 := vp_in_nI ht (by omega)
  have et : (nI t).toNatClampNeg = t := nI_clamp (by omega)
  intro P HP
  refine br_f (by rw [show (300 : Int32) = nI 300 from rfl, nI_eq (by omega) (by omega)]; omega) (nm_r (nI_1 n) (And.intro it (nm_r (e' := Ykinds t) (by rw [et]) (And.intro it (nm_r (e' := Ynumbers t) (by rw [et]) ?_)))))
  rw [hk]
  exact br_t rfl HP
theorem zy_ev18 {t n : Nat} (ht : t < 240) (hn : n < 300) (hk : Ykinds t = 18) : zy_E (yenvs, yclosures, ywork, ybuffer, nI n, ymode, nI t, yenv, ykind, yvalue, ycode, ytag, yresultKind, yresultValue, Ykinds, Ynumbers, Yends, Ylengths, Yparameters, Yspecial, YplaceKind, YplaceValue, Ythere, YsymbolOf, YplaceOf, YnextOf, YclosureSymbol, YclosureBody, YclosureEnv, YworkToken, YworkPhase, YworkEnv, YkeptKind, YkeptValue, YboundPlace, YoldKind, YoldValue, YoldBuffer) (yenvs, yclosures, ywork, ybuffer, nI (n + 1), 2, nI t, yenv, ykind, yvalue, 4, -1, yresultKind, yresultValue, Ykinds, Ynumbers, Yends, Ylengths, Yparameters, Yspecial, YplaceKind, YplaceValue, Ythere, YsymbolOf, YplaceOf, YnextOf, YclosureSymbol, YclosureBody, YclosureEnv, YworkToken, YworkPhase, YworkEnv, YkeptKind, YkeptValue, YboundPlace, YoldKind, YoldValue, YoldBuffer) := by
  have it : vp_in (nI t) 240 := vp_in_nI ht (by omega)
  have et : (nI t).toNatClampNeg = t := nI_clamp (by omega)
  intro P HP
  refine br_f (by rw [show (300 : Int32) = nI 300 from rfl, nI_eq (by omega) (by omega)]; omega) (nm_r (nI_1 n) (And.intro it (nm_r (e' := Ykinds t) (by rw [et]) (And.intro it (nm_r (e' := Ynumbers t) (by rw [et]) ?_)))))
  rw [hk]
  exact br_f (by decide) (br_f (by decide) (br_t rfl HP))
theorem zy_ev1 {t n s q : Nat} (ht : t < 240) (hn : n < 300) (hk : Ykinds t = 1) (hs : Ynumbers t = nI s) (hq : q < 340) (hp : ∀ Q : Int32 → Prop, Q (nI q) → wpY_placeFor Q (yenvs, yclosures, ywork, ybuffer, nI (n + 1), ymode, nI t, yenv, ykind, yvalue, ycode, ytag, yresultKind, yresultValue, Ykinds, Ynumbers, Yends, Ylengths, Yparameters, Yspecial, YplaceKind, YplaceValue, Ythere, YsymbolOf, YplaceOf, YnextOf, YclosureSymbol, YclosureBody, YclosureEnv, YworkToken, YworkPhase, YworkEnv, YkeptKind, YkeptValue, YboundPlace, YoldKind, YoldValue, YoldBuffer) (nI s) yenv) (hv : ¬ YplaceKind q = 2) : zy_E (yenvs, yclosures, ywork, ybuffer, nI n, ymode, nI t, yenv, ykind, yvalue, ycode, ytag, yresultKind, yresultValue, Ykinds, Ynumbers, Yends, Ylengths, Yparameters, Yspecial, YplaceKind, YplaceValue, Ythere, YsymbolOf, YplaceOf, YnextOf, YclosureSymbol, YclosureBody, YclosureEnv, YworkToken, YworkPhase, YworkEnv, YkeptKind, YkeptValue, YboundPlace, YoldKind, YoldValue, YoldBuffer) (yenvs, yclosures, ywork, ybuffer, nI (n + 1), 0, nI t, yenv, YplaceKind q, YplaceValue q, ycode, ytag, yresultKind, yresultValue, Ykinds, Ynumbers, Yends, Ylengths, Yparameters, Yspecial, YplaceKind, YplaceValue, Ythere, YsymbolOf, YplaceOf, YnextOf, YclosureSymbol, YclosureBody, YclosureEnv, YworkToken, YworkPhase, YworkEnv, YkeptKind, YkeptValue, YboundPlace, YoldKind, YoldValue, YoldBuffer) := by
  have it : vp_in (nI t) 240 := vp_in_nI ht (by omega)
  have et : (nI t).toNatClampNeg = t := nI_clamp (by omega)
  intro P HP
  refine br_f (by rw [show (300 : Int32) = nI 300 from rfl, nI_eq (by omega) (by omega)]; omega) (nm_r (nI_1 n) (And.intro it (nm_r (e' := Ykinds t) (by rw [et]) (And.intro it (nm_r (e' := Ynumbers t) (by rw [et]) ?_)))))
  rw [hk]
  have iq : vp_in (nI q) 340 := vp_in_nI hq (by omega)
  have eq : (nI q).toNatClampNeg = q := nI_clamp (by omega)
  refine br_f (by decide) (br_t rfl ?_)
  unfold wpY_look
  rw [hs]
  refine hp _ (And.intro iq (br_f (by rw [eq]; exact hv) (And.intro iq (And.intro iq ?_))))
  rw [eq]
  exact HP
theorem zy_ev1E {t n s q : Nat} (ht : t < 240) (hn : n < 300) (hk : Ykinds t = 1) (hs : Ynumbers t = nI s) (hq : q < 340) (hp : ∀ Q : Int32 → Prop, Q (nI q) → wpY_placeFor Q (yenvs, yclosures, ywork, ybuffer, nI (n + 1), ymode, nI t, yenv, ykind, yvalue, ycode, ytag, yresultKind, yresultValue, Ykinds, Ynumbers, Yends, Ylengths, Yparameters, Yspecial, YplaceKind, YplaceValue, Ythere, YsymbolOf, YplaceOf, YnextOf, YclosureSymbol, YclosureBody, YclosureEnv, YworkToken, YworkPhase, YworkEnv, YkeptKind, YkeptValue, YboundPlace, YoldKind, YoldValue, YoldBuffer) (nI s) yenv) (hv : YplaceKind q = 2) : zy_E (yenvs, yclosures, ywork, ybuffer, nI n, ymode, nI t, yenv, ykind, yvalue, ycode, ytag, yresultKind, yresultValue, Ykinds, Ynumbers, Yends, Ylengths, Yparameters, Yspecial, YplaceKind, YplaceValue, Ythere, YsymbolOf, YplaceOf, YnextOf, YclosureSymbol, YclosureBody, YclosureEnv, YworkToken, YworkPhase, YworkEnv, YkeptKind, YkeptValue, YboundPlace, YoldKind, YoldValue, YoldBuffer) (yenvs, yclosures, ywork, ybuffer, nI (n + 1), 2, nI t, yenv, ykind, yvalue, 1, -1, yresultKind, yresultValue, Ykinds, Ynumbers, Yends, Ylengths, Yparameters, Yspecial, YplaceKind, YplaceValue, Ythere, YsymbolOf, YplaceOf, YnextOf, YclosureSymbol, YclosureBody, YclosureEnv, YworkToken, YworkPhase, YworkEnv, YkeptKind, YkeptValue, YboundPlace, YoldKind, YoldValue, YoldBuffer) := by
  have it : vp_in (nI t) 240 := vp_in_nI ht (by omega)
  have et : (nI t).toNatClampNeg = t := nI_clamp (by omega)
  intro P HP
  refine br_f (by rw [show (300 : Int32) = nI 300 from rfl, nI_eq (by omega) (by omega)]; omega) (nm_r (nI_1 n) (And.intro it (nm_r (e' := Ykinds t) (by rw [et]) (And.intro it (nm_r (e' := Ynumbers t) (by rw [et]) ?_)))))
  rw [hk]
  have iq : vp_in (nI q) 340 := vp_in_nI hq (by omega)
  have eq : (nI q).toNatClampNeg = q := nI_clamp (by omega)
  refine br_f (by decide) (br_t rfl ?_)
  unfold wpY_look
  rw [hs]
  exact hp _ (And.intro iq (br_t (by rw [eq]; exact hv) HP))
theorem zy_ev4 {t n c : Nat} (ht : t < 240) (hn : n < 300) (hk : Ykinds t = 4) (hc : c < 310) : zy_E (yenvs, nI c, ywork, ybuffer, nI n, ymode, nI t, yenv, ykind, yvalue, ycode, ytag, yresultKind, yresultValue, Ykinds, Ynumbers, Yends, Ylengths, Yparameters, Yspecial, YplaceKind, YplaceValue, Ythere, YsymbolOf, YplaceOf, YnextOf, YclosureSymbol, YclosureBody, YclosureEnv, YworkToken, YworkPhase, YworkEnv, YkeptKind, YkeptValue, YboundPlace, YoldKind, YoldValue, YoldBuffer) (yenvs, nI (c + 1), ywork, ybuffer, nI (n + 1), 0, nI t, yenv, 1, nI c, ycode, ytag, yresultKind, yresultValue, Ykinds, Ynumbers, Yends, Ylengths, Yparameters, Yspecial, YplaceKind, YplaceValue, Ythere, YsymbolOf, YplaceOf, YnextOf, upd YclosureSymbol c (Ynumbers t), upd YclosureBody c (nI (t + 1)), upd YclosureEnv c yenv, YworkToken, YworkPhase, YworkEnv, YkeptKind, YkeptValue, YboundPlace, YoldKind, YoldValue, YoldBuffer) := by
  have it : vp_in (nI t) 240 := vp_in_nI ht (by omega)
  have et : (nI t).toNatClampNeg = t := nI_clamp (by omega)
  intro P HP
  refine br_f (by rw [show (300 : Int32) = nI 300 from rfl, nI_eq (by omega) (by omega)]; omega) (nm_r (nI_1 n) (And.intro it (nm_r (e' := Ykinds t) (by rw [et]) (And.intro it (nm_r (e' := Ynumbers t) (by rw [et]) ?_)))))
  rw [hk]
  have ic : vp_in (nI c) 310 := vp_in_nI hc (by omega)
  have ec : (nI c).toNatClampNeg = c := nI_clamp (by omega)
  exact br_f (by decide) (br_f (by decide) (br_f (by decide) (br_t rfl (And.intro ic (nm_r (e' := upd YclosureSymbol c (Ynumbers t)) (by rw [ec]) (And.intro ic (nm_r (e' := upd YclosureBody c (nI (t + 1))) (by rw [ec, nI_1]) (And.intro ic (nm_r (e' := upd YclosureEnv c yenv) (by rw [ec]) (nm_r (nI_1 c) HP))))))))))
theorem zy_evp {t n w : Nat} {k : Int32} (ht : t < 240) (hn : n < 300) (hw : w < 320) (hk : Ykinds t = k) (h0 : ¬ k = 0) (h1 : ¬ k = 1) (h2 : ¬ k = 18) (h3 : ¬ k = 4) (h4 : ¬ k = 16) : zy_E (yenvs, yclosures, nI w, ybuffer, nI n, ymode, nI t, yenv, ykind, yvalue, ycode, ytag, yresultKind, yresultValue, Ykinds, Ynumbers, Yends, Ylengths, Yparameters, Yspecial, YplaceKind, YplaceValue, Ythere, YsymbolOf, YplaceOf, YnextOf, YclosureSymbol, YclosureBody, YclosureEnv, YworkToken, YworkPhase, YworkEnv, YkeptKind, YkeptValue, YboundPlace, YoldKind, YoldValue, YoldBuffer) (yenvs, yclosures, nI (w + 1), ybuffer, nI (n + 1), 1, nI (t + 1), yenv, ykind, yvalue, ycode, ytag, yresultKind, yresultValue, Ykinds, Ynumbers, Yends, Ylengths, Yparameters, Yspecial, YplaceKind, YplaceValue, Ythere, YsymbolOf, YplaceOf, YnextOf, YclosureSymbol, YclosureBody, YclosureEnv, upd YworkToken w (nI t), upd YworkPhase w 0, upd YworkEnv w yenv, YkeptKind, YkeptValue, upd YboundPlace w (-1), YoldKind, YoldValue, upd YoldBuffer w ybuffer) := by
  have it : vp_in (nI t) 240 := vp_in_nI ht (by omega)
  have et : (nI t).toNatClampNeg = t := nI_clamp (by omega)
  intro P HP
  refine br_f (by rw [show (300 : Int32) = nI 300 from rfl, nI_eq (by omega) (by omega)]; omega) (nm_r (nI_1 n) (And.intro it (nm_r (e' := Ykinds t) (by rw [et]) (And.intro it (nm_r (e' := Ynumbers t) (by rw [et]) ?_)))))
  rw [hk]
  have iw : vp_in (nI w) 320 := vp_in_nI hw (by omega)
  have ew : (nI w).toNatClampNeg = w := nI_clamp (by omega)
  refine br_f h0 (br_f h1 (br_f h2 (br_f h3 (And.intro iw (nm_r (e' := upd YworkToken w (nI t)) (by rw [ew]) (And.intro iw (nm_r (e' := upd YworkPhase w 0) (by rw [ew]) (And.intro iw (nm_r (e' := upd YworkEnv w yenv) (by rw [ew]) (And.intro iw (nm_r (e' := upd YboundPlace w (-1)) (by rw [ew]) (And.intro iw (nm_r (e' := upd YoldBuffer w ybuffer) (by rw [ew]) (nm_r (nI_1 w) (br_f h4 ?_)))))))))))))))
  unfold wY_evaluate_231
  rw [nI_1]
  exact HP
theorem zy_ev16 {t n w : Nat} (ht : t < 240) (hn : n < 300) (hw : w < 320) (hk : Ykinds t = 16) : zy_E (yenvs, yclosures, nI w, ybuffer, nI n, ymode, nI t, yenv, ykind, yvalue, ycode, ytag, yresultKind, yresultValue, Ykinds, Ynumbers, Yends, Ylengths, Yparameters, Yspecial, YplaceKind, YplaceValue, Ythere, YsymbolOf, YplaceOf, YnextOf, YclosureSymbol, YclosureBody, YclosureEnv, YworkToken, YworkPhase, YworkEnv, YkeptKind, YkeptValue, YboundPlace, YoldKind, YoldValue, YoldBuffer) (yenvs, yclosures, nI (w + 1), Ynumbers t, nI (n + 1), 1, nI (t + 1), yenv, ykind, yvalue, ycode, ytag, yresultKind, yresultValue, Ykinds, Ynumbers, Yends, Ylengths, Yparameters, Yspecial, YplaceKind, YplaceValue, Ythere, YsymbolOf, YplaceOf, YnextOf, YclosureSymbol, YclosureBody, YclosureEnv, upd YworkToken w (nI t), upd YworkPhase w 0, upd YworkEnv w yenv, YkeptKind, YkeptValue, upd YboundPlace w (-1), YoldKind, YoldValue, upd YoldBuffer w ybuffer) := by
  have it : vp_in (nI t) 240 := vp_in_nI ht (by omega)
  have et : (nI t).toNatClampNeg = t := nI_clamp (by omega)
  intro P HP
  refine br_f (by rw [show (300 : Int32) = nI 300 from rfl, nI_eq (by omega) (by omega)]; omega) (nm_r (nI_1 n) (And.intro it (nm_r (e' := Ykinds t) (by rw [et]) (And.intro it (nm_r (e' := Ynumbers t) (by rw [et]) ?_)))))
  rw [hk]
  have iw : vp_in (nI w) 320 := vp_in_nI hw (by omega)
  have ew : (nI w).toNatClampNeg = w := nI_clamp (by omega)
  refine br_f (by decide) (br_f (by decide) (br_f (by decide) (br_f (by decide) (And.intro iw (nm_r (e' := upd YworkToken w (nI t)) (by rw [ew]) (And.intro iw (nm_r (e' := upd YworkPhase w 0) (by rw [ew]) (And.intro iw (nm_r (e' := upd YworkEnv w yenv) (by rw [ew]) (And.intro iw (nm_r (e' := upd YboundPlace w (-1)) (by rw [ew]) (And.intro iw (nm_r (e' := upd YoldBuffer w ybuffer) (by rw [ew]) (nm_r (nI_1 w) (br_t rfl ?_)))))))))))))))
  unfold wY_evaluate_231
  rw [nI_1]
  exact HP
/-! helpers -/
theorem zy_op1 {Q : Int32 → Prop} {t q : Nat} (ht : t + 1 < 240) (he : Yends (t + 1) = nI q) (H : Q (nI q)) : wpY_operand Q (yenvs, yclosures, ywork, ybuffer, ysteps, ymode, yat, yenv, ykind, yvalue, ycode, ytag, yresultKind, yresultValue, Ykinds, Ynumbers, Yends, Ylengths, Yparameters, Yspecial, YplaceKind, YplaceValue, Ythere, YsymbolOf, YplaceOf, YnextOf, YclosureSymbol, YclosureBody, YclosureEnv, YworkToken, YworkPhase, YworkEnv, YkeptKind, YkeptValue, YboundPlace, YoldKind, YoldValue, YoldBuffer) (nI t) 1 := by
  refine nm_r (nI_1 t) ⟨2, br_f (by decide) (And.intro (vp_in_nI ht (by omega)) (nm_r (e' := nI q) (by rw [nI_clamp (by omega), he]) (nm_r (e' := 1) (by decide) (br_t (by decide) H))))⟩
theorem zy_op2 {Q : Int32 → Prop} {t q q2 : Nat} (ht : t + 1 < 240) (hq : q < 240) (he : Yends (t + 1) = nI q) (he2 : Yends q = nI q2) (H : Q (nI q2)) : wpY_operand Q (yenvs, yclosures, ywork, ybuffer, ysteps, ymode, yat, yenv, ykind, yvalue, ycode, ytag, yresultKind, yresultValue, Ykinds, Ynumbers, Yends, Ylengths, Yparameters, Yspecial, YplaceKind, YplaceValue, Ythere, YsymbolOf, YplaceOf, YnextOf, YclosureSymbol, YclosureBody, YclosureEnv, YworkToken, YworkPhase, YworkEnv, YkeptKind, YkeptValue, YboundPlace, YoldKind, YoldValue, YoldBuffer) (nI t) 2 := by
  refine nm_r (nI_1 t) ⟨3, br_f (by decide) (And.intro (vp_in_nI ht (by omega)) (nm_r (e' := nI q) (by rw [nI_clamp (by omega), he]) (nm_r (e' := 1) (by decide) (br_f (by decide) (And.intro (vp_in_nI hq (by omega)) (nm_r (e' := nI q2) (by rw [nI_clamp (by omega), he2]) (nm_r (e' := 2) (by decide) (br_t (by decide) H))))))))⟩
theorem zy_gb0 {w : Nat} (hw : w < 320) (hb : YboundPlace w = -1) (H : P (yenvs, yclosures, ywork, ybuffer, ysteps, ymode, yat, yenv, ykind, yvalue, ycode, ytag, yresultKind, yresultValue, Ykinds, Ynumbers, Yends, Ylengths, Yparameters, Yspecial, YplaceKind, YplaceValue, Ythere, YsymbolOf, YplaceOf, YnextOf, YclosureSymbol, YclosureBody, YclosureEnv, YworkToken, YworkPhase, YworkEnv, YkeptKind, YkeptValue, YboundPlace, YoldKind, YoldValue, YoldBuffer)) : wpY_giveBack P (yenvs, yclosures, ywork, ybuffer, ysteps, ymode, yat, yenv, ykind, yvalue, ycode, ytag, yresultKind, yresultValue, Ykinds, Ynumbers, Yends, Ylengths, Yparameters, Yspecial, YplaceKind, YplaceValue, Ythere, YsymbolOf, YplaceOf, YnextOf, YclosureSymbol, YclosureBody, YclosureEnv, YworkToken, YworkPhase, YworkEnv, YkeptKind, YkeptValue, YboundPlace, YoldKind, YoldValue, YoldBuffer) (nI w) :=
  And.intro (vp_in_nI hw (by omega)) (br_f (by rw [nI_clamp (by omega), hb]; decide) H)
theorem zy_gbK {w q : Nat} (hw : w < 320) (hq : q < 340) (hb : YboundPlace w = nI q) (H : P (yenvs, yclosures, ywork, ybuffer, ysteps, ymode, yat, yenv, ykind, yvalue, ycode, ytag, yresultKind, yresultValue, Ykinds, Ynumbers, Yends, Ylengths, Yparameters, Yspecial, upd YplaceKind q (YoldKind w), upd YplaceValue q (YoldValue w), Ythere, YsymbolOf, YplaceOf, YnextOf, YclosureSymbol, YclosureBody, YclosureEnv, YworkToken, YworkPhase, YworkEnv, YkeptKind, YkeptValue, upd YboundPlace w (-1), YoldKind, YoldValue, YoldBuffer)) : wpY_giveBack P (yenvs, yclosures, ywork, ybuffer, ysteps, ymode, yat, yenv, ykind, yvalue, ycode, ytag, yresultKind, yresultValue, Ykinds, Ynumbers, Yends, Ylengths, Yparameters, Yspecial, YplaceKind, YplaceValue, Ythere, YsymbolOf, YplaceOf, YnextOf, YclosureSymbol, YclosureBody, YclosureEnv, YworkToken, YworkPhase, YworkEnv, YkeptKind, YkeptValue, YboundPlace, YoldKind, YoldValue, YoldBuffer) (nI w) := by
  have iw : vp_in (nI w) 320 := vp_in_nI hw (by omega)
  have ew : (nI w).toNatClampNeg = w := nI_clamp (by omega)
  have iq : vp_in (YboundPlace (nI w).toNatClampNeg) 340 := by rw [ew, hb]; exact vp_in_nI hq (by omega)
  exact And.intro iw (br_t (by rw [ew, hb]; exact nI_pos' (by omega)) (And.intro iw (And.intro iw (And.intro iq (nm_r (e' := upd YplaceKind q (YoldKind w)) (by rw [ew, hb, nI_clamp (by omega)]) (And.intro iw (And.intro iw (And.intro iq (nm_r (e' := upd YplaceValue q (YoldValue w)) (by rw [ew, hb, nI_clamp (by omega)]) (And.intro iw (nm_r (e' := upd YboundPlace w (-1)) (by rw [ew]) H)))))))))))
theorem zy_put {q : Nat} (hq : q < 340) (H : P (yenvs, yclosures, ywork, ybuffer, ysteps, ymode, yat, yenv, ykind, yvalue, ycode, ytag, yresultKind, yresultValue, Ykinds, Ynumbers, Yends, Ylengths, Yparameters, Yspecial, upd YplaceKind q ykind, upd YplaceValue q yvalue, Ythere, YsymbolOf, YplaceOf, YnextOf, YclosureSymbol, YclosureBody, YclosureEnv, YworkToken, YworkPhase, YworkEnv, YkeptKind, YkeptValue, YboundPlace, YoldKind, YoldValue, YoldBuffer)) : wpY_put P (yenvs, yclosures, ywork, ybuffer, ysteps, ymode, yat, yenv, ykind, yvalue, ycode, ytag, yresultKind, yresultValue, Ykinds, Ynumbers, Yends, Ylengths, Yparameters, Yspecial, YplaceKind, YplaceValue, Ythere, YsymbolOf, YplaceOf, YnextOf, YclosureSymbol, YclosureBody, YclosureEnv, YworkToken, YworkPhase, YworkEnv, YkeptKind, YkeptValue, YboundPlace, YoldKind, YoldValue, YoldBuffer) (nI q) := by
  have iq : vp_in (nI q) 340 := vp_in_nI hq (by omega)
  have eq : (nI q).toNatClampNeg = q := nI_clamp (by omega)
  exact And.intro iq (nm_r (e' := upd YplaceKind q ykind) (by rw [eq]) (And.intro iq (nm_r (e' := upd YplaceValue q yvalue) (by rw [eq]) H)))
theorem zy_bindS {w s q : Nat} {i e : Int32} (hw : w < 320) (hs : s < 8) (hq : q < 340) (hz : ¬ Yspecial s = 0) (hp : ∀ Q : Int32 → Prop, Q (nI q) → wpY_present Q (yenvs, yclosures, ywork, ybuffer, ysteps, ymode, yat, yenv, ykind, yvalue, ycode, ytag, yresultKind, yresultValue, Ykinds, Ynumbers, Yends, Ylengths, Yparameters, Yspecial, YplaceKind, YplaceValue, Ythere, YsymbolOf, YplaceOf, YnextOf, YclosureSymbol, YclosureBody, YclosureEnv, YworkToken, YworkPhase, YworkEnv, YkeptKind, YkeptValue, YboundPlace, YoldKind, YoldValue, YoldBuffer) (nI s)) (H : P (yenvs, yclosures, ywork, ybuffer, ysteps, 1, i, e, ykind, yvalue, ycode, ytag, yresultKind, yresultValue, Ykinds, Ynumbers, Yends, Ylengths, Yparameters, Yspecial, upd YplaceKind q ykind, upd YplaceValue q yvalue, Ythere, YsymbolOf, YplaceOf, YnextOf, YclosureSymbol, YclosureBody, YclosureEnv, YworkToken, YworkPhase, YworkEnv, YkeptKind, YkeptValue, upd YboundPlace w (nI q), upd YoldKind w (YplaceKind q), upd YoldValue w (YplaceValue q), YoldBuffer)) : wpY_bind P (yenvs, yclosures, ywork, ybuffer, ysteps, ymode, yat, yenv, ykind, yvalue, ycode, ytag, yresultKind, yresultValue, Ykinds, Ynumbers, Yends, Ylengths, Yparameters, Yspecial, YplaceKind, YplaceValue, Ythere, YsymbolOf, YplaceOf, YnextOf, YclosureSymbol, YclosureBody, YclosureEnv, YworkToken, YworkPhase, YworkEnv, YkeptKind, YkeptValue, YboundPlace, YoldKind, YoldValue, YoldBuffer) (nI w) (nI s) i e := by
  have iw : vp_in (nI w) 320 := vp_in_nI hw (by omega)
  have ew : (nI w).toNatClampNeg = w := nI_clamp (by omega)
  have iq : vp_in (nI q) 340 := vp_in_nI hq (by omega)
  have eq : (nI q).toNatClampNeg = q := nI_clamp (by omega)
  unfold wpY_bind
  refine And.intro (vp_in_nI hs (by omega)) (br_f (by rw [nI_clamp (by omega)]; exact hz) (hp _ (And.intro iw (nm_r (e' := upd YboundPlace w (nI q)) (by rw [ew]) (And.intro iq (And.intro iw (nm_r (e' := upd YoldKind w (YplaceKind q)) (by rw [ew, eq]) (And.intro iq (And.intro iw (nm_r (e' := upd YoldValue w (YplaceValue q)) (by rw [ew, eq]) ?_))))))))))
  exact zy_put hq H
theorem zy_bindL {s c : Nat} {w i e : Int32} (hs : s < 8) (hc : c < 308) (hz : Yspecial s = 0) (H : P (nI (c + 1), yclosures, ywork, ybuffer, ysteps, 1, i, nI c, ykind, yvalue, ycode, ytag, yresultKind, yresultValue, Ykinds, Ynumbers, Yends, Ylengths, Yparameters, Yspecial, upd YplaceKind (32 + c) ykind, upd YplaceValue (32 + c) yvalue, Ythere, upd YsymbolOf c (nI s), upd YplaceOf c (nI (32 + c)), upd YnextOf c e, YclosureSymbol, YclosureBody, YclosureEnv, YworkToken, YworkPhase, YworkEnv, YkeptKind, YkeptValue, YboundPlace, YoldKind, YoldValue, YoldBuffer)) : wpY_bind P (nI c, yclosures, ywork, ybuffer, ysteps, ymode, yat, yenv, ykind, yvalue, ycode, ytag, yresultKind, yresultValue, Ykinds, Ynumbers, Yends, Ylengths, Yparameters, Yspecial, YplaceKind, YplaceValue, Ythere, YsymbolOf, YplaceOf, YnextOf, YclosureSymbol, YclosureBody, YclosureEnv, YworkToken, YworkPhase, YworkEnv, YkeptKind, YkeptValue, YboundPlace, YoldKind, YoldValue, YoldBuffer) w (nI s) i e := by
  have ic : vp_in (nI c) 310 := vp_in_nI (by omega) (by omega)
  have ec : (nI c).toNatClampNeg = c := nI_clamp (by omega)
  have e32 : (32 : Int32) + nI c = nI (32 + c) := nI_add 32 c
  unfold wpY_bind
  refine And.intro (vp_in_nI hs (by omega)) (br_t (by rw [nI_clamp (by omega)]; exact hz) (And.intro ic (nm_r (e' := upd YsymbolOf c (nI s)) (by rw [ec]) (And.intro ic (nm_r (e' := upd YplaceOf c (nI (32 + c))) (by rw [ec, e32]) (And.intro ic (nm_r (e' := upd YnextOf c e) (by rw [ec]) ?_)))))))
  rw [e32]
  exact zy_put (by omega) (nm_r (nI_1 c) H)
end
end
section
def zy_MT (W K N : Nat → Int32) (s w : Nat) : Prop := ∃ i, i < w ∧ K (W i).toNatClampNeg = 12 ∧ N (W i).toNatClampNeg = nI s
section
variable {yenvs yclosures ywork ybuffer ysteps ymode yat yenv ykind yvalue ycode ytag yresultKind yresultValue : Int32} {Ykinds Ynumbers Yends Ylengths Yparameters Yspecial YplaceKind YplaceValue Ythere YsymbolOf YplaceOf YnextOf YclosureSymbol YclosureBody YclosureEnv YworkToken YworkPhase YworkEnv YkeptKind YkeptValue YboundPlace YoldKind YoldValue YoldBuffer : Nat → Int32} {yenvs1 yclosures1 ywork1 ybuffer1 ysteps1 ymode1 yat1 yenv1 ykind1 yvalue1 ycode1 ytag1 yresultKind1 yresultValue1 : Int32} {Ykinds1 Ynumbers1 Yends1 Ylengths1 Yparameters1 Yspecial1 YplaceKind1 YplaceValue1 Ythere1 YsymbolOf1 YplaceOf1 YnextOf1 YclosureSymbol1 YclosureBody1 YclosureEnv1 YworkToken1 YworkPhase1 YworkEnv1 YkeptKind1 YkeptValue1 YboundPlace1 YoldKind1 YoldValue1 YoldBuffer1 : Nat → Int32} {yenvs2 yclosures2 ywork2 ybuffer2 ysteps2 ymode2 yat2 yenv2 ykind2 yvalue2 ycode2 ytag2 yresultKind2 yresultValue2 : Int32} {Ykinds2 Ynumbers2 Yends2 Ylengths2 Yparameters2 Yspecial2 YplaceKind2 YplaceValue2 Ythere2 YsymbolOf2 YplaceOf2 YnextOf2 YclosureSymbol2 YclosureBody2 YclosureEnv2 YworkToken2 YworkPhase2 YworkEnv2 YkeptKind2 YkeptValue2 YboundPlace2 YoldKind2 YoldValue2 YoldBuffer2 : Nat → Int32} {P : SY → Prop}
theorem zy_gd1 {w t ph : Nat} {k : Int32} (hw : w < 320) (ht : t < 240) (hT : YworkToken w = nI t) (hk : Ykinds t = k) (hP : YworkPhase w = nI ph) (h2 : k = 5 ∨ k = 9 ∨ k = 10 ∨ k = 11) (H : wY_give_69 P (nI w) (nI t) k (Ynumbers t) (nI ph) 1 yenvs yclosures (nI (w + 1)) ybuffer ysteps ymode yat yenv ykind yvalue ycode ytag yresultKind yresultValue Ykinds Ynumbers Yends Ylengths Yparameters Yspecial YplaceKind YplaceValue Ythere YsymbolOf YplaceOf YnextOf YclosureSymbol YclosureBody YclosureEnv YworkToken (upd YworkPhase w (nI (ph + 1))) YworkEnv YkeptKind YkeptValue YboundPlace YoldKind YoldValue YoldBuffer) : wpY_give P (yenvs, yclosures, nI (w + 1), ybuffer, ysteps, ymode, yat, yenv, ykind, yvalue, ycode, ytag, yresultKind, yresultValue, Ykinds, Ynumbers, Yends, Ylengths, Yparameters, Yspecial, YplaceKind, YplaceValue, Ythere, YsymbolOf, YplaceOf, YnextOf, YclosureSymbol, YclosureBody, YclosureEnv, YworkToken, YworkPhase, YworkEnv, YkeptKind, YkeptValue, YboundPlace, YoldKind, YoldValue, YoldBuffer) := by
  have iw : vp_in (nI w) 320 := vp_in_nI hw (by omega)
  have ew : (nI w).toNatClampNeg = w := nI_clamp (by omega)
  have it : vp_in (nI t) 240 := vp_in_nI ht (by omega)
  have et : (nI t).toNatClampNeg = t := nI_clamp (by omega)
  refine nm_r (e' := nI w) (nI_pred w) (And.intro iw (nm_r (e' := nI t) (by rw [ew, hT]) (And.intro it (nm_r (e' := k) (by rw [et, hk]) (And.intro it (nm_r (e' := Ynumbers t) (by rw [et]) (And.intro iw (nm_r (e' := nI ph) (by rw [ew, hP]) (And.intro iw (And.intro iw (nm_r (e' := upd YworkPhase w (nI (ph + 1))) (by rw [ew, hP, nI_1]) ?_)))))))))))
  rcases h2 with e | e | e | e
  · exact br_t e H
  · exact br_f (by rw [e]; decide) (br_f (by rw [e]; decide) (br_f (by rw [e]; decide) H))
  · exact br_f (by rw [e]; decide) (br_f (by rw [e]; decide) (br_f (by rw [e]; decide) H))
  · exact br_f (by rw [e]; decide) (br_f (by rw [e]; decide) (br_f (by rw [e]; decide) H))
theorem zy_gd0 {w t ph : Nat} {k : Int32} (hw : w < 320) (ht : t < 240) (hT : YworkToken w = nI t) (hk : Ykinds t = k) (hP : YworkPhase w = nI ph) (h2 : ¬ k = 5 ∧ (k < 9 ∨ (¬ k < 9 ∧ 11 < k))) (H : wY_give_69 P (nI w) (nI t) k (Ynumbers t) (nI ph) 0 yenvs yclosures (nI (w + 1)) ybuffer ysteps ymode yat yenv ykind yvalue ycode ytag yresultKind yresultValue Ykinds Ynumbers Yends Ylengths Yparameters Yspecial YplaceKind YplaceValue Ythere YsymbolOf YplaceOf YnextOf YclosureSymbol YclosureBody YclosureEnv YworkToken (upd YworkPhase w (nI (ph + 1))) YworkEnv YkeptKind YkeptValue YboundPlace YoldKind YoldValue YoldBuffer) : wpY_give P (yenvs, yclosures, nI (w + 1), ybuffer, ysteps, ymode, yat, yenv, ykind, yvalue, ycode, ytag, yresultKind, yresultValue, Ykinds, Ynumbers, Yends, Ylengths, Yparameters, Yspecial, YplaceKind, YplaceValue, Ythere, YsymbolOf, YplaceOf, YnextOf, YclosureSymbol, YclosureBody, YclosureEnv, YworkToken, YworkPhase, YworkEnv, YkeptKind, YkeptValue, YboundPlace, YoldKind, YoldValue, YoldBuffer) := by
  have iw : vp_in (nI w) 320 := vp_in_nI hw (by omega)
  have ew : (nI w).toNatClampNeg = w := nI_clamp (by omega)
  have it : vp_in (nI t) 240 := vp_in_nI ht (by omega)
  have et : (nI t).toNatClampNeg = t := nI_clamp (by omega)
  refine nm_r (e' := nI w) (nI_pred w) (And.intro iw (nm_r (e' := nI t) (by rw [ew, hT]) (And.intro it (nm_r (e' := k) (by rw [et, hk]) (And.intro it (nm_r (e' := Ynumbers t) (by rw [et]) (And.intro iw (nm_r (e' := nI ph) (by rw [ew, hP]) (And.intro iw (And.intro iw (nm_r (e' := upd YworkPhase w (nI (ph + 1))) (by rw [ew, hP, nI_1]) ?_)))))))))))
  rcases h2 with ⟨e, h | ⟨h, h'⟩⟩
  · exact br_f e (br_t h H)
  · exact br_f e (br_f h (br_t h' H))
theorem zy_g99 {w t q : Nat} (hw : w < 320) (ht : t + 1 < 240) (he : Yends (t + 1) = nI q) (H : P (yenvs, yclosures, ywork, ybuffer, ysteps, 1, nI q, YworkEnv w, ykind, yvalue, ycode, ytag, yresultKind, yresultValue, Ykinds, Ynumbers, Yends, Ylengths, Yparameters, Yspecial, YplaceKind, YplaceValue, Ythere, YsymbolOf, YplaceOf, YnextOf, YclosureSymbol, YclosureBody, YclosureEnv, YworkToken, YworkPhase, YworkEnv, upd YkeptKind w ykind, upd YkeptValue w yvalue, YboundPlace, YoldKind, YoldValue, YoldBuffer)) : wY_give_99 P (nI w) (nI t) yenvs yclosures ywork ybuffer ysteps ymode yat yenv ykind yvalue ycode ytag yresultKind yresultValue Ykinds Ynumbers Yends Ylengths Yparameters Yspecial YplaceKind YplaceValue Ythere YsymbolOf YplaceOf YnextOf YclosureSymbol YclosureBody YclosureEnv YworkToken YworkPhase YworkEnv YkeptKind YkeptValue YboundPlace YoldKind YoldValue YoldBuffer := by
  have iw : vp_in (nI w) 320 := vp_in_nI hw (by omega)
  have ew : (nI w).toNatClampNeg = w := nI_clamp (by omega)
  refine And.intro iw (nm_r (e' := upd YkeptKind w ykind) (by rw [ew]) (And.intro iw (nm_r (e' := upd YkeptValue w yvalue) (by rw [ew]) (zy_op1 ht he (And.intro iw ?_)))))
  rw [ew]
  exact H
/-- the first value is kept -/
theorem zy_gkeep {w t q : Nat} {k : Int32} (hw : w < 320) (ht : t + 1 < 240) (hT : YworkToken w = nI t) (hk : Ykinds t = k) (hP : YworkPhase w = nI 0) (h2 : k = 5 ∨ k = 9 ∨ k = 10 ∨ k = 11 ∨ k = 15) (he : Yends (t + 1) = nI q) : zy_G (yenvs, yclosures, nI (w + 1), ybuffer, ysteps, ymode, yat, yenv, ykind, yvalue, ycode, ytag, yresultKind, yresultValue, Ykinds, Ynumbers, Yends, Ylengths, Yparameters, Yspecial, YplaceKind, YplaceValue, Ythere, YsymbolOf, YplaceOf, YnextOf, YclosureSymbol, YclosureBody, YclosureEnv, YworkToken, YworkPhase, YworkEnv, YkeptKind, YkeptValue, YboundPlace, YoldKind, YoldValue, YoldBuffer) (yenvs, yclosures, nI (w + 1), ybuffer, ysteps, 1, nI q, YworkEnv w, ykind, yvalue, ycode, ytag, yresultKind, yresultValue, Ykinds, Ynumbers, Yends, Ylengths, Yparameters, Yspecial, YplaceKind, YplaceValue, Ythere, YsymbolOf, YplaceOf, YnextOf, YclosureSymbol, YclosureBody, YclosureEnv, YworkToken, upd YworkPhase w (nI 1), YworkEnv, upd YkeptKind w ykind, upd YkeptValue w yvalue, YboundPlace, YoldKind, YoldValue, YoldBuffer) := by
  intro P HP
  by_cases z : k = 15
  · refine zy_gd0 hw (by omega) hT hk hP (by rw [z]; decide) ?_
    exact br_t rfl (br_f (by decide) (br_t rfl (br_t z (zy_g99 hw ht he HP))))
  · refine zy_gd1 hw (by omega) hT hk hP ?_ (br_t rfl (br_f (by decide) (br_f (by decide) (zy_g99 hw ht he HP))))
    rcases h2 with h | h | h | h | h
    · exact Or.inl h
    · exact Or.inr (Or.inl h)
    · exact Or.inr (Or.inr (Or.inl h))
    · exact Or.inr (Or.inr (Or.inr h))
    · exact absurd h z
theorem zy_gseq {w t q : Nat} (hw : w < 320) (ht : t + 1 < 240) (hT : YworkToken w = nI t) (hk : Ykinds t = 7) (hP : YworkPhase w = nI 0) (he : Yends (t + 1) = nI q) : zy_G (yenvs, yclosures, nI (w + 1), ybuffer, ysteps, ymode, yat, yenv, ykind, yvalue, ycode, ytag, yresultKind, yresultValue, Ykinds, Ynumbers, Yends, Ylengths, Yparameters, Yspecial, YplaceKind, YplaceValue, Ythere, YsymbolOf, YplaceOf, YnextOf, YclosureSymbol, YclosureBody, YclosureEnv, YworkToken, YworkPhase, YworkEnv, YkeptKind, YkeptValue, YboundPlace, YoldKind, YoldValue, YoldBuffer) (yenvs, yclosures, nI w, ybuffer, ysteps, 1, nI q, YworkEnv w, ykind, yvalue, ycode, ytag, yresultKind, yresultValue, Ykinds, Ynumbers, Yends, Ylengths, Yparameters, Yspecial, YplaceKind, YplaceValue, Ythere, YsymbolOf, YplaceOf, YnextOf, YclosureSymbol, YclosureBody, YclosureEnv, YworkToken, upd YworkPhase w (nI 1), YworkEnv, YkeptKind, YkeptValue, YboundPlace, YoldKind, YoldValue, YoldBuffer) := by
  intro P HP
  have iw : vp_in (nI w) 320 := vp_in_nI hw (by omega)
  have ew : (nI w).toNatClampNeg = w := nI_clamp (by omega)
  refine zy_gd0 hw (by omega) hT hk hP (by decide) (br_t rfl (br_f (by decide) (br_t rfl (br_f (by decide) ?_))))
  refine br_f (by decide) (br_t rfl (nm_r (e' := nI w) (nI_pred w) (zy_op1 ht he (And.intro iw ?_))))
  rw [ew]
  exact HP
theorem zy_gif1 {w t q : Nat} (hw : w < 320) (ht : t + 1 < 240) (hT : YworkToken w = nI t) (hk : Ykinds t = 8) (hP : YworkPhase w = nI 0) (he : Yends (t + 1) = nI q) (hv : ¬ (ykind = 0 ∧ yvalue = 0)) : zy_G (yenvs, yclosures, nI (w + 1), ybuffer, ysteps, ymode, yat, yenv, ykind, yvalue, ycode, ytag, yresultKind, yresultValue, Ykinds, Ynumbers, Yends, Ylengths, Yparameters, Yspecial, YplaceKind, YplaceValue, Ythere, YsymbolOf, YplaceOf, YnextOf, YclosureSymbol, YclosureBody, YclosureEnv, YworkToken, YworkPhase, YworkEnv, YkeptKind, YkeptValue, YboundPlace, YoldKind, YoldValue, YoldBuffer) (yenvs, yclosures, nI w, ybuffer, ysteps, 1, nI q, YworkEnv w, ykind, yvalue, ycode, ytag, yresultKind, yresultValue, Ykinds, Ynumbers, Yends, Ylengths, Yparameters, Yspecial, YplaceKind, YplaceValue, Ythere, YsymbolOf, YplaceOf, YnextOf, YclosureSymbol, YclosureBody, YclosureEnv, YworkToken, upd YworkPhase w (nI 1), YworkEnv, YkeptKind, YkeptValue, YboundPlace, YoldKind, YoldValue, YoldBuffer) := by
  intro P HP
  have iw : vp_in (nI w) 320 := vp_in_nI hw (by omega)
  have ew : (nI w).toNatClampNeg = w := nI_clamp (by omega)
  have h216 : wY_give_216 P (nI w) (nI t) yenvs yclosures (nI w) ybuffer ysteps ymode yat yenv ykind yvalue ycode ytag yresultKind yresultValue Ykinds Ynumbers Yends Ylengths Yparameters Yspecial YplaceKind YplaceValue Ythere YsymbolOf YplaceOf YnextOf YclosureSymbol YclosureBody YclosureEnv YworkToken (upd YworkPhase w (nI 1)) YworkEnv YkeptKind YkeptValue YboundPlace YoldKind YoldValue YoldBuffer := by
    unfold wY_give_216 wY_give_221
    refine zy_op1 ht he (And.intro iw ?_)
    rw [ew]
    exact HP
  refine zy_gd0 hw (by omega) hT hk hP (by decide) (br_t rfl (br_f (by decide) (br_t rfl (br_f (by decide) ?_))))
  refine br_f (by decide) (br_f (by decide) (br_f (by decide) (br_t rfl (nm_r (e' := nI w) (nI_pred w) (br_c (fun z => br_c (fun z2 => absurd ⟨z, z2⟩ hv) (fun _ => h216)) (fun _ => h216))))))
theorem zy_gif2 {w t q q2 : Nat} (hw : w < 320) (ht : t + 1 < 240) (hq : q < 240) (hT : YworkToken w = nI t) (hk : Ykinds t = 8) (hP : YworkPhase w = nI 0) (he : Yends (t + 1) = nI q) (he2 : Yends q = nI q2) (hv : ykind = 0 ∧ yvalue = 0) : zy_G (yenvs, yclosures, nI (w + 1), ybuffer, ysteps, ymode, yat, yenv, ykind, yvalue, ycode, ytag, yresultKind, yresultValue, Ykinds, Ynumbers, Yends, Ylengths, Yparameters, Yspecial, YplaceKind, YplaceValue, Ythere, YsymbolOf, YplaceOf, YnextOf, YclosureSymbol, YclosureBody, YclosureEnv, YworkToken, YworkPhase, YworkEnv, YkeptKind, YkeptValue, YboundPlace, YoldKind, YoldValue, YoldBuffer) (yenvs, yclosures, nI w, ybuffer, ysteps, 1, nI q2, YworkEnv w, ykind, yvalue, ycode, ytag, yresultKind, yresultValue, Ykinds, Ynumbers, Yends, Ylengths, Yparameters, Yspecial, YplaceKind, YplaceValue, Ythere, YsymbolOf, YplaceOf, YnextOf, YclosureSymbol, YclosureBody, YclosureEnv, YworkToken, upd YworkPhase w (nI 1), YworkEnv, YkeptKind, YkeptValue, YboundPlace, YoldKind, YoldValue, YoldBuffer) := by
  intro P HP
  have iw : vp_in (nI w) 320 := vp_in_nI hw (by omega)
  have ew : (nI w).toNatClampNeg = w := nI_clamp (by omega)
  refine zy_gd0 hw (by omega) hT hk hP (by decide) (br_t rfl (br_f (by decide) (br_t rfl (br_f (by decide) ?_))))
  refine br_f (by decide) (br_f (by decide) (br_f (by decide) (br_t rfl (nm_r (e' := nI w) (nI_pred w) (br_t hv.1 (br_t hv.2 ?_))))))
  unfold wY_give_221
  refine zy_op2 ht hq he he2 (And.intro iw ?_)
  rw [ew]
  exact HP
theorem zy_glet {w t q : Nat} (hw : w < 320) (ht : t + 1 < 240) (hT : YworkToken w = nI t) (hk : Ykinds t = 3) (hP : YworkPhase w = nI 0) (he : Yends (t + 1) = nI q) (HB : ∀ Q : SY → Prop, Q (yenvs1, yclosures1, ywork1, ybuffer1, ysteps1, ymode1, yat1, yenv1, ykind1, yvalue1, ycode1, ytag1, yresultKind1, yresultValue1, Ykinds1, Ynumbers1, Yends1, Ylengths1, Yparameters1, Yspecial1, YplaceKind1, YplaceValue1, Ythere1, YsymbolOf1, YplaceOf1, YnextOf1, YclosureSymbol1, YclosureBody1, YclosureEnv1, YworkToken1, YworkPhase1, YworkEnv1, YkeptKind1, YkeptValue1, YboundPlace1, YoldKind1, YoldValue1, YoldBuffer1) → wpY_bind Q (yenvs, yclosures, nI (w + 1), ybuffer, ysteps, ymode, yat, yenv, ykind, yvalue, ycode, ytag, yresultKind, yresultValue, Ykinds, Ynumbers, Yends, Ylengths, Yparameters, Yspecial, YplaceKind, YplaceValue, Ythere, YsymbolOf, YplaceOf, YnextOf, YclosureSymbol, YclosureBody, YclosureEnv, YworkToken, upd YworkPhase w (nI 1), YworkEnv, YkeptKind, YkeptValue, YboundPlace, YoldKind, YoldValue, YoldBuffer) (nI w) (Ynumbers t) (nI q) (YworkEnv w)) : zy_G (yenvs, yclosures, nI (w + 1), ybuffer, ysteps, ymode, yat, yenv, ykind, yvalue, ycode, ytag, yresultKind, yresultValue, Ykinds, Ynumbers, Yends, Ylengths, Yparameters, Yspecial, YplaceKind, YplaceValue, Ythere, YsymbolOf, YplaceOf, YnextOf, YclosureSymbol, YclosureBody, YclosureEnv, YworkToken, YworkPhase, YworkEnv, YkeptKind, YkeptValue, YboundPlace, YoldKind, YoldValue, YoldBuffer) (yenvs1, yclosures1, ywork1, ybuffer1, ysteps1, ymode1, yat1, yenv1, ykind1, yvalue1, ycode1, ytag1, yresultKind1, yresultValue1, Ykinds1, Ynumbers1, Yends1, Ylengths1, Yparameters1, Yspecial1, YplaceKind1, YplaceValue1, Ythere1, YsymbolOf1, YplaceOf1, YnextOf1, YclosureSymbol1, YclosureBody1, YclosureEnv1, YworkToken1, YworkPhase1, YworkEnv1, YkeptKind1, YkeptValue1, YboundPlace1, YoldKind1, YoldValue1, YoldBuffer1) := by
  intro P HP
  have iw : vp_in (nI w) 320 := vp_in_nI hw (by omega)
  have ew : (nI w).toNatClampNeg = w := nI_clamp (by omega)
  refine zy_gd0 hw (by omega) hT hk hP (by decide) (br_t rfl (br_f (by decide) (br_t rfl (br_f (by decide) ?_))))
  refine br_f (by decide) (br_f (by decide) (br_f (by decide) (br_f (by decide) (br_f (by decide) (br_t rfl (zy_op1 ht he (And.intro iw ?_)))))))
  rw [ew]
  exact HB _ HP
theorem zy_gnamed {w t s : Nat} (hw : w < 320) (ht : t < 240) (hT : YworkToken w = nI t) (hk : Ykinds t = 6) (hP : YworkPhase w = nI 0) (hn : Ynumbers t = nI s) (HB : ∀ Q : SY → Prop, Q (yenvs1, yclosures1, ywork1, ybuffer1, ysteps1, ymode1, yat1, yenv1, ykind1, yvalue1, ycode1, ytag1, yresultKind1, yresultValue1, Ykinds1, Ynumbers1, Yends1, Ylengths1, Yparameters1, Yspecial1, YplaceKind1, YplaceValue1, Ythere1, YsymbolOf1, YplaceOf1, YnextOf1, YclosureSymbol1, YclosureBody1, YclosureEnv1, YworkToken1, YworkPhase1, YworkEnv1, YkeptKind1, YkeptValue1, YboundPlace1, YoldKind1, YoldValue1, YoldBuffer1) → wpY_named Q (yenvs, yclosures, nI (w + 1), ybuffer, ysteps, ymode, yat, yenv, ykind, yvalue, ycode, ytag, yresultKind, yresultValue, Ykinds, Ynumbers, Yends, Ylengths, Yparameters, Yspecial, YplaceKind, YplaceValue, Ythere, YsymbolOf, YplaceOf, YnextOf, YclosureSymbol, YclosureBody, YclosureEnv, YworkToken, upd YworkPhase w (nI 1), YworkEnv, YkeptKind, YkeptValue, YboundPlace, YoldKind, YoldValue, YoldBuffer) (nI w) (nI s)) : zy_G (yenvs, yclosures, nI (w + 1), ybuffer, ysteps, ymode, yat, yenv, ykind, yvalue, ycode, ytag, yresultKind, yresultValue, Ykinds, Ynumbers, Yends, Ylengths, Yparameters, Yspecial, YplaceKind, YplaceValue, Ythere, YsymbolOf, YplaceOf, YnextOf, YclosureSymbol, YclosureBody, YclosureEnv, YworkToken, YworkPhase, YworkEnv, YkeptKind, YkeptValue, YboundPlace, YoldKind, YoldValue, YoldBuffer) (yenvs1, yclosures1, ywork1, ybuffer1, ysteps1, ymode1, yat1, yenv1, ykind1, yvalue1, ycode1, ytag1, yresultKind1, yresultValue1, Ykinds1, Ynumbers1, Yends1, Ylengths1, Yparameters1, Yspecial1, YplaceKind1, YplaceValue1, Ythere1, YsymbolOf1, YplaceOf1, YnextOf1, YclosureSymbol1, YclosureBody1, YclosureEnv1, YworkToken1, YworkPhase1, YworkEnv1, YkeptKind1, YkeptValue1, YboundPlace1, YoldKind1, YoldValue1, YoldBuffer1) := by
  intro P HP
  refine zy_gd0 hw ht hT hk hP (by decide) (br_t rfl (br_f (by decide) (br_t rfl (br_f (by decide) ?_))))
  refine br_f (by decide) (br_f (by decide) (br_f (by decide) (br_f (by decide) (br_f (by decide) (br_f (by decide) (br_f (by decide) (br_t rfl ?_)))))))
  rw [hn]
  exact HB _ HP
theorem zy_namedB {w s : Nat} {p : Int32} (hs : s < 4) (hl : ¬ Ylengths s = 0) (hp : Yparameters s = p) (HB : ∀ Q : SY → Prop, Q (yenvs1, yclosures1, ywork1, ybuffer1, ysteps1, ymode1, yat1, yenv1, ykind1, yvalue1, ycode1, ytag1, yresultKind1, yresultValue1, Ykinds1, Ynumbers1, Yends1, Ylengths1, Yparameters1, Yspecial1, YplaceKind1, YplaceValue1, Ythere1, YsymbolOf1, YplaceOf1, YnextOf1, YclosureSymbol1, YclosureBody1, YclosureEnv1, YworkToken1, YworkPhase1, YworkEnv1, YkeptKind1, YkeptValue1, YboundPlace1, YoldKind1, YoldValue1, YoldBuffer1) → wpY_bind Q (yenvs, yclosures, ywork, ybuffer, ysteps, ymode, yat, yenv, ykind, yvalue, ycode, ytag, yresultKind, yresultValue, Ykinds, Ynumbers, Yends, Ylengths, Yparameters, Yspecial, YplaceKind, YplaceValue, Ythere, YsymbolOf, YplaceOf, YnextOf, YclosureSymbol, YclosureBody, YclosureEnv, YworkToken, YworkPhase, YworkEnv, YkeptKind, YkeptValue, YboundPlace, YoldKind, YoldValue, YoldBuffer) (nI w) p (nI (48 * s)) (-1)) (HP : P (yenvs1, yclosures1, ywork1, ybuffer1, ysteps1, ymode1, yat1, yenv1, ykind1, yvalue1, ycode1, ytag1, yresultKind1, yresultValue1, Ykinds1, Ynumbers1, Yends1, Ylengths1, Yparameters1, Yspecial1, YplaceKind1, YplaceValue1, Ythere1, YsymbolOf1, YplaceOf1, YnextOf1, YclosureSymbol1, YclosureBody1, YclosureEnv1, YworkToken1, YworkPhase1, YworkEnv1, YkeptKind1, YkeptValue1, YboundPlace1, YoldKind1, YoldValue1, YoldBuffer1)) : wpY_named P (yenvs, yclosures, ywork, ybuffer, ysteps, ymode, yat, yenv, ykind, yvalue, ycode, ytag, yresultKind, yresultValue, Ykinds, Ynumbers, Yends, Ylengths, Yparameters, Yspecial, YplaceKind, YplaceValue, Ythere, YsymbolOf, YplaceOf, YnextOf, YclosureSymbol, YclosureBody, YclosureEnv, YworkToken, YworkPhase, YworkEnv, YkeptKind, YkeptValue, YboundPlace, YoldKind, YoldValue, YoldBuffer) (nI w) (nI s) := by
  have es : (nI s).toNatClampNeg = s := nI_clamp (by omega)
  refine And.intro (vp_in_nI (by omega) (by omega)) (br_f (by rw [es]; exact hl) (And.intro (vp_in_nI hs (by omega)) ?_))
  rw [es, hp, show (48 : Int32) * nI s = nI (48 * s) from pk_mul 48 s]
  exact HB _ HP
theorem zy_namedM {w s : Nat} (hs : s < 4) (hl : Ylengths s = 0) (HP : P (yenvs, yclosures, nI w, ybuffer, ysteps, 2, yat, yenv, ykind, yvalue, 3, -1, yresultKind, yresultValue, Ykinds, Ynumbers, Yends, Ylengths, Yparameters, Yspecial, YplaceKind, YplaceValue, Ythere, YsymbolOf, YplaceOf, YnextOf, YclosureSymbol, YclosureBody, YclosureEnv, YworkToken, YworkPhase, YworkEnv, YkeptKind, YkeptValue, YboundPlace, YoldKind, YoldValue, YoldBuffer)) : wpY_named P (yenvs, yclosures, nI (w + 1), ybuffer, ysteps, ymode, yat, yenv, ykind, yvalue, ycode, ytag, yresultKind, yresultValue, Ykinds, Ynumbers, Yends, Ylengths, Yparameters, Yspecial, YplaceKind, YplaceValue, Ythere, YsymbolOf, YplaceOf, YnextOf, YclosureSymbol, YclosureBody, YclosureEnv, YworkToken, YworkPhase, YworkEnv, YkeptKind, YkeptValue, YboundPlace, YoldKind, YoldValue, YoldBuffer) (nI w) (nI s) := by
  have es : (nI s).toNatClampNeg = s := nI_clamp (by omega)
  exact And.intro (vp_in_nI (by omega) (by omega)) (br_t (by rw [es]; exact hl) (nm_r (e' := nI w) (nI_pred w) HP))
theorem zy_gcall {w t c : Nat} {s b e : Int32} (hw : w < 320) (ht : t < 240) (hc : c < 310) (hT : YworkToken w = nI t) (hk : Ykinds t = 5) (hP : YworkPhase w = nI 1) (hkk : YkeptKind w = 1) (hkv : YkeptValue w = nI c) (es : YclosureSymbol c = s) (eb : YclosureBody c = b) (ee : YclosureEnv c = e) (HB : ∀ Q : SY → Prop, Q (yenvs1, yclosures1, ywork1, ybuffer1, ysteps1, ymode1, yat1, yenv1, ykind1, yvalue1, ycode1, ytag1, yresultKind1, yresultValue1, Ykinds1, Ynumbers1, Yends1, Ylengths1, Yparameters1, Yspecial1, YplaceKind1, YplaceValue1, Ythere1, YsymbolOf1, YplaceOf1, YnextOf1, YclosureSymbol1, YclosureBody1, YclosureEnv1, YworkToken1, YworkPhase1, YworkEnv1, YkeptKind1, YkeptValue1, YboundPlace1, YoldKind1, YoldValue1, YoldBuffer1) → wpY_bind Q (yenvs, yclosures, nI (w + 1), ybuffer, ysteps, ymode, yat, yenv, ykind, yvalue, ycode, ytag, yresultKind, yresultValue, Ykinds, Ynumbers, Yends, Ylengths, Yparameters, Yspecial, YplaceKind, YplaceValue, Ythere, YsymbolOf, YplaceOf, YnextOf, YclosureSymbol, YclosureBody, YclosureEnv, YworkToken, upd YworkPhase w (nI 2), YworkEnv, YkeptKind, YkeptValue, YboundPlace, YoldKind, YoldValue, YoldBuffer) (nI w) s b e) : zy_G (yenvs, yclosures, nI (w + 1), ybuffer, ysteps, ymode, yat, yenv, ykind, yvalue, ycode, ytag, yresultKind, yresultValue, Ykinds, Ynumbers, Yends, Ylengths, Yparameters, Yspecial, YplaceKind, YplaceValue, Ythere, YsymbolOf, YplaceOf, YnextOf, YclosureSymbol, YclosureBody, YclosureEnv, YworkToken, YworkPhase, YworkEnv, YkeptKind, YkeptValue, YboundPlace, YoldKind, YoldValue, YoldBuffer) (yenvs1, yclosures1, ywork1, ybuffer1, ysteps1, ymode1, yat1, yenv1, ykind1, yvalue1, ycode1, ytag1, yresultKind1, yresultValue1, Ykinds1, Ynumbers1, Yends1, Ylengths1, Yparameters1, Yspecial1, YplaceKind1, YplaceValue1, Ythere1, YsymbolOf1, YplaceOf1, YnextOf1, YclosureSymbol1, YclosureBody1, YclosureEnv1, YworkToken1, YworkPhase1, YworkEnv1, YkeptKind1, YkeptValue1, YboundPlace1, YoldKind1, YoldValue1, YoldBuffer1) := by
  intro P HP
  have iw : vp_in (nI w) 320 := vp_in_nI hw (by omega)
  have ew : (nI w).toNatClampNeg = w := nI_clamp (by omega)
  have ic : vp_in (nI c) 310 := vp_in_nI hc (by omega)
  have ec : (nI c).toNatClampNeg = c := nI_clamp (by omega)
  refine zy_gd1 hw ht hT hk hP (Or.inl rfl) (br_f (by decide) (br_t rfl (br_t rfl (br_t rfl (br_t rfl (br_t rfl (br_t rfl (br_t rfl ?_))))))))
  unfold wpY_call
  refine And.intro iw (nm_r (e' := nI c) (by rw [ew, hkv]) (And.intro iw (br_t (by rw [ew, hkk]) (And.intro ic (And.intro ic (And.intro ic ?_))))))
  rw [ec, es, eb, ee]
  exact HB _ HP
theorem zy_gcallE {w t : Nat} (hw : w < 320) (ht : t < 240) (hT : YworkToken w = nI t) (hk : Ykinds t = 5) (hP : YworkPhase w = nI 1) (hkk : ¬ YkeptKind w = 1) : zy_G (yenvs, yclosures, nI (w + 1), ybuffer, ysteps, ymode, yat, yenv, ykind, yvalue, ycode, ytag, yresultKind, yresultValue, Ykinds, Ynumbers, Yends, Ylengths, Yparameters, Yspecial, YplaceKind, YplaceValue, Ythere, YsymbolOf, YplaceOf, YnextOf, YclosureSymbol, YclosureBody, YclosureEnv, YworkToken, YworkPhase, YworkEnv, YkeptKind, YkeptValue, YboundPlace, YoldKind, YoldValue, YoldBuffer) (yenvs, yclosures, nI w, ybuffer, ysteps, 2, yat, yenv, ykind, yvalue, 2, -1, yresultKind, yresultValue, Ykinds, Ynumbers, Yends, Ylengths, Yparameters, Yspecial, YplaceKind, YplaceValue, Ythere, YsymbolOf, YplaceOf, YnextOf, YclosureSymbol, YclosureBody, YclosureEnv, YworkToken, upd YworkPhase w (nI 2), YworkEnv, YkeptKind, YkeptValue, YboundPlace, YoldKind, YoldValue, YoldBuffer) := by
  intro P HP
  have iw : vp_in (nI w) 320 := vp_in_nI hw (by omega)
  have ew : (nI w).toNatClampNeg = w := nI_clamp (by omega)
  refine zy_gd1 hw ht hT hk hP (Or.inl rfl) (br_f (by decide) (br_t rfl (br_t rfl (br_t rfl (br_t rfl (br_t rfl (br_t rfl (br_t rfl ?_))))))))
  unfold wpY_call
  exact And.intro iw (nm_e (And.intro iw (br_f (by rw [ew]; exact hkk) (nm_r (e' := nI w) (nI_pred w) HP))))
/-! a token is done -/
theorem zy_g308 {w : Nat} {k n ph : Int32} (hw : w < 320) (HG : ∀ Q : SY → Prop, Q (yenvs1, yclosures1, ywork1, ybuffer1, ysteps1, ymode1, yat1, yenv1, ykind1, yvalue1, ycode1, ytag1, yresultKind1, yresultValue1, Ykinds1, Ynumbers1, Yends1, Ylengths1, Yparameters1, Yspecial1, YplaceKind1, YplaceValue1, Ythere1, YsymbolOf1, YplaceOf1, YnextOf1, YclosureSymbol1, YclosureBody1, YclosureEnv1, YworkToken1, YworkPhase1, YworkEnv1, YkeptKind1, YkeptValue1, YboundPlace1, YoldKind1, YoldValue1, YoldBuffer1) → wpY_giveBack Q (yenvs, yclosures, nI w, ybuffer, ysteps, ymode, yat, yenv, ykind, yvalue, ycode, ytag, yresultKind, yresultValue, Ykinds, Ynumbers, Yends, Ylengths, Yparameters, Yspecial, YplaceKind, YplaceValue, Ythere, YsymbolOf, YplaceOf, YnextOf, YclosureSymbol, YclosureBody, YclosureEnv, YworkToken, YworkPhase, YworkEnv, YkeptKind, YkeptValue, YboundPlace, YoldKind, YoldValue, YoldBuffer) (nI w)) (HD : ∀ Q : SY → Prop, Q (yenvs2, yclosures2, ywork2, ybuffer2, ysteps2, ymode2, yat2, yenv2, ykind2, yvalue2, ycode2, ytag2, yresultKind2, yresultValue2, Ykinds2, Ynumbers2, Yends2, Ylengths2, Yparameters2, Yspecial2, YplaceKind2, YplaceValue2, Ythere2, YsymbolOf2, YplaceOf2, YnextOf2, YclosureSymbol2, YclosureBody2, YclosureEnv2, YworkToken2, YworkPhase2, YworkEnv2, YkeptKind2, YkeptValue2, YboundPlace2, YoldKind2, YoldValue2, YoldBuffer2) → wpY_done Q (yenvs1, yclosures1, ywork1, YoldBuffer1 w, ysteps1, ymode1, yat1, yenv1, ykind1, yvalue1, ycode1, ytag1, yresultKind1, yresultValue1, Ykinds1, Ynumbers1, Yends1, Ylengths1, Yparameters1, Yspecial1, YplaceKind1, YplaceValue1, Ythere1, YsymbolOf1, YplaceOf1, YnextOf1, YclosureSymbol1, YclosureBody1, YclosureEnv1, YworkToken1, YworkPhase1, YworkEnv1, YkeptKind1, YkeptValue1, YboundPlace1, YoldKind1, YoldValue1, YoldBuffer1) (nI w) k n ph) (HP : P (yenvs2, yclosures2, ywork2, ybuffer2, ysteps2, ymode2, yat2, yenv2, ykind2, yvalue2, ycode2, ytag2, yresultKind2, yresultValue2, Ykinds2, Ynumbers2, Yends2, Ylengths2, Yparameters2, Yspecial2, YplaceKind2, YplaceValue2, Ythere2, YsymbolOf2, YplaceOf2, YnextOf2, YclosureSymbol2, YclosureBody2, YclosureEnv2, YworkToken2, YworkPhase2, YworkEnv2, YkeptKind2, YkeptValue2, YboundPlace2, YoldKind2, YoldValue2, YoldBuffer2)) : wY_give_308 P (nI w) k n ph yenvs yclosures (nI (w + 1)) ybuffer ysteps ymode yat yenv ykind yvalue ycode ytag yresultKind yresultValue Ykinds Ynumbers Yends Ylengths Yparameters Yspecial YplaceKind YplaceValue Ythere YsymbolOf YplaceOf YnextOf YclosureSymbol YclosureBody YclosureEnv YworkToken YworkPhase YworkEnv YkeptKind YkeptValue YboundPlace YoldKind YoldValue YoldBuffer := by
  have iw : vp_in (nI w) 320 := vp_in_nI hw (by omega)
  have ew : (nI w).toNatClampNeg = w := nI_clamp (by omega)
  exact nm_r (e' := nI w) (nI_pred w) (HG _ (And.intro iw (nm_r (e' := YoldBuffer1 w) (by rw [ew]) (HD _ HP))))
theorem zy_done_a {w t : Nat} {k : Int32} (hw : w < 320) (ht : t < 240) (hT : YworkToken w = nI t) (hk : Ykinds t = k) (hP : YworkPhase w = nI 0) (h2 : k = 2 ∨ k = 13 ∨ k = 17 ∨ k = 12 ∨ k = 14 ∨ k = 16) (HG : ∀ Q : SY → Prop, Q (yenvs1, yclosures1, ywork1, ybuffer1, ysteps1, ymode1, yat1, yenv1, ykind1, yvalue1, ycode1, ytag1, yresultKind1, yresultValue1, Ykinds1, Ynumbers1, Yends1, Ylengths1, Yparameters1, Yspecial1, YplaceKind1, YplaceValue1, Ythere1, YsymbolOf1, YplaceOf1, YnextOf1, YclosureSymbol1, YclosureBody1, YclosureEnv1, YworkToken1, YworkPhase1, YworkEnv1, YkeptKind1, YkeptValue1, YboundPlace1, YoldKind1, YoldValue1, YoldBuffer1) → wpY_giveBack Q (yenvs, yclosures, nI w, ybuffer, ysteps, ymode, yat, yenv, ykind, yvalue, ycode, ytag, yresultKind, yresultValue, Ykinds, Ynumbers, Yends, Ylengths, Yparameters, Yspecial, YplaceKind, YplaceValue, Ythere, YsymbolOf, YplaceOf, YnextOf, YclosureSymbol, YclosureBody, YclosureEnv, YworkToken, upd YworkPhase w (nI (1)), YworkEnv, YkeptKind, YkeptValue, YboundPlace, YoldKind, YoldValue, YoldBuffer) (nI w)) (HD : ∀ Q : SY → Prop, Q (yenvs2, yclosures2, ywork2, ybuffer2, ysteps2, ymode2, yat2, yenv2, ykind2, yvalue2, ycode2, ytag2, yresultKind2, yresultValue2, Ykinds2, Ynumbers2, Yends2, Ylengths2, Yparameters2, Yspecial2, YplaceKind2, YplaceValue2, Ythere2, YsymbolOf2, YplaceOf2, YnextOf2, YclosureSymbol2, YclosureBody2, YclosureEnv2, YworkToken2, YworkPhase2, YworkEnv2, YkeptKind2, YkeptValue2, YboundPlace2, YoldKind2, YoldValue2, YoldBuffer2) → wpY_done Q (yenvs1, yclosures1, ywork1, YoldBuffer1 w, ysteps1, ymode1, yat1, yenv1, ykind1, yvalue1, ycode1, ytag1, yresultKind1, yresultValue1, Ykinds1, Ynumbers1, Yends1, Ylengths1, Yparameters1, Yspecial1, YplaceKind1, YplaceValue1, Ythere1, YsymbolOf1, YplaceOf1, YnextOf1, YclosureSymbol1, YclosureBody1, YclosureEnv1, YworkToken1, YworkPhase1, YworkEnv1, YkeptKind1, YkeptValue1, YboundPlace1, YoldKind1, YoldValue1, YoldBuffer1) (nI w) k (Ynumbers t) (nI 0)) : zy_G (yenvs, yclosures, nI (w + 1), ybuffer, ysteps, ymode, yat, yenv, ykind, yvalue, ycode, ytag, yresultKind, yresultValue, Ykinds, Ynumbers, Yends, Ylengths, Yparameters, Yspecial, YplaceKind, YplaceValue, Ythere, YsymbolOf, YplaceOf, YnextOf, YclosureSymbol, YclosureBody, YclosureEnv, YworkToken, YworkPhase, YworkEnv, YkeptKind, YkeptValue, YboundPlace, YoldKind, YoldValue, YoldBuffer) (yenvs2, yclosures2, ywork2, ybuffer2, ysteps2, ymode2, yat2, yenv2, ykind2, yvalue2, ycode2, ytag2, yresultKind2, yresultValue2, Ykinds2, Ynumbers2, Yends2, Ylengths2, Yparameters2, Yspecial2, YplaceKind2, YplaceValue2, Ythere2, YsymbolOf2, YplaceOf2, YnextOf2, YclosureSymbol2, YclosureBody2, YclosureEnv2, YworkToken2, YworkPhase2, YworkEnv2, YkeptKind2, YkeptValue2, YboundPlace2, YoldKind2, YoldValue2, YoldBuffer2) := by
  intro P HP
  have H : wY_give_308 P (nI w) k (Ynumbers t) (nI 0) yenvs yclosures (nI (w + 1)) ybuffer ysteps ymode yat yenv ykind yvalue ycode ytag yresultKind yresultValue Ykinds Ynumbers Yends Ylengths Yparameters Yspecial YplaceKind YplaceValue Ythere YsymbolOf YplaceOf YnextOf YclosureSymbol YclosureBody YclosureEnv YworkToken (upd YworkPhase w (nI 1)) YworkEnv YkeptKind YkeptValue YboundPlace YoldKind YoldValue YoldBuffer := zy_g308 hw HG HD HP
  refine zy_gd0 hw ht hT hk hP ?_ (br_t rfl (br_f (by decide) (br_t rfl (br_f ?_ (br_f (by decide) (br_f ?_ (br_f (by decide) (br_f ?_ (br_f (by decide) (br_f ?_ (br_f (by decide) (br_f ?_ (br_f (by decide) H)))))))))))))
  all_goals (rcases h2 with e | e | e | e | e | e <;> subst e <;> decide)
theorem zy_done_b {w t : Nat} {k : Int32} (hw : w < 320) (ht : t < 240) (hT : YworkToken w = nI t) (hk : Ykinds t = k) (hP : YworkPhase w = nI 1) (h2 : k = 9 ∨ k = 10 ∨ k = 11) (HG : ∀ Q : SY → Prop, Q (yenvs1, yclosures1, ywork1, ybuffer1, ysteps1, ymode1, yat1, yenv1, ykind1, yvalue1, ycode1, ytag1, yresultKind1, yresultValue1, Ykinds1, Ynumbers1, Yends1, Ylengths1, Yparameters1, Yspecial1, YplaceKind1, YplaceValue1, Ythere1, YsymbolOf1, YplaceOf1, YnextOf1, YclosureSymbol1, YclosureBody1, YclosureEnv1, YworkToken1, YworkPhase1, YworkEnv1, YkeptKind1, YkeptValue1, YboundPlace1, YoldKind1, YoldValue1, YoldBuffer1) → wpY_giveBack Q (yenvs, yclosures, nI w, ybuffer, ysteps, ymode, yat, yenv, ykind, yvalue, ycode, ytag, yresultKind, yresultValue, Ykinds, Ynumbers, Yends, Ylengths, Yparameters, Yspecial, YplaceKind, YplaceValue, Ythere, YsymbolOf, YplaceOf, YnextOf, YclosureSymbol, YclosureBody, YclosureEnv, YworkToken, upd YworkPhase w (nI (2)), YworkEnv, YkeptKind, YkeptValue, YboundPlace, YoldKind, YoldValue, YoldBuffer) (nI w)) (HD : ∀ Q : SY → Prop, Q (yenvs2, yclosures2, ywork2, ybuffer2, ysteps2, ymode2, yat2, yenv2, ykind2, yvalue2, ycode2, ytag2, yresultKind2, yresultValue2, Ykinds2, Ynumbers2, Yends2, Ylengths2, Yparameters2, Yspecial2, YplaceKind2, YplaceValue2, Ythere2, YsymbolOf2, YplaceOf2, YnextOf2, YclosureSymbol2, YclosureBody2, YclosureEnv2, YworkToken2, YworkPhase2, YworkEnv2, YkeptKind2, YkeptValue2, YboundPlace2, YoldKind2, YoldValue2, YoldBuffer2) → wpY_done Q (yenvs1, yclosures1, ywork1, YoldBuffer1 w, ysteps1, ymode1, yat1, yenv1, ykind1, yvalue1, ycode1, ytag1, yresultKind1, yresultValue1, Ykinds1, Ynumbers1, Yends1, Ylengths1, Yparameters1, Yspecial1, YplaceKind1, YplaceValue1, Ythere1, YsymbolOf1, YplaceOf1, YnextOf1, YclosureSymbol1, YclosureBody1, YclosureEnv1, YworkToken1, YworkPhase1, YworkEnv1, YkeptKind1, YkeptValue1, YboundPlace1, YoldKind1, YoldValue1, YoldBuffer1) (nI w) k (Ynumbers t) (nI 1)) : zy_G (yenvs, yclosures, nI (w + 1), ybuffer, ysteps, ymode, yat, yenv, ykind, yvalue, ycode, ytag, yresultKind, yresultValue, Ykinds, Ynumbers, Yends, Ylengths, Yparameters, Yspecial, YplaceKind, YplaceValue, Ythere, YsymbolOf, YplaceOf, YnextOf, YclosureSymbol, YclosureBody, YclosureEnv, YworkToken, YworkPhase, YworkEnv, YkeptKind, YkeptValue, YboundPlace, YoldKind, YoldValue, YoldBuffer) (yenvs2, yclosures2, ywork2, ybuffer2, ysteps2, ymode2, yat2, yenv2, ykind2, yvalue2, ycode2, ytag2, yresultKind2, yresultValue2, Ykinds2, Ynumbers2, Yends2, Ylengths2, Yparameters2, Yspecial2, YplaceKind2, YplaceValue2, Ythere2, YsymbolOf2, YplaceOf2, YnextOf2, YclosureSymbol2, YclosureBody2, YclosureEnv2, YworkToken2, YworkPhase2, YworkEnv2, YkeptKind2, YkeptValue2, YboundPlace2, YoldKind2, YoldValue2, YoldBuffer2) := by
  intro P HP
  have H : wY_give_308 P (nI w) k (Ynumbers t) (nI 1) yenvs yclosures (nI (w + 1)) ybuffer ysteps ymode yat yenv ykind yvalue ycode ytag yresultKind yresultValue Ykinds Ynumbers Yends Ylengths Yparameters Yspecial YplaceKind YplaceValue Ythere YsymbolOf YplaceOf YnextOf YclosureSymbol YclosureBody YclosureEnv YworkToken (upd YworkPhase w (nI 2)) YworkEnv YkeptKind YkeptValue YboundPlace YoldKind YoldValue YoldBuffer := zy_g308 hw HG HD HP
  refine zy_gd1 hw ht hT hk hP (Or.inr h2) (br_f (by decide) (br_t rfl (br_t rfl (br_t rfl (br_t rfl (br_t rfl (br_t rfl (br_f ?_ H))))))))
  rcases h2 with e | e | e <;> subst e <;> decide
theorem zy_done_c {w t ph : Nat} {k : Int32} (hw : w < 320) (ht : t < 240) (hT : YworkToken w = nI t) (hk : Ykinds t = k) (hP : YworkPhase w = nI ph) (h2 : (ph = 1 ∧ (k = 3 ∨ k = 6 ∨ k = 15)) ∨ (ph = 2 ∧ (k = 5 ∨ k = 15))) (HG : ∀ Q : SY → Prop, Q (yenvs1, yclosures1, ywork1, ybuffer1, ysteps1, ymode1, yat1, yenv1, ykind1, yvalue1, ycode1, ytag1, yresultKind1, yresultValue1, Ykinds1, Ynumbers1, Yends1, Ylengths1, Yparameters1, Yspecial1, YplaceKind1, YplaceValue1, Ythere1, YsymbolOf1, YplaceOf1, YnextOf1, YclosureSymbol1, YclosureBody1, YclosureEnv1, YworkToken1, YworkPhase1, YworkEnv1, YkeptKind1, YkeptValue1, YboundPlace1, YoldKind1, YoldValue1, YoldBuffer1) → wpY_giveBack Q (yenvs, yclosures, nI w, ybuffer, ysteps, ymode, yat, yenv, ykind, yvalue, ycode, ytag, yresultKind, yresultValue, Ykinds, Ynumbers, Yends, Ylengths, Yparameters, Yspecial, YplaceKind, YplaceValue, Ythere, YsymbolOf, YplaceOf, YnextOf, YclosureSymbol, YclosureBody, YclosureEnv, YworkToken, upd YworkPhase w (nI (ph + 1)), YworkEnv, YkeptKind, YkeptValue, YboundPlace, YoldKind, YoldValue, YoldBuffer) (nI w)) (HD : ∀ Q : SY → Prop, Q (yenvs2, yclosures2, ywork2, ybuffer2, ysteps2, ymode2, yat2, yenv2, ykind2, yvalue2, ycode2, ytag2, yresultKind2, yresultValue2, Ykinds2, Ynumbers2, Yends2, Ylengths2, Yparameters2, Yspecial2, YplaceKind2, YplaceValue2, Ythere2, YsymbolOf2, YplaceOf2, YnextOf2, YclosureSymbol2, YclosureBody2, YclosureEnv2, YworkToken2, YworkPhase2, YworkEnv2, YkeptKind2, YkeptValue2, YboundPlace2, YoldKind2, YoldValue2, YoldBuffer2) → wpY_done Q (yenvs1, yclosures1, ywork1, YoldBuffer1 w, ysteps1, ymode1, yat1, yenv1, ykind1, yvalue1, ycode1, ytag1, yresultKind1, yresultValue1, Ykinds1, Ynumbers1, Yends1, Ylengths1, Yparameters1, Yspecial1, YplaceKind1, YplaceValue1, Ythere1, YsymbolOf1, YplaceOf1, YnextOf1, YclosureSymbol1, YclosureBody1, YclosureEnv1, YworkToken1, YworkPhase1, YworkEnv1, YkeptKind1, YkeptValue1, YboundPlace1, YoldKind1, YoldValue1, YoldBuffer1) (nI w) k (Ynumbers t) (nI ph)) : zy_G (yenvs, yclosures, nI (w + 1), ybuffer, ysteps, ymode, yat, yenv, ykind, yvalue, ycode, ytag, yresultKind, yresultValue, Ykinds, Ynumbers, Yends, Ylengths, Yparameters, Yspecial, YplaceKind, YplaceValue, Ythere, YsymbolOf, YplaceOf, YnextOf, YclosureSymbol, YclosureBody, YclosureEnv, YworkToken, YworkPhase, YworkEnv, YkeptKind, YkeptValue, YboundPlace, YoldKind, YoldValue, YoldBuffer) (yenvs2, yclosures2, ywork2, ybuffer2, ysteps2, ymode2, yat2, yenv2, ykind2, yvalue2, ycode2, ytag2, yresultKind2, yresultValue2, Ykinds2, Ynumbers2, Yends2, Ylengths2, Yparameters2, Yspecial2, YplaceKind2, YplaceValue2, Ythere2, YsymbolOf2, YplaceOf2, YnextOf2, YclosureSymbol2, YclosureBody2, YclosureEnv2, YworkToken2, YworkPhase2, YworkEnv2, YkeptKind2, YkeptValue2, YboundPlace2, YoldKind2, YoldValue2, YoldBuffer2) := by
  intro P HP
  have H : wY_give_308 P (nI w) k (Ynumbers t) (nI ph) yenvs yclosures (nI (w + 1)) ybuffer ysteps ymode yat yenv ykind yvalue ycode ytag yresultKind yresultValue Ykinds Ynumbers Yends Ylengths Yparameters Yspecial YplaceKind YplaceValue Ythere YsymbolOf YplaceOf YnextOf YclosureSymbol YclosureBody YclosureEnv YworkToken (upd YworkPhase w (nI (ph + 1))) YworkEnv YkeptKind YkeptValue YboundPlace YoldKind YoldValue YoldBuffer := zy_g308 hw HG HD HP
  rcases h2 with ⟨e, h | h | h⟩ | ⟨e, h | h⟩ <;> subst e <;> subst h
  · exact zy_gd0 hw ht hT hk hP (by decide) (br_f (by decide) (br_t rfl (br_t rfl (br_t rfl (br_t rfl (br_t rfl (br_t rfl (br_f (by decide) H))))))))
  · exact zy_gd0 hw ht hT hk hP (by decide) (br_f (by decide) (br_t rfl (br_t rfl (br_t rfl (br_t rfl (br_t rfl (br_t rfl (br_f (by decide) H))))))))
  · exact zy_gd0 hw ht hT hk hP (by decide) (br_f (by decide) (br_t rfl (br_t rfl (br_t rfl (br_t rfl (br_t rfl (br_t rfl (br_f (by decide) H))))))))
  · exact zy_gd1 hw ht hT hk hP (by decide) (br_f (by decide) (br_t rfl (br_t rfl (br_t rfl (br_t rfl (br_t rfl (br_f (by decide) H)))))))
  · exact zy_gd0 hw ht hT hk hP (by decide) (br_f (by decide) (br_t rfl (br_t rfl (br_t rfl (br_t rfl (br_t rfl (br_f (by decide) H)))))))
/-! what is done -/
theorem zy_d0 {w : Nat} {k n ph : Int32} (h2 : k = 3 ∨ k = 5 ∨ k = 6 ∨ k = 12 ∨ k = 14 ∨ k = 16) (H : P (yenvs, yclosures, ywork, ybuffer, ysteps, ymode, yat, yenv, ykind, yvalue, ycode, ytag, yresultKind, yresultValue, Ykinds, Ynumbers, Yends, Ylengths, Yparameters, Yspecial, YplaceKind, YplaceValue, Ythere, YsymbolOf, YplaceOf, YnextOf, YclosureSymbol, YclosureBody, YclosureEnv, YworkToken, YworkPhase, YworkEnv, YkeptKind, YkeptValue, YboundPlace, YoldKind, YoldValue, YoldBuffer)) : wpY_done P (yenvs, yclosures, ywork, ybuffer, ysteps, ymode, yat, yenv, ykind, yvalue, ycode, ytag, yresultKind, yresultValue, Ykinds, Ynumbers, Yends, Ylengths, Yparameters, Yspecial, YplaceKind, YplaceValue, Ythere, YsymbolOf, YplaceOf, YnextOf, YclosureSymbol, YclosureBody, YclosureEnv, YworkToken, YworkPhase, YworkEnv, YkeptKind, YkeptValue, YboundPlace, YoldKind, YoldValue, YoldBuffer) (nI w) k n ph := by
  have h168 : wY_done_168 P (nI w) k n ph yenvs yclosures ywork ybuffer ysteps ymode yat yenv ykind yvalue ycode ytag yresultKind yresultValue Ykinds Ynumbers Yends Ylengths Yparameters Yspecial YplaceKind YplaceValue Ythere YsymbolOf YplaceOf YnextOf YclosureSymbol YclosureBody YclosureEnv YworkToken YworkPhase YworkEnv YkeptKind YkeptValue YboundPlace YoldKind YoldValue YoldBuffer := by
    refine br_f ?_ (br_f ?_ (br_f ?_ H))
    all_goals (rcases h2 with e | e | e | e | e | e <;> subst e <;> decide)
  rcases h2 with e | e | e | e | e | e <;> subst e
  · exact br_f (by decide) (br_f (by decide) (br_t (by decide) h168))
  · exact br_f (by decide) (br_f (by decide) (br_t (by decide) h168))
  · exact br_f (by decide) (br_f (by decide) (br_t (by decide) h168))
  · exact br_f (by decide) (br_f (by decide) (br_f (by decide) (br_t (by decide) h168)))
  · exact br_f (by decide) (br_f (by decide) (br_f (by decide) (br_t (by decide) h168)))
  · exact br_f (by decide) (br_f (by decide) (br_f (by decide) (br_t (by decide) h168)))
theorem zy_dset {w q : Nat} {n ph : Int32} (hw : w < 320) (hq : q < 340) (hp : ∀ Q : Int32 → Prop, Q (nI q) → wpY_placeFor Q (yenvs, yclosures, ywork, ybuffer, ysteps, ymode, yat, yenv, ykind, yvalue, ycode, ytag, yresultKind, yresultValue, Ykinds, Ynumbers, Yends, Ylengths, Yparameters, Yspecial, YplaceKind, YplaceValue, Ythere, YsymbolOf, YplaceOf, YnextOf, YclosureSymbol, YclosureBody, YclosureEnv, YworkToken, YworkPhase, YworkEnv, YkeptKind, YkeptValue, YboundPlace, YoldKind, YoldValue, YoldBuffer) n (YworkEnv w)) (H : P (yenvs, yclosures, ywork, ybuffer, ysteps, ymode, yat, yenv, ykind, yvalue, ycode, ytag, yresultKind, yresultValue, Ykinds, Ynumbers, Yends, Ylengths, Yparameters, Yspecial, upd YplaceKind q ykind, upd YplaceValue q yvalue, Ythere, YsymbolOf, YplaceOf, YnextOf, YclosureSymbol, YclosureBody, YclosureEnv, YworkToken, YworkPhase, YworkEnv, YkeptKind, YkeptValue, YboundPlace, YoldKind, YoldValue, YoldBuffer)) : wpY_done P (yenvs, yclosures, ywork, ybuffer, ysteps, ymode, yat, yenv, ykind, yvalue, ycode, ytag, yresultKind, yresultValue, Ykinds, Ynumbers, Yends, Ylengths, Yparameters, Yspecial, YplaceKind, YplaceValue, Ythere, YsymbolOf, YplaceOf, YnextOf, YclosureSymbol, YclosureBody, YclosureEnv, YworkToken, YworkPhase, YworkEnv, YkeptKind, YkeptValue, YboundPlace, YoldKind, YoldValue, YoldBuffer) (nI w) 2 n ph := by
  refine br_t rfl (And.intro (vp_in_nI hw (by omega)) ?_)
  rw [nI_clamp (by omega)]
  exact hp _ (zy_put hq H)
theorem zy_dlocal {w b s : Nat} {ph : Int32} (hb : b < 3) (hs : s < 8) (H : P (yenvs, yclosures, ywork, nI b, ysteps, ymode, yat, yenv, ykind, yvalue, ycode, ytag, yresultKind, yresultValue, Ykinds, Ynumbers, Yends, Ylengths, Yparameters, Yspecial, upd YplaceKind (8 + 8 * b + s) ykind, upd YplaceValue (8 + 8 * b + s) yvalue, upd Ythere (8 + 8 * b + s) 1, YsymbolOf, YplaceOf, YnextOf, YclosureSymbol, YclosureBody, YclosureEnv, YworkToken, YworkPhase, YworkEnv, YkeptKind, YkeptValue, YboundPlace, YoldKind, YoldValue, YoldBuffer)) : wpY_done P (yenvs, yclosures, ywork, nI b, ysteps, ymode, yat, yenv, ykind, yvalue, ycode, ytag, yresultKind, yresultValue, Ykinds, Ynumbers, Yends, Ylengths, Yparameters, Yspecial, YplaceKind, YplaceValue, Ythere, YsymbolOf, YplaceOf, YnextOf, YclosureSymbol, YclosureBody, YclosureEnv, YworkToken, YworkPhase, YworkEnv, YkeptKind, YkeptValue, YboundPlace, YoldKind, YoldValue, YoldBuffer) (nI w) 17 (nI s) ph := by
  have e8 : ((8 : Int32) + 8 * nI b) + nI s = nI (8 + 8 * b + s) := by rw [show (8 : Int32) = nI 8 from rfl, pk_mul, nI_add, nI_add]
  refine br_f (by decide) (br_t rfl (And.intro (by rw [e8]; exact vp_in_nI (by omega) (by omega)) (nm_r (e' := upd Ythere (8 + 8 * b + s) 1) ?_ ?_)))
  · rw [e8, nI_clamp (by omega)]; rfl
  · rw [e8]; exact zy_put (by omega) H
theorem zy_dadd {w : Nat} {n ph x : Int32} (hw : w < 320) (hkk : YkeptKind w = 0) (hkv : YkeptValue w = x) (hkd : ykind = 0) (H : P (yenvs, yclosures, ywork, ybuffer, ysteps, 0, yat, yenv, 0, x + yvalue, ycode, ytag, yresultKind, yresultValue, Ykinds, Ynumbers, Yends, Ylengths, Yparameters, Yspecial, YplaceKind, YplaceValue, Ythere, YsymbolOf, YplaceOf, YnextOf, YclosureSymbol, YclosureBody, YclosureEnv, YworkToken, YworkPhase, YworkEnv, YkeptKind, YkeptValue, YboundPlace, YoldKind, YoldValue, YoldBuffer)) : wpY_done P (yenvs, yclosures, ywork, ybuffer, ysteps, ymode, yat, yenv, ykind, yvalue, ycode, ytag, yresultKind, yresultValue, Ykinds, Ynumbers, Yends, Ylengths, Yparameters, Yspecial, YplaceKind, YplaceValue, Ythere, YsymbolOf, YplaceOf, YnextOf, YclosureSymbol, YclosureBody, YclosureEnv, YworkToken, YworkPhase, YworkEnv, YkeptKind, YkeptValue, YboundPlace, YoldKind, YoldValue, YoldBuffer) (nI w) 9 n ph := by
  have iw : vp_in (nI w) 320 := vp_in_nI hw (by omega)
  have ew : (nI w).toNatClampNeg = w := nI_clamp (by omega)
  refine br_f (by decide) (br_f (by decide) (br_f (by decide) (br_f (by decide) (And.intro iw (nm_r (e' := x) (by rw [ew, hkv]) (And.intro iw (br_t (by rw [ew, hkk]) (br_t hkd ?_))))))))
  exact br_t rfl H
theorem zy_dsub {w : Nat} {n ph x : Int32} (hw : w < 320) (hkk : YkeptKind w = 0) (hkv : YkeptValue w = x) (hkd : ykind = 0) (H : P (yenvs, yclosures, ywork, ybuffer, ysteps, 0, yat, yenv, 0, x - yvalue, ycode, ytag, yresultKind, yresultValue, Ykinds, Ynumbers, Yends, Ylengths, Yparameters, Yspecial, YplaceKind, YplaceValue, Ythere, YsymbolOf, YplaceOf, YnextOf, YclosureSymbol, YclosureBody, YclosureEnv, YworkToken, YworkPhase, YworkEnv, YkeptKind, YkeptValue, YboundPlace, YoldKind, YoldValue, YoldBuffer)) : wpY_done P (yenvs, yclosures, ywork, ybuffer, ysteps, ymode, yat, yenv, ykind, yvalue, ycode, ytag, yresultKind, yresultValue, Ykinds, Ynumbers, Yends, Ylengths, Yparameters, Yspecial, YplaceKind, YplaceValue, Ythere, YsymbolOf, YplaceOf, YnextOf, YclosureSymbol, YclosureBody, YclosureEnv, YworkToken, YworkPhase, YworkEnv, YkeptKind, YkeptValue, YboundPlace, YoldKind, YoldValue, YoldBuffer) (nI w) 10 n ph := by
  have iw : vp_in (nI w) 320 := vp_in_nI hw (by omega)
  have ew : (nI w).toNatClampNeg = w := nI_clamp (by omega)
  refine br_f (by decide) (br_f (by decide) (br_f (by decide) (br_f (by decide) (And.intro iw (nm_r (e' := x) (by rw [ew, hkv]) (And.intro iw (br_t (by rw [ew, hkk]) (br_t hkd ?_))))))))
  exact br_f (by decide) (br_f (by decide) H)
theorem zy_dless {w : Nat} {n ph x : Int32} (hw : w < 320) (hkk : YkeptKind w = 0) (hkv : YkeptValue w = x) (hkd : ykind = 0) (H : P (yenvs, yclosures, ywork, ybuffer, ysteps, 0, yat, yenv, 0, if yvalue ≤ x then 0 else 1, ycode, ytag, yresultKind, yresultValue, Ykinds, Ynumbers, Yends, Ylengths, Yparameters, Yspecial, YplaceKind, YplaceValue, Ythere, YsymbolOf, YplaceOf, YnextOf, YclosureSymbol, YclosureBody, YclosureEnv, YworkToken, YworkPhase, YworkEnv, YkeptKind, YkeptValue, YboundPlace, YoldKind, YoldValue, YoldBuffer)) : wpY_done P (yenvs, yclosures, ywork, ybuffer, ysteps, ymode, yat, yenv, ykind, yvalue, ycode, ytag, yresultKind, yresultValue, Ykinds, Ynumbers, Yends, Ylengths, Yparameters, Yspecial, YplaceKind, YplaceValue, Ythere, YsymbolOf, YplaceOf, YnextOf, YclosureSymbol, YclosureBody, YclosureEnv, YworkToken, YworkPhase, YworkEnv, YkeptKind, YkeptValue, YboundPlace, YoldKind, YoldValue, YoldBuffer) (nI w) 11 n ph := by
  have iw : vp_in (nI w) 320 := vp_in_nI hw (by omega)
  have ew : (nI w).toNatClampNeg = w := nI_clamp (by omega)
  refine br_f (by decide) (br_f (by decide) (br_f (by decide) (br_f (by decide) (And.intro iw (nm_r (e' := x) (by rw [ew, hkv]) (And.intro iw (br_t (by rw [ew, hkk]) (br_t hkd ?_))))))))
  refine br_f (by decide) (br_t rfl (br_c (fun z => ?_) (fun z => ?_)))
  · rw [if_pos z] at H; exact H
  · rw [if_neg z] at H; exact H
theorem zy_darE {w : Nat} {k n ph : Int32} (hw : w < 320) (h2 : k = 9 ∨ k = 10 ∨ k = 11) (hx : ¬ YkeptKind w = 0 ∨ (YkeptKind w = 0 ∧ ¬ ykind = 0)) (H : P (yenvs, yclosures, ywork, ybuffer, ysteps, 2, yat, yenv, ykind, yvalue, 2, -1, yresultKind, yresultValue, Ykinds, Ynumbers, Yends, Ylengths, Yparameters, Yspecial, YplaceKind, YplaceValue, Ythere, YsymbolOf, YplaceOf, YnextOf, YclosureSymbol, YclosureBody, YclosureEnv, YworkToken, YworkPhase, YworkEnv, YkeptKind, YkeptValue, YboundPlace, YoldKind, YoldValue, YoldBuffer)) : wpY_done P (yenvs, yclosures, ywork, ybuffer, ysteps, ymode, yat, yenv, ykind, yvalue, ycode, ytag, yresultKind, yresultValue, Ykinds, Ynumbers, Yends, Ylengths, Yparameters, Yspecial, YplaceKind, YplaceValue, Ythere, YsymbolOf, YplaceOf, YnextOf, YclosureSymbol, YclosureBody, YclosureEnv, YworkToken, YworkPhase, YworkEnv, YkeptKind, YkeptValue, YboundPlace, YoldKind, YoldValue, YoldBuffer) (nI w) k n ph := by
  have iw : vp_in (nI w) 320 := vp_in_nI hw (by omega)
  have ew : (nI w).toNatClampNeg = w := nI_clamp (by omega)
  have H112 : wY_done_112 P yenvs yclosures ywork ybuffer ysteps ymode yat yenv ykind yvalue ycode ytag yresultKind yresultValue Ykinds Ynumbers Yends Ylengths Yparameters Yspecial YplaceKind YplaceValue Ythere YsymbolOf YplaceOf YnextOf YclosureSymbol YclosureBody YclosureEnv YworkToken YworkPhase YworkEnv YkeptKind YkeptValue YboundPlace YoldKind YoldValue YoldBuffer := H
  have H2 : (YkeptKind (nI w).toNatClampNeg = 0 → (ykind = 0 → False)) := by
    rw [ew]
    rcases hx with h | ⟨h, h'⟩
    · exact fun z => absurd z h
    · exact fun _ => h'
  refine br_f ?_ (br_f ?_ (br_f ?_ (br_f ?_ (And.intro iw (nm_e (And.intro iw (br_c (fun z => br_f (fun y => H2 z y) H112) (fun _ => H112))))))))
  all_goals (rcases h2 with e | e | e <;> subst e <;> decide)
theorem zy_dp1 {w : Nat} {n : Int32} (hw : w < 320) (H : P (yenvs, yclosures, ywork, ybuffer, ysteps, 0, yat, yenv, YkeptKind w, YkeptValue w, ycode, ytag, yresultKind, yresultValue, Ykinds, Ynumbers, Yends, Ylengths, Yparameters, Yspecial, YplaceKind, YplaceValue, Ythere, YsymbolOf, YplaceOf, YnextOf, YclosureSymbol, YclosureBody, YclosureEnv, YworkToken, YworkPhase, YworkEnv, YkeptKind, YkeptValue, YboundPlace, YoldKind, YoldValue, YoldBuffer)) : wpY_done P (yenvs, yclosures, ywork, ybuffer, ysteps, ymode, yat, yenv, ykind, yvalue, ycode, ytag, yresultKind, yresultValue, Ykinds, Ynumbers, Yends, Ylengths, Yparameters, Yspecial, YplaceKind, YplaceValue, Ythere, YsymbolOf, YplaceOf, YnextOf, YclosureSymbol, YclosureBody, YclosureEnv, YworkToken, YworkPhase, YworkEnv, YkeptKind, YkeptValue, YboundPlace, YoldKind, YoldValue, YoldBuffer) (nI w) 15 n (nI 1) := by
  have iw : vp_in (nI w) 320 := vp_in_nI hw (by omega)
  have ew : (nI w).toNatClampNeg = w := nI_clamp (by omega)
  refine br_f (by decide) (br_f (by decide) (br_f (by decide) (br_t (by decide) (br_f (by decide) (br_t rfl (br_t rfl (And.intro iw (And.intro iw ?_))))))))
  rw [ew]
  exact H
theorem zy_dp2 {w : Nat} {n : Int32} (hw : w < 320) (H : P (yenvs, yclosures, ywork, ybuffer, ysteps, 2, yat, yenv, YkeptKind w, YkeptValue w, YoldValue w, YoldKind w, yresultKind, yresultValue, Ykinds, Ynumbers, Yends, Ylengths, Yparameters, Yspecial, YplaceKind, YplaceValue, Ythere, YsymbolOf, YplaceOf, YnextOf, YclosureSymbol, YclosureBody, YclosureEnv, YworkToken, YworkPhase, YworkEnv, YkeptKind, YkeptValue, YboundPlace, YoldKind, YoldValue, YoldBuffer)) : wpY_done P (yenvs, yclosures, ywork, ybuffer, ysteps, ymode, yat, yenv, ykind, yvalue, ycode, ytag, yresultKind, yresultValue, Ykinds, Ynumbers, Yends, Ylengths, Yparameters, Yspecial, YplaceKind, YplaceValue, Ythere, YsymbolOf, YplaceOf, YnextOf, YclosureSymbol, YclosureBody, YclosureEnv, YworkToken, YworkPhase, YworkEnv, YkeptKind, YkeptValue, YboundPlace, YoldKind, YoldValue, YoldBuffer) (nI w) 15 n (nI 2) := by
  have iw : vp_in (nI w) 320 := vp_in_nI hw (by omega)
  have ew : (nI w).toNatClampNeg = w := nI_clamp (by omega)
  refine br_f (by decide) (br_f (by decide) (br_f (by decide) (br_t (by decide) (br_f (by decide) (br_t rfl (br_f (by decide) ?_))))))
  exact br_t rfl (And.intro iw (nm_r (e' := YoldKind w) (by rw [ew]) (And.intro iw (nm_r (e' := YoldValue w) (by rw [ew]) (And.intro iw (nm_r (e' := YkeptKind w) (by rw [ew]) (And.intro iw (nm_r (e' := YkeptValue w) (by rw [ew]) H))))))))
/-! hurl -/
theorem zy_hurlL {w s : Nat} (hw : w < 320) (hT : ∀ i, i < w → vp_in (YworkToken i) 240) (HY : zy_MT YworkToken Ykinds Ynumbers s w → P (yenvs, yclosures, nI w, ybuffer, ysteps, 2, yat, yenv, ykind, yvalue, 0, nI s, yresultKind, yresultValue, Ykinds, Ynumbers, Yends, Ylengths, Yparameters, Yspecial, YplaceKind, YplaceValue, Ythere, YsymbolOf, YplaceOf, YnextOf, YclosureSymbol, YclosureBody, YclosureEnv, YworkToken, YworkPhase, YworkEnv, YkeptKind, YkeptValue, YboundPlace, YoldKind, YoldValue, YoldBuffer)) (HN : ¬ zy_MT YworkToken Ykinds Ynumbers s w → P (yenvs, yclosures, nI w, ybuffer, ysteps, 2, yat, yenv, ykind, yvalue, 3, -1, yresultKind, yresultValue, Ykinds, Ynumbers, Yends, Ylengths, Yparameters, Yspecial, YplaceKind, YplaceValue, Ythere, YsymbolOf, YplaceOf, YnextOf, YclosureSymbol, YclosureBody, YclosureEnv, YworkToken, YworkPhase, YworkEnv, YkeptKind, YkeptValue, YboundPlace, YoldKind, YoldValue, YoldBuffer)) : ∀ (d i : Nat) (f : Int32), i + d = w → ((f = 1 ∧ zy_MT YworkToken Ykinds Ynumbers s w) ∨ (f = 0 ∧ ¬ zy_MT YworkToken Ykinds Ynumbers s i)) → wY_hurl_4 P (nI s) yenvs yclosures (nI w) ybuffer ysteps ymode yat yenv ykind yvalue ycode ytag yresultKind yresultValue Ykinds Ynumbers Yends Ylengths Yparameters Yspecial YplaceKind YplaceValue Ythere YsymbolOf YplaceOf YnextOf YclosureSymbol YclosureBody YclosureEnv YworkToken YworkPhase YworkEnv YkeptKind YkeptValue YboundPlace YoldKind YoldValue YoldBuffer (d + 1) f (nI i) := by
  intro d
  induction d with
  | zero =>
    intro i f hi hf
    have e : i = w := by omega
    subst e
    refine br_t (Int32.le_refl _) ?_
    rcases hf with ⟨e, h⟩ | ⟨e, h⟩
    · subst e; exact br_f (by decide) (HY h)
    · subst e; exact br_t rfl (HN h)
  | succ d ih =>
    intro i f hi hf
    have ii : vp_in (nI i) 320 := vp_in_nI (by omega) (by omega)
    have ei : (nI i).toNatClampNeg = i := nI_clamp (by omega)
    have it : vp_in (YworkToken (nI i).toNatClampNeg) 240 := by rw [ei]; exact hT i (by omega)
    have f0 : f ||| 0 = f := by rcases hf with ⟨e, _⟩ | ⟨e, _⟩ <;> subst e <;> decide
    have f1 : f ||| 1 = 1 := by rcases hf with ⟨e, _⟩ | ⟨e, _⟩ <;> subst e <;> decide
    have no : ¬ (Ykinds (YworkToken i).toNatClampNeg = 12 ∧ Ynumbers (YworkToken i).toNatClampNeg = nI s) → wY_hurl_4 P (nI s) yenvs yclosures (nI w) ybuffer ysteps ymode yat yenv ykind yvalue ycode ytag yresultKind yresultValue Ykinds Ynumbers Yends Ylengths Yparameters Yspecial YplaceKind YplaceValue Ythere YsymbolOf YplaceOf YnextOf YclosureSymbol YclosureBody YclosureEnv YworkToken YworkPhase YworkEnv YkeptKind YkeptValue YboundPlace YoldKind YoldValue YoldBuffer (d + 1) f (nI (i + 1)) := by
      intro hno
      refine ih (i + 1) f (by omega) ?_
      rcases hf with h | ⟨e, h⟩
      · exact Or.inl h
      · exact Or.inr ⟨e, fun ⟨j, hj, h1⟩ => (Nat.lt_or_ge j i).elim (fun z => h ⟨j, z, h1⟩) (fun z => by
          have e : j = i := by omega
          subst e
          exact hno h1)⟩
    refine br_f (nI_ge (by omega) (by omega)) (And.intro ii (And.intro it (br_c (fun z => And.intro ii (And.intro it (br_c (fun z2 => ?_) (fun z2 => ?_)))) (fun z => ?_))))
    · rw [ei] at z z2
      exact nm_r f1 (nm_r (nI_1 i) (ih (i + 1) 1 (by omega) (Or.inl ⟨rfl, i, by omega, z, z2⟩)))
    · rw [ei] at z z2
      exact nm_r f0 (nm_r (nI_1 i) (no (fun h => z2 h.2)))
    · rw [ei] at z
      exact nm_r f0 (nm_r (nI_1 i) (no (fun h => z h.1)))
theorem zy_dhurl {w s : Nat} {p ph : Int32} (hw : w < 320) (hT : ∀ i, i < w → vp_in (YworkToken i) 240) (HY : zy_MT YworkToken Ykinds Ynumbers s w → P (yenvs, yclosures, nI w, ybuffer, ysteps, 2, yat, yenv, ykind, yvalue, 0, nI s, yresultKind, yresultValue, Ykinds, Ynumbers, Yends, Ylengths, Yparameters, Yspecial, YplaceKind, YplaceValue, Ythere, YsymbolOf, YplaceOf, YnextOf, YclosureSymbol, YclosureBody, YclosureEnv, YworkToken, YworkPhase, YworkEnv, YkeptKind, YkeptValue, YboundPlace, YoldKind, YoldValue, YoldBuffer)) (HN : ¬ zy_MT YworkToken Ykinds Ynumbers s w → P (yenvs, yclosures, nI w, ybuffer, ysteps, 2, yat, yenv, ykind, yvalue, 3, -1, yresultKind, yresultValue, Ykinds, Ynumbers, Yends, Ylengths, Yparameters, Yspecial, YplaceKind, YplaceValue, Ythere, YsymbolOf, YplaceOf, YnextOf, YclosureSymbol, YclosureBody, YclosureEnv, YworkToken, YworkPhase, YworkEnv, YkeptKind, YkeptValue, YboundPlace, YoldKind, YoldValue, YoldBuffer)) : wpY_done P (yenvs, yclosures, nI w, ybuffer, ysteps, ymode, yat, yenv, ykind, yvalue, ycode, ytag, yresultKind, yresultValue, Ykinds, Ynumbers, Yends, Ylengths, Yparameters, Yspecial, YplaceKind, YplaceValue, Ythere, YsymbolOf, YplaceOf, YnextOf, YclosureSymbol, YclosureBody, YclosureEnv, YworkToken, YworkPhase, YworkEnv, YkeptKind, YkeptValue, YboundPlace, YoldKind, YoldValue, YoldBuffer) p 13 (nI s) ph := by
  refine br_f (by decide) (br_f (by decide) (br_f (by decide) (br_t (by decide) (br_t rfl ⟨w + 1, ?_⟩))))
  exact zy_hurlL (P := P) hw hT HY HN w 0 0 (by omega) (Or.inr ⟨rfl, fun ⟨j, hj, _⟩ => by omega⟩)
/-! what is at work last ends -/
theorem zy_nP {w t q : Nat} {k : Int32} (hw : w < 320) (ht : t + 1 < 240) (hT : YworkToken w = nI t) (hk : Ykinds t = k) (h15 : k = 15) (hP : YworkPhase w = nI 0) (he : Yends (t + 1) = nI q) (hb : YboundPlace w = -1) : zy_N (yenvs, yclosures, nI (w + 1), ybuffer, ysteps, ymode, yat, yenv, ykind, yvalue, ycode, ytag, yresultKind, yresultValue, Ykinds, Ynumbers, Yends, Ylengths, Yparameters, Yspecial, YplaceKind, YplaceValue, Ythere, YsymbolOf, YplaceOf, YnextOf, YclosureSymbol, YclosureBody, YclosureEnv, YworkToken, YworkPhase, YworkEnv, YkeptKind, YkeptValue, YboundPlace, YoldKind, YoldValue, YoldBuffer) (yenvs, yclosures, nI (w + 1), YoldBuffer w, ysteps, 1, nI q, YworkEnv w, ykind, yvalue, ycode, ytag, yresultKind, yresultValue, Ykinds, Ynumbers, Yends, Ylengths, Yparameters, Yspecial, YplaceKind, YplaceValue, Ythere, YsymbolOf, YplaceOf, YnextOf, YclosureSymbol, YclosureBody, YclosureEnv, YworkToken, upd YworkPhase w 2, YworkEnv, upd YkeptKind w ykind, upd YkeptValue w yvalue, YboundPlace, upd YoldKind w ytag, upd YoldValue w ycode, YoldBuffer) := by
  intro P HP
  have iw : vp_in (nI w) 320 := vp_in_nI hw (by omega)
  have ew : (nI w).toNatClampNeg = w := nI_clamp (by omega)
  have it : vp_in (nI t) 240 := vp_in_nI (by omega) (by omega)
  have et : (nI t).toNatClampNeg = t := nI_clamp (by omega)
  refine nm_r (e' := nI w) (nI_pred w) (And.intro iw (nm_r (e' := nI t) (by rw [ew, hT]) (And.intro it (nm_r (e' := k) (by rw [et, hk]) (And.intro iw ?_)))))
  rw [ew, hP]
  refine br_t rfl ?_
  unfold wY_end_35
  refine zy_gb0 hw hb (And.intro iw (nm_r (e' := YoldBuffer w) (by rw [ew]) (br_f (by decide) (br_t h15 ?_))))
  refine And.intro iw (nm_r (e' := upd YworkPhase w 2) (by rw [ew]) (And.intro iw (nm_r (e' := upd YoldKind w ytag) (by rw [ew]) (And.intro iw (nm_r (e' := upd YoldValue w ycode) (by rw [ew]) (And.intro iw (nm_r (e' := upd YkeptKind w ykind) (by rw [ew]) (And.intro iw (nm_r (e' := upd YkeptValue w yvalue) (by rw [ew]) (zy_op1 ht he (And.intro iw ?_)))))))))))
  rw [ew]
  exact HP
theorem zy_nC {w t ph : Nat} {k : Int32} (hw : w < 320) (ht : t < 240) (hT : YworkToken w = nI t) (hk : Ykinds t = k) (h12 : k = 12) (hP : YworkPhase w = nI ph) (hb : YboundPlace w = -1) (hg : ytag = Ynumbers t) : zy_N (yenvs, yclosures, nI (w + 1), ybuffer, ysteps, ymode, yat, yenv, ykind, yvalue, ycode, ytag, yresultKind, yresultValue, Ykinds, Ynumbers, Yends, Ylengths, Yparameters, Yspecial, YplaceKind, YplaceValue, Ythere, YsymbolOf, YplaceOf, YnextOf, YclosureSymbol, YclosureBody, YclosureEnv, YworkToken, YworkPhase, YworkEnv, YkeptKind, YkeptValue, YboundPlace, YoldKind, YoldValue, YoldBuffer) (yenvs, yclosures, nI w, YoldBuffer w, ysteps, 0, yat, yenv, ykind, yvalue, ycode, ytag, yresultKind, yresultValue, Ykinds, Ynumbers, Yends, Ylengths, Yparameters, Yspecial, YplaceKind, YplaceValue, Ythere, YsymbolOf, YplaceOf, YnextOf, YclosureSymbol, YclosureBody, YclosureEnv, YworkToken, YworkPhase, YworkEnv, YkeptKind, YkeptValue, YboundPlace, YoldKind, YoldValue, YoldBuffer) := by
  intro P HP
  have iw : vp_in (nI w) 320 := vp_in_nI hw (by omega)
  have ew : (nI w).toNatClampNeg = w := nI_clamp (by omega)
  have it : vp_in (nI t) 240 := vp_in_nI (by omega) (by omega)
  have et : (nI t).toNatClampNeg = t := nI_clamp (by omega)
  refine nm_r (e' := nI w) (nI_pred w) (And.intro iw (nm_r (e' := nI t) (by rw [ew, hT]) (And.intro it (nm_r (e' := k) (by rw [et, hk]) (And.intro iw ?_)))))
  rw [ew, hP]
  have H127 : ∀ z, wY_end_127 P (nI w) (nI t) k z yenvs yclosures (nI (w + 1)) (YoldBuffer w) ysteps ymode yat yenv ykind yvalue ycode ytag yresultKind yresultValue Ykinds Ynumbers Yends Ylengths Yparameters Yspecial YplaceKind YplaceValue Ythere YsymbolOf YplaceOf YnextOf YclosureSymbol YclosureBody YclosureEnv YworkToken YworkPhase YworkEnv YkeptKind YkeptValue YboundPlace YoldKind YoldValue YoldBuffer := fun z => nm_r (e' := nI w) (nI_pred w) (br_t h12 (And.intro it (br_t (by rw [et]; exact hg) HP)))
  refine br_c (fun z => ?_) (fun z => ?_)
  · unfold wY_end_35
    exact zy_gb0 hw hb (And.intro iw (nm_r (e' := YoldBuffer w) (by rw [ew]) (br_f (by decide) (br_f (by rw [h12]; decide) (H127 _)))))
  · unfold wY_end_35
    exact zy_gb0 hw hb (And.intro iw (nm_r (e' := YoldBuffer w) (by rw [ew]) (br_t rfl (H127 _))))
theorem zy_nT {w t q : Nat} {k : Int32} (hw : w < 320) (ht : t + 1 < 240) (hT : YworkToken w = nI t) (hk : Ykinds t = k) (h14 : k = 14) (hP : YworkPhase w = nI 0) (he : Yends (t + 1) = nI q) (hb : YboundPlace w = -1) (hg : ¬ 0 ≤ ytag) : zy_N (yenvs, yclosures, nI (w + 1), ybuffer, ysteps, ymode, yat, yenv, ykind, yvalue, ycode, ytag, yresultKind, yresultValue, Ykinds, Ynumbers, Yends, Ylengths, Yparameters, Yspecial, YplaceKind, YplaceValue, Ythere, YsymbolOf, YplaceOf, YnextOf, YclosureSymbol, YclosureBody, YclosureEnv, YworkToken, YworkPhase, YworkEnv, YkeptKind, YkeptValue, YboundPlace, YoldKind, YoldValue, YoldBuffer) (yenvs, yclosures, nI w, YoldBuffer w, ysteps, 1, nI q, YworkEnv w, ykind, yvalue, ycode, ytag, yresultKind, yresultValue, Ykinds, Ynumbers, Yends, Ylengths, Yparameters, Yspecial, YplaceKind, YplaceValue, Ythere, YsymbolOf, YplaceOf, YnextOf, YclosureSymbol, YclosureBody, YclosureEnv, YworkToken, YworkPhase, YworkEnv, YkeptKind, YkeptValue, YboundPlace, YoldKind, YoldValue, YoldBuffer) := by
  intro P HP
  have iw : vp_in (nI w) 320 := vp_in_nI hw (by omega)
  have ew : (nI w).toNatClampNeg = w := nI_clamp (by omega)
  have it : vp_in (nI t) 240 := vp_in_nI (by omega) (by omega)
  have et : (nI t).toNatClampNeg = t := nI_clamp (by omega)
  refine nm_r (e' := nI w) (nI_pred w) (And.intro iw (nm_r (e' := nI t) (by rw [ew, hT]) (And.intro it (nm_r (e' := k) (by rw [et, hk]) (And.intro iw ?_)))))
  rw [ew, hP]
  refine br_t rfl ?_
  unfold wY_end_35
  refine zy_gb0 hw hb (And.intro iw (nm_r (e' := YoldBuffer w) (by rw [ew]) (br_f (by decide) (br_f (by rw [h14]; decide) (nm_r (e' := nI w) (nI_pred w) (br_f (by rw [h14]; decide) ?_))))))
  refine br_f (by decide) (br_t h14 (br_f hg (zy_op1 ht he (And.intro iw ?_))))
  rw [ew]
  exact HP
theorem zy_nS {w t ph : Nat} {k : Int32} (hw : w < 320) (ht : t < 240) (hT : YworkToken w = nI t) (hk : Ykinds t = k) (hP : YworkPhase w = nI ph) (hph : ph < 4) (h15 : k = 15 → ¬ ph = 0) (h14 : k = 14 → 0 ≤ ytag1) (h12 : k = 12 → ¬ ytag1 = Ynumbers1 t) (HG : ∀ Q : SY → Prop, Q (yenvs1, yclosures1, nI (w + 1), ybuffer1, ysteps1, ymode1, yat1, yenv1, ykind1, yvalue1, ycode1, ytag1, yresultKind1, yresultValue1, Ykinds1, Ynumbers1, Yends1, Ylengths1, Yparameters1, Yspecial1, YplaceKind1, YplaceValue1, Ythere1, YsymbolOf1, YplaceOf1, YnextOf1, YclosureSymbol1, YclosureBody1, YclosureEnv1, YworkToken1, YworkPhase1, YworkEnv1, YkeptKind1, YkeptValue1, YboundPlace1, YoldKind1, YoldValue1, YoldBuffer1) → wpY_giveBack Q (yenvs, yclosures, nI (w + 1), ybuffer, ysteps, ymode, yat, yenv, ykind, yvalue, ycode, ytag, yresultKind, yresultValue, Ykinds, Ynumbers, Yends, Ylengths, Yparameters, Yspecial, YplaceKind, YplaceValue, Ythere, YsymbolOf, YplaceOf, YnextOf, YclosureSymbol, YclosureBody, YclosureEnv, YworkToken, YworkPhase, YworkEnv, YkeptKind, YkeptValue, YboundPlace, YoldKind, YoldValue, YoldBuffer) (nI w)) : zy_N (yenvs, yclosures, nI (w + 1), ybuffer, ysteps, ymode, yat, yenv, ykind, yvalue, ycode, ytag, yresultKind, yresultValue, Ykinds, Ynumbers, Yends, Ylengths, Yparameters, Yspecial, YplaceKind, YplaceValue, Ythere, YsymbolOf, YplaceOf, YnextOf, YclosureSymbol, YclosureBody, YclosureEnv, YworkToken, YworkPhase, YworkEnv, YkeptKind, YkeptValue, YboundPlace, YoldKind, YoldValue, YoldBuffer) (yenvs1, yclosures1, nI w, YoldBuffer1 w, ysteps1, ymode1, yat1, yenv1, ykind1, yvalue1, ycode1, ytag1, yresultKind1, yresultValue1, Ykinds1, Ynumbers1, Yends1, Ylengths1, Yparameters1, Yspecial1, YplaceKind1, YplaceValue1, Ythere1, YsymbolOf1, YplaceOf1, YnextOf1, YclosureSymbol1, YclosureBody1, YclosureEnv1, YworkToken1, YworkPhase1, YworkEnv1, YkeptKind1, YkeptValue1, YboundPlace1, YoldKind1, YoldValue1, YoldBuffer1) := by
  intro P HP
  have iw : vp_in (nI w) 320 := vp_in_nI hw (by omega)
  have ew : (nI w).toNatClampNeg = w := nI_clamp (by omega)
  have it : vp_in (nI t) 240 := vp_in_nI (by omega) (by omega)
  have et : (nI t).toNatClampNeg = t := nI_clamp (by omega)
  refine nm_r (e' := nI w) (nI_pred w) (And.intro iw (nm_r (e' := nI t) (by rw [ew, hT]) (And.intro it (nm_r (e' := k) (by rw [et, hk]) (And.intro iw ?_)))))
  rw [ew, hP]
  have H171 : ∀ z, wY_end_171 P (nI w) (nI t) k z yenvs1 yclosures1 (nI w) (YoldBuffer1 w) ysteps1 ymode1 yat1 yenv1 ykind1 yvalue1 ycode1 ytag1 yresultKind1 yresultValue1 Ykinds1 Ynumbers1 Yends1 Ylengths1 Yparameters1 Yspecial1 YplaceKind1 YplaceValue1 Ythere1 YsymbolOf1 YplaceOf1 YnextOf1 YclosureSymbol1 YclosureBody1 YclosureEnv1 YworkToken1 YworkPhase1 YworkEnv1 YkeptKind1 YkeptValue1 YboundPlace1 YoldKind1 YoldValue1 YoldBuffer1 := fun z => br_c (fun _ => HP) (fun _ => br_c (fun y => br_t (h14 y) HP) (fun _ => HP))
  have H127 : ∀ z, wY_end_127 P (nI w) (nI t) k z yenvs1 yclosures1 (nI (w + 1)) (YoldBuffer1 w) ysteps1 ymode1 yat1 yenv1 ykind1 yvalue1 ycode1 ytag1 yresultKind1 yresultValue1 Ykinds1 Ynumbers1 Yends1 Ylengths1 Yparameters1 Yspecial1 YplaceKind1 YplaceValue1 Ythere1 YsymbolOf1 YplaceOf1 YnextOf1 YclosureSymbol1 YclosureBody1 YclosureEnv1 YworkToken1 YworkPhase1 YworkEnv1 YkeptKind1 YkeptValue1 YboundPlace1 YoldKind1 YoldValue1 YoldBuffer1 := fun z => nm_r (e' := nI w) (nI_pred w) (br_c (fun y => And.intro it (br_f (by rw [et]; exact h12 y) (H171 _))) (fun _ => H171 _))
  by_cases z : ph = 0
  · refine br_t (by rw [z]; rfl) ?_
    unfold wY_end_35
    exact HG _ (And.intro iw (nm_r (e' := YoldBuffer1 w) (by rw [ew]) (br_f (by decide) (br_f (fun y => h15 y z) (H127 _)))))
  · refine br_f (nI_ne0 (by omega) (by omega)) ?_
    unfold wY_end_35
    exact HG _ (And.intro iw (nm_r (e' := YoldBuffer1 w) (by rw [ew]) (br_t rfl (H127 _))))
end
end
section
/-! environments, jumps, frames -/
def zz_EV (ne : Nat) (sy nx : Nat → Int32) : List Nat → Int32 → Prop
  | [] => fun e => e = -1
  | s :: sc => fun e => ∃ i, i < ne ∧ e = nI i ∧ s < 8 ∧ sy i = nI s ∧ zz_EV i sy nx sc (nx i)
theorem zz_EVm' {sy nx sy' nx' : Nat → Int32} : ∀ (sc : List Nat) (ne ne' : Nat) (e : Int32), ne ≤ ne' → (∀ i, i < ne → sy' i = sy i ∧ nx' i = nx i) → zz_EV ne sy nx sc e → zz_EV ne' sy' nx' sc e := by
  intro sc
  induction sc with
  | nil => intro ne ne' e _ _ H; exact H
  | cons s sc ih =>
    intro ne ne' e hn h ⟨i, hi, h1, h2, h3, h4⟩
    refine ⟨i, by omega, h1, h2, by rw [(h i hi).1]; exact h3, ?_⟩
    rw [(h i hi).2]
    exact ih i i _ (Nat.le_refl _) (fun k hk => h k (by omega)) h4
theorem zz_EVm {ne ne' : Nat} {sy nx sy' nx' : Nat → Int32} (hn : ne ≤ ne') (h : ∀ i, i < ne → sy' i = sy i ∧ nx' i = nx i) (sc : List Nat) (e : Int32) (H : zz_EV ne sy nx sc e) : zz_EV ne' sy' nx' sc e := zz_EVm' sc ne ne' e hn h H
theorem zz_EVl {sy nx : Nat → Int32} : ∀ (sc : List Nat) (ne : Nat) (e : Int32), zz_EV ne sy nx sc e → sc.length ≤ ne := by
  intro sc
  induction sc with
  | nil => intro ne e _; exact Nat.zero_le _
  | cons s sc ih =>
    intro ne e ⟨i, hi, _, _, _, h4⟩
    have := ih i _ h4
    simp only [List.length_cons]
    omega
theorem zz_EVe {ne : Nat} {sy nx : Nat → Int32} (hn : ne ≤ 320) {sc : List Nat} {e : Int32} (H : zz_EV ne sy nx sc e) : zz_ev e := by
  cases sc with
  | nil => exact Or.inl H
  | cons s sc => obtain ⟨i, hi, h1, _⟩ := H; exact Or.inr ⟨i, by omega, h1⟩
/-- a new environment for a lexical symbol -/
theorem zz_EVx {ne : Nat} {S sy nx : Nat → Int32} {s : Nat} {sc : List Nat} {e : Int32} (hs : s < 8) (hz : S s = 0) (H : zz_EV ne sy nx sc e) : zz_EV (ne + 1) (upd sy ne (nI s)) (upd nx ne e) (zz_ex S s sc) (nI ne) := by
  rw [zz_ex, if_pos hz]
  refine ⟨ne, by omega, rfl, hs, pk_us, ?_⟩
  rw [pk_us]
  exact zz_EVm (Nat.le_refl _) (fun i hi => ⟨pk_un (by omega), pk_un (by omega)⟩) _ _ H
def zz_J (op ar : Nat → Int32) : Nat → Nat → Nat → Prop
  | 0 => fun p q => p = q
  | j + 1 => fun p q => p < 1280 ∧ op p = 23 ∧ ∃ r, r < 1280 ∧ ar p = nI (r * 65536) ∧ zz_J op ar j r q
theorem zz_Jt {op ar : Nat → Int32} : ∀ (i j p q r : Nat), zz_J op ar i p q → zz_J op ar j q r → zz_J op ar (i + j) p r := by
  intro i
  induction i with
  | zero => intro j p q r h1 h2; have e : p = q := h1; subst e; rw [Nat.zero_add]; exact h2
  | succ i ih =>
    intro j p q r h1 h2
    obtain ⟨a, b, c, d, e, f⟩ := h1
    rw [show i + 1 + j = (i + j) + 1 from by omega]
    exact ⟨a, b, c, d, e, ih _ _ _ _ f h2⟩
def zz_BN (nc : Nat) (bp ok ov : Int32) (y : zz_XE) : Prop := (y.1 = 1 ∧ ∃ p, p < 32 ∧ bp = nI p ∧ y.2.1 = nI p ∧ y.2.2.2.2 = zz_en ok ov ∧ zz_W nc ok ov) ∨ (y.1 = 2 ∧ bp = -1)
def zz_CT (K N : Nat → Int32) (s : Nat) (fs : List zz_YF) : Prop := ∃ f, f ∈ fs ∧ K f.1 = 12 ∧ N f.1 = nI s
def zz_TG (K N : Nat → Int32) (nc : Nat) (fs : List zz_YF) (hw x : Int32) (v : Int64) (tag code k vl : Int32) : Prop := (hw = 2 ∧ tag = -1 ∧ x = code ∧ ¬ code = 0) ∨ (hw = 1 ∧ ∃ s, s < 4 ∧ tag = nI s ∧ x = nI s ∧ v = zz_en k vl ∧ zz_V nc k vl ∧ zz_CT K N s fs)
def zz_FR (op ar K N E S : Nat → Int32) (nc : Nat) (fs : List zz_YF) (t ph : Nat) (we kk kv bp ok ov : Int32) (ob g : Nat) (sc : List Nat) (pc : Nat) (us : List zz_XE) (st : List Int64) (env : Int32) (b e : Nat) (us0 : List zz_XE) (st0 : List Int64) : Prop :=
  (K t = 2 ∧ ph = 0 ∧ (∃ s, s < 8 ∧ N t = nI s ∧ zz_RC op ar S 32 2 pc s sc) ∧ e = pc + 1 ∧ us = us0 ∧ st = st0 ∧ env = we ∧ b = ob ∧ bp = -1)
  ∨ ((K t = 6 ∨ K t = 13 ∨ K t = 17) ∧ ph = 0 ∧ (∃ s, s < 8 ∧ (K t = 17 ∨ s < 4) ∧ N t = nI s ∧ op pc = K t ∧ ar pc = nI s) ∧ e = pc + 1 ∧ us = us0 ∧ st = st0 ∧ env = we ∧ b = ob ∧ bp = -1 ∧ g = 1)
  ∨ ((K t = 5 ∨ K t = 9 ∨ K t = 10 ∨ K t = 11) ∧ ph = 0 ∧ (∃ t2 e2, t + 1 < 240 ∧ E (t + 1) = nI t2 ∧ zz_CE op ar K N E S t2 pc e2 sc ∧ op e2 = K t ∧ e = e2 + 1) ∧ us = us0 ∧ st = st0 ∧ env = we ∧ b = ob ∧ bp = -1 ∧ g = 1)
  ∨ ((K t = 5 ∨ K t = 9 ∨ K t = 10 ∨ K t = 11) ∧ ph = 1 ∧ op pc = K t ∧ e = pc + 1 ∧ us = us0 ∧ st = zz_en kk kv :: st0 ∧ zz_V nc kk kv ∧ env = we ∧ b = ob ∧ bp = -1 ∧ g = 1)
  ∨ (((K t = 5 ∧ ph = 2) ∨ (K t = 6 ∧ ph = 1)) ∧ op pc = 24 ∧ (∃ y, us = y :: (0, nI e, we, 0, 0) :: us0 ∧ zz_BN nc bp ok ov y) ∧ st = st0 ∧ b = ob)
  ∨ (K t = 3 ∧ ph = 0 ∧ (∃ s t2 e2, s < 8 ∧ N t = nI s ∧ t + 1 < 240 ∧ E (t + 1) = nI t2 ∧ op pc = 21 ∧ ar pc = nI s ∧ zz_CE op ar K N E S t2 (pc + 1) e2 (zz_ex S s sc) ∧ op e2 = 22 ∧ e = e2 + 1) ∧ us = us0 ∧ st = st0 ∧ env = we ∧ b = ob ∧ bp = -1 ∧ g = 1)
  ∨ (K t = 3 ∧ ph = 1 ∧ op pc = 22 ∧ e = pc + 1 ∧ (∃ y, us = y :: us0 ∧ zz_BN nc bp ok ov y ∧ ((y.1 = 1 ∧ env = we) ∨ (y.1 = 2 ∧ y.2.1 = we))) ∧ st = st0 ∧ b = ob)
  ∨ (K t = 7 ∧ ph = 0 ∧ (∃ t2, t + 1 < 240 ∧ E (t + 1) = nI t2 ∧ op pc = 30 ∧ zz_CE op ar K N E S t2 (pc + 1) e sc) ∧ us = us0 ∧ st = st0 ∧ env = we ∧ b = ob ∧ bp = -1)
  ∨ (K t = 8 ∧ ph = 0 ∧ (∃ t2 t3 e2, t + 1 < 240 ∧ E (t + 1) = nI t2 ∧ E t2 = nI t3 ∧ op pc = 8 ∧ ar pc = nI ((e2 + 1) * 65536) ∧ zz_CE op ar K N E S t2 (pc + 1) e2 sc ∧ op e2 = 23 ∧ ar e2 = nI (e * 65536) ∧ zz_CE op ar K N E S t3 (e2 + 1) e sc) ∧ us = us0 ∧ st = st0 ∧ env = we ∧ b = ob ∧ bp = -1)
  ∨ (K t = 12 ∧ ph = 0 ∧ op pc = 26 ∧ e = pc + 1 ∧ (∃ s, s < 4 ∧ N t = nI s ∧ us = (4, nI e, nI st0.length, we, lN s) :: us0) ∧ st = st0 ∧ env = we ∧ b = ob ∧ bp = -1)
  ∨ (K t = 14 ∧ ph = 0 ∧ (∃ t2, t + 1 < 240 ∧ E (t + 1) = nI t2 ∧ op pc = 26 ∧ op (pc + 1) = 23 ∧ ar (pc + 1) = nI (e * 65536) ∧ zz_CE op ar K N E S t2 (pc + 2) e sc) ∧ us = (5, nI (pc + 2), nI st0.length, we, 0) :: us0 ∧ st = st0 ∧ env = we ∧ b = ob ∧ bp = -1)
  ∨ (K t = 15 ∧ ph = 0 ∧ (∃ t2 e2, t + 1 < 240 ∧ E (t + 1) = nI t2 ∧ op pc = 28 ∧ zz_CE op ar K N E S t2 (pc + 1) e2 sc ∧ op e2 = 29 ∧ e = e2 + 1) ∧ us = (6, nI (pc + 1), nI st0.length, we, 0) :: us0 ∧ st = st0 ∧ env = we ∧ b = ob ∧ bp = -1)
  ∨ (K t = 15 ∧ ph = 1 ∧ op pc = 29 ∧ e = pc + 1 ∧ us = (7, 0, 0, 0, 0) :: us0 ∧ st = zz_en kk kv :: st0 ∧ zz_V nc kk kv ∧ env = we ∧ b = ob ∧ bp = -1)
  ∨ (K t = 15 ∧ ph = 2 ∧ op pc = 29 ∧ e = pc + 1 ∧ (∃ hw x v, us = (7, hw, x, 0, v) :: us0 ∧ zz_TG K N nc fs hw x v ok ov kk kv) ∧ st = st0 ∧ env = we ∧ b = ob ∧ bp = -1)
  ∨ (K t = 16 ∧ ph = 0 ∧ op pc = 34 ∧ e = pc + 1 ∧ us = (3, nI ob, 0, 0, 0) :: us0 ∧ st = st0 ∧ env = we ∧ bp = -1)
def zz_KR (op ar K N E S : Nat → Int32) (ne : Nat) (sy nx : Nat → Int32) (nc : Nat) : List zz_YF → Nat → List zz_XE → List Int64 → Int32 → Nat → Prop
  | [] => fun pc us st _ _ => pc < 1280 ∧ op pc = 24 ∧ us = [] ∧ st = []
  | f :: fs => fun pc us st env b => pc < 1280 ∧ f.1 < 240 ∧ f.2.2.2.2.2.2.2.2.1 < 3 ∧ ∃ sc e j q us0 st0, e < 1280 ∧ zz_EV ne sy nx sc f.2.2.1 ∧ zz_J op ar j e q ∧ zz_KR op ar K N E S ne sy nx nc fs q us0 st0 f.2.2.1 f.2.2.2.2.2.2.2.2.1 ∧ zz_FR op ar K N E S nc fs f.1 f.2.1 f.2.2.1 f.2.2.2.1 f.2.2.2.2.1 f.2.2.2.2.2.1 f.2.2.2.2.2.2.1 f.2.2.2.2.2.2.2.1 f.2.2.2.2.2.2.2.2.1 f.2.2.2.2.2.2.2.2.2 sc pc us st env b e us0 st0
theorem zz_BNm {nc nc' : Nat} {bp ok ov : Int32} {y : zz_XE} (h : nc ≤ nc') (H : zz_BN nc bp ok ov y) : zz_BN nc' bp ok ov y := by
  rcases H with ⟨h1, p, h2, h3, h4, h5, h6⟩ | H
  · exact Or.inl ⟨h1, p, h2, h3, h4, h5, zz_Wm h h6⟩
  · exact Or.inr H
theorem zz_TGm {K N : Nat → Int32} {nc nc' : Nat} {fs : List zz_YF} {hw x : Int32} {v : Int64} {tag code k vl : Int32} (h : nc ≤ nc') (H : zz_TG K N nc fs hw x v tag code k vl) : zz_TG K N nc' fs hw x v tag code k vl := by
  rcases H with H | ⟨h1, s, h2, h3, h4, h5, h6, h7⟩
  · exact Or.inl H
  · exact Or.inr ⟨h1, s, h2, h3, h4, h5, zz_Vm h h6, h7⟩
theorem zz_FRm {op ar K N E S : Nat → Int32} {nc nc' : Nat} {fs : List zz_YF} {t ph : Nat} {we kk kv bp ok ov : Int32} {ob g : Nat} {sc : List Nat} {pc : Nat} {us : List zz_XE} {st : List Int64} {env : Int32} {b e : Nat} {us0 : List zz_XE} {st0 : List Int64} (h : nc ≤ nc') (H : zz_FR op ar K N E S nc fs t ph we kk kv bp ok ov ob g sc pc us st env b e us0 st0) : zz_FR op ar K N E S nc' fs t ph we kk kv bp ok ov ob g sc pc us st env b e us0 st0 := by
  unfold zz_FR at H ⊢
  rcases H with H | H | H | H | H | H | H | H | H | H | H | H | H | H | H
  · exact Or.inl H
  · exact Or.inr (Or.inl H)
  · exact Or.inr (Or.inr (Or.inl H))
  · obtain ⟨h1, h2, h3, h4, h5, h6, h7, h8⟩ := H
    exact Or.inr (Or.inr (Or.inr (Or.inl ⟨h1, h2, h3, h4, h5, h6, zz_Vm h h7, h8⟩)))
  · obtain ⟨h1, h2, ⟨y, h3, h4⟩, h5⟩ := H
    exact Or.inr (Or.inr (Or.inr (Or.inr (Or.inl ⟨h1, h2, ⟨y, h3, zz_BNm h h4⟩, h5⟩))))
  · exact Or.inr (Or.inr (Or.inr (Or.inr (Or.inr (Or.inl H)))))
  · obtain ⟨h1, h2, h3, h4, ⟨y, h5, h6, h7⟩, h8⟩ := H
    exact Or.inr (Or.inr (Or.inr (Or.inr (Or.inr (Or.inr (Or.inl ⟨h1, h2, h3, h4, ⟨y, h5, zz_BNm h h6, h7⟩, h8⟩))))))
  · exact Or.inr (Or.inr (Or.inr (Or.inr (Or.inr (Or.inr (Or.inr (Or.inl H)))))))
  · exact Or.inr (Or.inr (Or.inr (Or.inr (Or.inr (Or.inr (Or.inr (Or.inr (Or.inl H))))))))
  · exact Or.inr (Or.inr (Or.inr (Or.inr (Or.inr (Or.inr (Or.inr (Or.inr (Or.inr (Or.inl H)))))))))
  · exact Or.inr (Or.inr (Or.inr (Or.inr (Or.inr (Or.inr (Or.inr (Or.inr (Or.inr (Or.inr (Or.inl H))))))))))
  · exact Or.inr (Or.inr (Or.inr (Or.inr (Or.inr (Or.inr (Or.inr (Or.inr (Or.inr (Or.inr (Or.inr (Or.inl H)))))))))))
  · obtain ⟨h1, h2, h3, h4, h5, h6, h7, h8⟩ := H
    exact Or.inr (Or.inr (Or.inr (Or.inr (Or.inr (Or.inr (Or.inr (Or.inr (Or.inr (Or.inr (Or.inr (Or.inr (Or.inl ⟨h1, h2, h3, h4, h5, h6, zz_Vm h h7, h8⟩))))))))))))
  · obtain ⟨h1, h2, h3, h4, ⟨hw, x, v, h5, h6⟩, h7⟩ := H
    exact Or.inr (Or.inr (Or.inr (Or.inr (Or.inr (Or.inr (Or.inr (Or.inr (Or.inr (Or.inr (Or.inr (Or.inr (Or.inr (Or.inl ⟨h1, h2, h3, h4, ⟨hw, x, v, h5, zz_TGm h h6⟩, h7⟩)))))))))))))
  · exact Or.inr (Or.inr (Or.inr (Or.inr (Or.inr (Or.inr (Or.inr (Or.inr (Or.inr (Or.inr (Or.inr (Or.inr (Or.inr (Or.inr H)))))))))))))
theorem zz_KRm {op ar K N E S : Nat → Int32} {ne ne' : Nat} {sy nx sy' nx' : Nat → Int32} {nc nc' : Nat} (hn : ne ≤ ne') (h : ∀ i, i < ne → sy' i = sy i ∧ nx' i = nx i) (hc : nc ≤ nc') : ∀ (fs : List zz_YF) (pc : Nat) (us : List zz_XE) (st : List Int64) (env : Int32) (b : Nat), zz_KR op ar K N E S ne sy nx nc fs pc us st env b → zz_KR op ar K N E S ne' sy' nx' nc' fs pc us st env b := by
  intro fs
  induction fs with
  | nil => intro pc us st env b H; exact H
  | cons f fs ih =>
    intro pc us st env b ⟨h1, h2, h3, sc, e, j, q, us0, st0, h4, h5, h6, h7, h8⟩
    exact ⟨h1, h2, h3, sc, e, j, q, us0, st0, h4, zz_EVm hn h _ _ h5, h6, ih _ _ _ _ _ h7, zz_FRm hc h8⟩
/-- how many entries a frame has -/
theorem zz_FRl {op ar K N E S : Nat → Int32} {nc : Nat} {fs : List zz_YF} {t ph : Nat} {we kk kv bp ok ov : Int32} {ob g : Nat} {sc : List Nat} {pc : Nat} {us : List zz_XE} {st : List Int64} {env : Int32} {b e : Nat} {us0 : List zz_XE} {st0 : List Int64} (H : zz_FR op ar K N E S nc fs t ph we kk kv bp ok ov ob g sc pc us st env b e us0 st0) : us.length ≤ us0.length + 2 ∧ st.length ≤ st0.length + 1 := by
  unfold zz_FR at H
  rcases H with H | H | H | H | H | H | H | H | H | H | H | H | H | H | H
  · obtain ⟨_, _, _, _, h1, h2, _⟩ := H; subst h1 h2; exact ⟨by omega, by omega⟩
  · obtain ⟨_, _, _, _, h1, h2, _⟩ := H; subst h1 h2; exact ⟨by omega, by omega⟩
  · obtain ⟨_, _, _, h1, h2, _⟩ := H; subst h1 h2; exact ⟨by omega, by omega⟩
  · obtain ⟨_, _, _, _, h1, h2, _⟩ := H; subst h1 h2; exact ⟨by omega, by simp⟩
  · obtain ⟨_, _, ⟨y, h1, _⟩, h2, _⟩ := H; subst h1 h2; exact ⟨by simp, by omega⟩
  · obtain ⟨_, _, _, h1, h2, _⟩ := H; subst h1 h2; exact ⟨by omega, by omega⟩
  · obtain ⟨_, _, _, _, ⟨y, h1, _⟩, h2, _⟩ := H; subst h1 h2; exact ⟨by simp, by omega⟩
  · obtain ⟨_, _, _, h1, h2, _⟩ := H; subst h1 h2; exact ⟨by omega, by omega⟩
  · obtain ⟨_, _, _, h1, h2, _⟩ := H; subst h1 h2; exact ⟨by omega, by omega⟩
  · obtain ⟨_, _, _, _, ⟨s, _, _, h1⟩, h2, _⟩ := H; subst h1 h2; exact ⟨by simp, by omega⟩
  · obtain ⟨_, _, _, h1, h2, _⟩ := H; subst h1 h2; exact ⟨by simp, by omega⟩
  · obtain ⟨_, _, _, h1, h2, _⟩ := H; subst h1 h2; exact ⟨by simp, by omega⟩
  · obtain ⟨_, _, _, _, h1, h2, _⟩ := H; subst h1 h2; exact ⟨by simp, by simp⟩
  · obtain ⟨_, _, _, _, ⟨_, _, _, h1, _⟩, h2, _⟩ := H; subst h1 h2; exact ⟨by simp, by omega⟩
  · obtain ⟨_, _, _, _, h1, h2, _⟩ := H; subst h1 h2; exact ⟨by simp, by omega⟩
theorem zz_KRl {op ar K N E S : Nat → Int32} {ne : Nat} {sy nx : Nat → Int32} {nc : Nat} : ∀ (fs : List zz_YF) (pc : Nat) (us : List zz_XE) (st : List Int64) (env : Int32) (b : Nat), zz_KR op ar K N E S ne sy nx nc fs pc us st env b → us.length ≤ 2 * fs.length ∧ st.length ≤ fs.length := by
  intro fs
  induction fs with
  | nil => intro pc us st env b ⟨_, _, h1, h2⟩; subst h1 h2; exact ⟨Nat.le_refl _, Nat.le_refl _⟩
  | cons f fs ih =>
    intro pc us st env b ⟨h1, h2, h3, sc, e, j, q, us0, st0, h4, h5, h6, h7, h8⟩
    have l1 := ih _ _ _ _ _ h7
    have l2 := zz_FRl h8
    simp only [List.length_cons]
    omega
theorem zz_KRp {op ar K N E S : Nat → Int32} {ne : Nat} {sy nx : Nat → Int32} {nc : Nat} {fs : List zz_YF} {pc : Nat} {us : List zz_XE} {st : List Int64} {env : Int32} {b : Nat} (H : zz_KR op ar K N E S ne sy nx nc fs pc us st env b) : pc < 1280 := by
  cases fs with
  | nil => exact H.1
  | cons f fs => exact H.1
/-! the arrays hold the lists -/
def zz_YW (tok ph we kk kv bp ok ov ob : Nat → Int32) (fs : List zz_YF) : Prop := zz_R tok (fun f => nI f.1) fs ∧ zz_R ph (fun f => nI f.2.1) fs ∧ zz_R we (fun f => f.2.2.1) fs ∧ zz_R kk (fun f => f.2.2.2.1) fs ∧ zz_R kv (fun f => f.2.2.2.2.1) fs ∧ zz_R bp (fun f => f.2.2.2.2.2.1) fs ∧ zz_R ok (fun f => f.2.2.2.2.2.2.1) fs ∧ zz_R ov (fun f => f.2.2.2.2.2.2.2.1) fs ∧ zz_R ob (fun f => nI f.2.2.2.2.2.2.2.2.1) fs
def zz_XW (wh fi se th : Nat → Int32) (ke : Nat → Int64) (us : List zz_XE) : Prop := zz_R wh (fun y => y.1) us ∧ zz_R fi (fun y => y.2.1) us ∧ zz_R se (fun y => y.2.2.1) us ∧ zz_R th (fun y => y.2.2.2.1) us ∧ zz_R ke (fun y => y.2.2.2.2) us
theorem zz_XWt {wh fi se th : Nat → Int32} {ke : Nat → Int64} {y : zz_XE} {us : List zz_XE} (H : zz_XW wh fi se th ke (y :: us)) : zz_XW wh fi se th ke us := ⟨H.1.2, H.2.1.2, H.2.2.1.2, H.2.2.2.1.2, H.2.2.2.2.2⟩
theorem zz_XWh {wh fi se th : Nat → Int32} {ke : Nat → Int64} {y : zz_XE} {us : List zz_XE} (H : zz_XW wh fi se th ke (y :: us)) : wh us.length = y.1 ∧ fi us.length = y.2.1 ∧ se us.length = y.2.2.1 ∧ th us.length = y.2.2.2.1 ∧ ke us.length = y.2.2.2.2 := ⟨H.1.1, H.2.1.1, H.2.2.1.1, H.2.2.2.1.1, H.2.2.2.2.1⟩
theorem zz_XWp {wh fi se th : Nat → Int32} {ke : Nat → Int64} {us : List zz_XE} (w a b c : Int32) (v : Int64) (H : zz_XW wh fi se th ke us) : zz_XW (upd wh us.length w) (upd fi us.length a) (upd se us.length b) (upd th us.length c) (vp_updL ke us.length v) ((w, a, b, c, v) :: us) := ⟨zz_Rp rfl H.1, zz_Rp rfl H.2.1, zz_Rp rfl H.2.2.1, zz_Rp rfl H.2.2.2.1, zz_RpL rfl H.2.2.2.2⟩
theorem zz_YWt {tok ph we kk kv bp ok ov ob : Nat → Int32} {f : zz_YF} {fs : List zz_YF} (H : zz_YW tok ph we kk kv bp ok ov ob (f :: fs)) : zz_YW tok ph we kk kv bp ok ov ob fs := by
  obtain ⟨h1, h2, h3, h4, h5, h6, h7, h8, h9⟩ := H
  exact ⟨h1.2, h2.2, h3.2, h4.2, h5.2, h6.2, h7.2, h8.2, h9.2⟩
theorem zz_YWh {tok ph we kk kv bp ok ov ob : Nat → Int32} {f : zz_YF} {fs : List zz_YF} (H : zz_YW tok ph we kk kv bp ok ov ob (f :: fs)) : tok fs.length = nI f.1 ∧ ph fs.length = nI f.2.1 ∧ we fs.length = f.2.2.1 ∧ kk fs.length = f.2.2.2.1 ∧ kv fs.length = f.2.2.2.2.1 ∧ bp fs.length = f.2.2.2.2.2.1 ∧ ok fs.length = f.2.2.2.2.2.2.1 ∧ ov fs.length = f.2.2.2.2.2.2.2.1 ∧ ob fs.length = nI f.2.2.2.2.2.2.2.2.1 := by
  obtain ⟨h1, h2, h3, h4, h5, h6, h7, h8, h9⟩ := H
  exact ⟨h1.1, h2.1, h3.1, h4.1, h5.1, h6.1, h7.1, h8.1, h9.1⟩
/-- evaluate pushes -/
theorem zz_YWe {tok ph we kk kv bp ok ov ob : Nat → Int32} {fs : List zz_YF} (t : Nat) (e : Int32) (b g : Nat) (H : zz_YW tok ph we kk kv bp ok ov ob fs) : zz_YW (upd tok fs.length (nI t)) (upd ph fs.length 0) (upd we fs.length e) kk kv (upd bp fs.length (-1)) ok ov (upd ob fs.length (nI b)) ((t, 0, e, kk fs.length, kv fs.length, -1, ok fs.length, ov fs.length, b, g) :: fs) := by
  obtain ⟨h1, h2, h3, h4, h5, h6, h7, h8, h9⟩ := H
  exact ⟨zz_Rp rfl h1, zz_Rp rfl h2, zz_Rp rfl h3, ⟨rfl, h4⟩, ⟨rfl, h5⟩, zz_Rp rfl h6, ⟨rfl, h7⟩, ⟨rfl, h8⟩, zz_Rp rfl h9⟩
/-- a value is kept -/
theorem zz_YWk {tok ph we kk kv bp ok ov ob : Nat → Int32} {fs : List zz_YF} {t p : Nat} {a1 a2 a3 a4 a5 a6 : Int32} {b g : Nat} (p' : Nat) (k v : Int32) (H : zz_YW tok ph we kk kv bp ok ov ob ((t, p, a1, a2, a3, a4, a5, a6, b, g) :: fs)) : zz_YW tok (upd ph fs.length (nI p')) we (upd kk fs.length k) (upd kv fs.length v) bp ok ov ob ((t, p', a1, k, v, a4, a5, a6, b, g) :: fs) := by
  obtain ⟨h1, h2, h3, h4, h5, h6, h7, h8, h9⟩ := H
  exact ⟨h1, zz_Rp rfl h2.2, h3, zz_Rp rfl h4.2, zz_Rp rfl h5.2, h6, h7, h8, h9⟩
/-- a place is bound -/
theorem zz_YWb {tok ph we kk kv bp ok ov ob : Nat → Int32} {fs : List zz_YF} {t p : Nat} {a1 a2 a3 a4 a5 a6 : Int32} {b g : Nat} (p' g' : Nat) (q k v : Int32) (H : zz_YW tok ph we kk kv bp ok ov ob ((t, p, a1, a2, a3, a4, a5, a6, b, g) :: fs)) : zz_YW tok (upd ph fs.length (nI p')) we kk kv (upd bp fs.length q) (upd ok fs.length k) (upd ov fs.length v) ob ((t, p', a1, a2, a3, q, k, v, b, g') :: fs) := by
  obtain ⟨h1, h2, h3, h4, h5, h6, h7, h8, h9⟩ := H
  exact ⟨h1, zz_Rp rfl h2.2, h3, h4, h5, zz_Rp rfl h6.2, zz_Rp rfl h7.2, zz_Rp rfl h8.2, h9⟩
/-- the phase alone -/
theorem zz_YWf {tok ph we kk kv bp ok ov ob : Nat → Int32} {fs : List zz_YF} {t p : Nat} {a1 a2 a3 a4 a5 a6 : Int32} {b g : Nat} (p' g' : Nat) (H : zz_YW tok ph we kk kv bp ok ov ob ((t, p, a1, a2, a3, a4, a5, a6, b, g) :: fs)) : zz_YW tok (upd ph fs.length (nI p')) we kk kv bp ok ov ob ((t, p', a1, a2, a3, a4, a5, a6, b, g') :: fs) := by
  obtain ⟨h1, h2, h3, h4, h5, h6, h7, h8, h9⟩ := H
  exact ⟨h1, zz_Rp rfl h2.2, h3, h4, h5, h6, h7, h8, h9⟩
/-- .. of one that goes -/
theorem zz_YWg {tok ph we kk kv bp ok ov ob : Nat → Int32} {fs : List zz_YF} {k : Nat} {v : Int32} (hk : fs.length ≤ k) (H : zz_YW tok ph we kk kv bp ok ov ob fs) : zz_YW tok (upd ph k v) we kk kv bp ok ov ob fs := by
  obtain ⟨h1, h2, h3, h4, h5, h6, h7, h8, h9⟩ := H
  exact ⟨h1, zz_Rk hk h2, h3, h4, h5, h6, h7, h8, h9⟩
theorem zz_YWd {tok ph we kk kv bp ok ov ob : Nat → Int32} {fs : List zz_YF} {k : Nat} {v : Int32} (hk : fs.length ≤ k) (H : zz_YW tok ph we kk kv bp ok ov ob fs) : zz_YW tok ph we kk kv (upd bp k v) ok ov ob fs := by
  obtain ⟨h1, h2, h3, h4, h5, h6, h7, h8, h9⟩ := H
  exact ⟨h1, h2, h3, h4, h5, zz_Rk hk h6, h7, h8, h9⟩
/-- F of PROTECT on the way out -/
theorem zz_YWp {tok ph we kk kv bp ok ov ob : Nat → Int32} {fs : List zz_YF} {t p : Nat} {a1 a2 a3 a4 a5 a6 : Int32} {b g : Nat} (p' : Nat) (tg cd k v : Int32) (H : zz_YW tok ph we kk kv bp ok ov ob ((t, p, a1, a2, a3, a4, a5, a6, b, g) :: fs)) : zz_YW tok (upd ph fs.length (nI p')) we (upd kk fs.length k) (upd kv fs.length v) bp (upd ok fs.length tg) (upd ov fs.length cd) ob ((t, p', a1, k, v, a4, tg, cd, b, g) :: fs) := by
  obtain ⟨h1, h2, h3, h4, h5, h6, h7, h8, h9⟩ := H
  exact ⟨h1, zz_Rp rfl h2.2, h3, zz_Rp rfl h4.2, zz_Rp rfl h5.2, h6, zz_Rp rfl h7.2, zz_Rp rfl h8.2, h9⟩
def zz_pt : List zz_YF → Nat
  | [] => 0
  | f :: fs => f.2.2.2.2.2.2.2.2.2 + zz_pt fs
/-! tables -/
def zz_EN (ne nc : Nat) (pa : Nat → Int32) (ce : Nat → Int64) (po nx pk pv : Nat → Int32) : Prop := ∀ i, i < ne → pa i = nx i ∧ zz_ev (nx i) ∧ po i = nI (32 + i) ∧ ce i = zz_en (pk (32 + i)) (pv (32 + i)) ∧ zz_V nc (pk (32 + i)) (pv (32 + i))
def zz_CL (op ar K N E S : Nat → Int32) (ne : Nat) (sy nx : Nat → Int32) (nc : Nat) (bo bi sco cs cb ce : Nat → Int32) : Prop := ∀ c, c < nc → ∃ s t a e sc, s < 8 ∧ cs c = nI s ∧ bi c = nI s ∧ cb c = nI t ∧ bo c = nI a ∧ sco c = ce c ∧ zz_CE op ar K N E S t a e (zz_ex S s sc) ∧ op e = 24 ∧ zz_EV ne sy nx sc (ce c)
def zz_PL (nc : Nat) (pl : Nat → Int64) (pk pv th : Nat → Int32) : Prop := ∀ p, p < 32 → (p < 8 ∨ ¬ th p = 0) → pl p = zz_en (pk p) (pv p) ∧ zz_W nc (pk p) (pv p)
def zz_LO (lo th : Nat → Int32) : Prop := ∀ b s, b < 3 → s < 8 → (bt (lo b) s = true ↔ ¬ th (8 + 8 * b + s) = 0)
def zz_FN (op ar K N E S : Nat → Int32) (df : Int32) (pa L pr : Nat → Int32) : Prop := ∀ q, q < 4 → (bt df q = true ↔ ¬ L q = 0) ∧ (¬ L q = 0 → ∃ s n e, s < 8 ∧ pa q = nI s ∧ pr q = nI s ∧ zz_CD op ar K N E S q n (48 * q) (256 * q) e (zz_ex S s []) ∧ op e = 24)
def zz_DR (dn : Int32) (dr dv K N L : Nat → Int32) : Prop := ∃ d, d ≤ 48 ∧ dn = nI d ∧ L 4 = nI d ∧ ∀ j, j < d → ∃ k, k < 19 ∧ dr j = nI k ∧ K (192 + j) = nI k ∧ N (192 + j) = dv j ∧ zc_V k (dv j)
def zz_ST (dn sp df : Int32) (dr dv op ar pa K N E L pr S : Nat → Int32) : Prop := zz_DR dn dr dv K N L ∧ zz_SP sp S ∧ zz_FN op ar K N E S df pa L pr
def zz_RS (gv : Int64) (cl k v : Int32) : Prop := gv = (if k = 0 then v.toInt64 else 10000000000) ∧ cl = (if k = 1 then 1 else 0)
theorem zz_ENm {ne nc nc' : Nat} {pa : Nat → Int32} {ce : Nat → Int64} {po nx pk pv : Nat → Int32} (h : nc ≤ nc') (H : zz_EN ne nc pa ce po nx pk pv) : zz_EN ne nc' pa ce po nx pk pv := fun i hi => by
  obtain ⟨h1, h2, h3, h4, h5⟩ := H i hi
  exact ⟨h1, h2, h3, h4, zz_Vm h h5⟩
theorem zz_PLm {nc nc' : Nat} {pl : Nat → Int64} {pk pv th : Nat → Int32} (h : nc ≤ nc') (H : zz_PL nc pl pk pv th) : zz_PL nc' pl pk pv th := fun p h1 h2 => ⟨(H p h1 h2).1, zz_Wm h (H p h1 h2).2⟩
/-- one place alike on both sides -/
theorem zz_PLu {nc : Nat} {pl : Nat → Int64} {pk pv th : Nat → Int32} {q : Nat} {x : Int64} {k v : Int32} (hx : x = zz_en k v) (hw : zz_W nc k v) (H : zz_PL nc pl pk pv th) : zz_PL nc (vp_updL pl q x) (upd pk q k) (upd pv q v) th := by
  intro p h1 h2
  by_cases z : p = q
  · subst z; rw [pk_uLs, pk_us, pk_us]; exact ⟨hx, hw⟩
  · rw [pk_uLn z, pk_un z, pk_un z]; exact H p h1 h2
theorem zz_PLh {nc : Nat} {pl : Nat → Int64} {pk pv th : Nat → Int32} {q : Nat} {k v : Int32} (hq : 32 ≤ q) (H : zz_PL nc pl pk pv th) : zz_PL nc pl (upd pk q k) (upd pv q v) th := by
  intro p h1 h2
  rw [pk_un (by omega), pk_un (by omega)]
  exact H p h1 h2
theorem zz_ENl {ne nc : Nat} {pa : Nat → Int32} {ce : Nat → Int64} {po nx pk pv : Nat → Int32} {q : Nat} {k v : Int32} (hq : q < 32) (H : zz_EN ne nc pa ce po nx pk pv) : zz_EN ne nc pa ce po nx (upd pk q k) (upd pv q v) := by
  intro i hi
  rw [pk_un (by omega), pk_un (by omega)]
  exact H i hi
/-- a lexical place alike on both sides -/
theorem zz_ENs {ne nc c : Nat} {pa : Nat → Int32} {ce : Nat → Int64} {po nx pk pv : Nat → Int32} {k v : Int32} {x : Int64} (hx : x = zz_en k v) (hv : zz_V nc k v) (H : zz_EN ne nc pa ce po nx pk pv) : zz_EN ne nc pa (vp_updL ce c x) po nx (upd pk (32 + c) k) (upd pv (32 + c) v) := by
  intro i hi
  obtain ⟨h1, h2, h3, h4, h5⟩ := H i hi
  by_cases z : i = c
  · subst z; rw [pk_uLs, pk_us, pk_us]; exact ⟨h1, h2, h3, hx, hv⟩
  · rw [pk_uLn z, pk_un (by omega), pk_un (by omega)]; exact ⟨h1, h2, h3, h4, h5⟩
/-- a new environment -/
theorem zz_ENn {ne nc : Nat} {pa : Nat → Int32} {ce : Nat → Int64} {po nx pk pv : Nat → Int32} {k v e : Int32} {x : Int64} (hx : x = zz_en k v) (hv : zz_V nc k v) (he : zz_ev e) (H : zz_EN ne nc pa ce po nx pk pv) : zz_EN (ne + 1) nc (upd pa ne e) (vp_updL ce ne x) (upd po ne (nI (32 + ne))) (upd nx ne e) (upd pk (32 + ne) k) (upd pv (32 + ne) v) := by
  intro i hi
  by_cases z : i = ne
  · subst z; rw [pk_us, pk_us, pk_us, pk_uLs, pk_us, pk_us]; exact ⟨rfl, he, rfl, hx, hv⟩
  · obtain ⟨h1, h2, h3, h4, h5⟩ := H i (by omega)
    rw [pk_un z, pk_un z, pk_un z, pk_uLn z, pk_un (by omega), pk_un (by omega)]; exact ⟨h1, h2, h3, h4, h5⟩
theorem zz_CLm {op ar K N E S : Nat → Int32} {ne ne' : Nat} {sy nx sy' nx' : Nat → Int32} {nc : Nat} {bo bi sco cs cb ce : Nat → Int32} (hn : ne ≤ ne') (h : ∀ i, i < ne → sy' i = sy i ∧ nx' i = nx i) (H : zz_CL op ar K N E S ne sy nx nc bo bi sco cs cb ce) : zz_CL op ar K N E S ne' sy' nx' nc bo bi sco cs cb ce := fun c hc => by
  obtain ⟨s, t, a, e, sc, h1, h2, h3, h4, h5, h6, h7, h8, h9⟩ := H c hc
  exact ⟨s, t, a, e, sc, h1, h2, h3, h4, h5, h6, h7, h8, zz_EVm hn h _ _ h9⟩
theorem zz_CLn {op ar K N E S : Nat → Int32} {ne : Nat} {sy nx : Nat → Int32} {nc : Nat} {bo bi sco cs cb ce : Nat → Int32} {s t a e : Nat} {sc : List Nat} {v : Int32} (hs : s < 8) (hC : zz_CE op ar K N E S t a e (zz_ex S s sc)) (ho : op e = 24) (hE : zz_EV ne sy nx sc v) (H : zz_CL op ar K N E S ne sy nx nc bo bi sco cs cb ce) : zz_CL op ar K N E S ne sy nx (nc + 1) (upd bo nc (nI a)) (upd bi nc (nI s)) (upd sco nc v) (upd cs nc (nI s)) (upd cb nc (nI t)) (upd ce nc v) := by
  intro c hc
  by_cases z : c = nc
  · subst z; rw [pk_us, pk_us, pk_us, pk_us, pk_us, pk_us]; exact ⟨s, t, a, e, sc, hs, rfl, rfl, rfl, rfl, rfl, hC, ho, hE⟩
  · rw [pk_un z, pk_un z, pk_un z, pk_un z, pk_un z, pk_un z]; exact H c (by omega)
end
section
theorem zz_ixl (s : Nat) : ∀ (sc : List Nat) (i : Nat), zz_ix s sc = some i → i < sc.length := by
  intro sc
  induction sc with
  | nil => intro i h; cases h
  | cons x l ih =>
    intro i h
    by_cases z : x = s
    · simp only [zz_ix, if_pos z, Option.some.injEq] at h; subst h; simp
    · simp only [zz_ix, if_neg z] at h
      cases e : zz_ix s l with
      | none => rw [e] at h; cases h
      | some k => rw [e] at h; simp only [Option.map_some, Option.some.injEq] at h; have := ih k e; simp only [List.length_cons]; omega
section
variable {xdrafted xspecial xdefined xhere xdepth xscoped xcells xclosures xtop xundo xpc xenv xbuffer xtaken xoutcome xrunning xclosed : Int32} {xgiven : Int64} {Xdraft XdraftValues Xop Xarg Xparameter Xwaiting Xdone Xhole Xscope Xlocals Xparent Xbodies Xbinds Xscopes Xwhat Xfirst Xsecond Xthird : Nat → Int32} {Xplace Xstack Xcell Xkept : Nat → Int64} {yenvs yclosures ywork ybuffer ysteps ymode yat yenv ykind yvalue ycode ytag yresultKind yresultValue : Int32} {Ykinds Ynumbers Yends Ylengths Yparameters Yspecial YplaceKind YplaceValue Ythere YsymbolOf YplaceOf YnextOf YclosureSymbol YclosureBody YclosureEnv YworkToken YworkPhase YworkEnv YkeptKind YkeptValue YboundPlace YoldKind YoldValue YoldBuffer : Nat → Int32}
theorem zy_pres {Q : Int32 → Prop} {b s : Nat} (hb : b < 3) (hs : s < 8) (hLO : zz_LO Xlocals Ythere) (H : Q (nI (zz_pr Xlocals b s))) : wpY_present Q (yenvs, yclosures, ywork, nI b, ysteps, ymode, yat, yenv, ykind, yvalue, ycode, ytag, yresultKind, yresultValue, Ykinds, Ynumbers, Yends, Ylengths, Yparameters, Yspecial, YplaceKind, YplaceValue, Ythere, YsymbolOf, YplaceOf, YnextOf, YclosureSymbol, YclosureBody, YclosureEnv, YworkToken, YworkPhase, YworkEnv, YkeptKind, YkeptValue, YboundPlace, YoldKind, YoldValue, YoldBuffer) (nI s) := by
  have e8 : ((8 : Int32) + 8 * nI b) + nI s = nI (8 + 8 * b + s) := by rw [show (8 : Int32) = nI 8 from rfl, pk_mul, nI_add, nI_add]
  refine nm_r (e' := nI (8 + 8 * b + s)) e8 (And.intro (vp_in_nI (by omega) (by omega)) ?_)
  rw [nI_clamp (by omega)]
  have h := hLO b s hb hs
  unfold zz_pr at H
  refine br_c (fun z => ?_) (fun z => ?_)
  · rw [if_neg (fun w => h.mp w z)] at H; exact H
  · rw [if_pos (h.mpr z)] at H; exact H
/-- a lexical symbol on both sides -/
theorem zw_look {s : Nat} (hs : s < 8) (hz : Yspecial s = 0) : ∀ (sc : List Nat) (ne : Nat) (e : Int32), ne ≤ 310 → (∀ i, i < ne → Xparent i = YnextOf i) → zz_EV ne YsymbolOf YnextOf sc e → ∀ i, zz_ix s sc = some i → ∃ c, c < ne ∧ (∀ (k : Nat) (Q : Int32 → Prop), k + i < 1000 → Q (nI c) → wX_nearCell_7 Q (nI (k + i)) xdrafted xspecial xdefined xhere xdepth xscoped xcells xclosures xtop xundo xpc xenv xbuffer xtaken xoutcome xrunning xgiven xclosed Xdraft XdraftValues Xop Xarg Xparameter Xwaiting Xdone Xhole Xscope Xplace Xlocals Xstack Xcell Xparent Xbodies Xbinds Xscopes Xwhat Xfirst Xsecond Xthird Xkept (i + 1) e (nI k)) ∧ (∀ Q : Int32 → Prop, Q (YplaceOf c) → wY_placeFor_2 Q (nI s) yenvs yclosures ywork ybuffer ysteps ymode yat yenv ykind yvalue ycode ytag yresultKind yresultValue Ykinds Ynumbers Yends Ylengths Yparameters Yspecial YplaceKind YplaceValue Ythere YsymbolOf YplaceOf YnextOf YclosureSymbol YclosureBody YclosureEnv YworkToken YworkPhase YworkEnv YkeptKind YkeptValue YboundPlace YoldKind YoldValue YoldBuffer (sc.length + 1) e) := by
  have is8 : vp_in (nI s) 8 := vp_in_nI hs (by omega)
  have es : Yspecial (nI s).toNatClampNeg = 0 := by rw [nI_clamp (by omega)]; exact hz
  intro sc
  induction sc with
  | nil =>
    intro ne e hne hpa H i h
    cases h
  | cons x sc ih =>
    intro ne e hne hpa ⟨i0, hi0, e0, hx, hsy, hE⟩ i hi
    subst e0
    have ih1 := ih i0 (YnextOf i0) (by omega) (fun i hi => hpa i (by omega)) hE
    have ii : vp_in (nI i0) 310 := vp_in_nI (by omega) (by omega)
    have ei : (nI i0).toNatClampNeg = i0 := nI_clamp (by omega)
    have ng : ¬ nI i0 < 0 := nI_pos (by omega)
    by_cases z : x = s
    · subst z
      have ix : zz_ix x (x :: sc) = some 0 := by simp [zz_ix]
      rw [ix] at hi
      have hi : i = 0 := (Option.some.inj hi).symm
      subst hi
      refine ⟨i0, hi0, fun k Q hk HQ => br_t (Int32.le_refl _) HQ, fun Q HQ => ?_⟩
      exact br_f ng (And.intro is8 (br_t es (And.intro ii (br_t (by rw [ei]; exact hsy) (And.intro ii (by rw [ei]; exact HQ))))))
    · have ix : zz_ix s (x :: sc) = (zz_ix s sc).map (· + 1) := by simp [zz_ix, z]
      have nes : ¬ YsymbolOf (nI i0).toNatClampNeg = nI s := by rw [ei, hsy, nI_eq (by omega) (by omega)]; exact z
      rw [ix] at hi
      cases ek : zz_ix s sc with
      | none => rw [ek] at hi; cases hi
      | some k0 =>
        rw [ek] at hi
        have hi : i = k0 + 1 := (Option.some.inj hi).symm
        subst hi
        obtain ⟨c, hc, hX, hY⟩ := ih1 k0 ek
        refine ⟨c, by omega, fun k Q hk HQ => ?_, fun Q HQ => ?_⟩
        · refine br_f (nI_ge (by omega) (by omega)) (And.intro (vp_in_nI (by omega) (by omega)) (nm_r (e' := YnextOf i0) (by rw [ei]; exact hpa i0 hi0) (nm_r (nI_1 k) ?_)))
          have := hX (k + 1) Q (by omega) HQ
          rw [show k + 1 + k0 = k + (k0 + 1) from by omega] at this
          exact this
        · exact br_f ng (And.intro is8 (br_t es (And.intro ii (br_f nes (And.intro ii (nm_r (e' := YnextOf i0) (by rw [ei]) (hY Q HQ)))))))
theorem zw_lookN {s : Nat} (hs : s < 8) (hz : Yspecial s = 0) : ∀ (sc : List Nat) (ne : Nat) (e : Int32), ne ≤ 310 → zz_EV ne YsymbolOf YnextOf sc e → zz_ix s sc = none → ∀ Q : Int32 → Prop, wY_placeFor_42 Q (nI s) yenvs yclosures ywork ybuffer ysteps ymode yat yenv ykind yvalue ycode ytag yresultKind yresultValue Ykinds Ynumbers Yends Ylengths Yparameters Yspecial YplaceKind YplaceValue Ythere YsymbolOf YplaceOf YnextOf YclosureSymbol YclosureBody YclosureEnv YworkToken YworkPhase YworkEnv YkeptKind YkeptValue YboundPlace YoldKind YoldValue YoldBuffer → wY_placeFor_2 Q (nI s) yenvs yclosures ywork ybuffer ysteps ymode yat yenv ykind yvalue ycode ytag yresultKind yresultValue Ykinds Ynumbers Yends Ylengths Yparameters Yspecial YplaceKind YplaceValue Ythere YsymbolOf YplaceOf YnextOf YclosureSymbol YclosureBody YclosureEnv YworkToken YworkPhase YworkEnv YkeptKind YkeptValue YboundPlace YoldKind YoldValue YoldBuffer (sc.length + 1) e := by
  have is8 : vp_in (nI s) 8 := vp_in_nI hs (by omega)
  have es : Yspecial (nI s).toNatClampNeg = 0 := by rw [nI_clamp (by omega)]; exact hz
  intro sc
  induction sc with
  | nil =>
    intro ne e hne H _ Q HQ
    have H : e = -1 := H
    subst H
    exact br_t (by decide) HQ
  | cons x sc ih =>
    intro ne e hne ⟨i0, hi0, e0, hx, hsy, hE⟩ h Q HQ
    subst e0
    have ii : vp_in (nI i0) 310 := vp_in_nI (by omega) (by omega)
    have ei : (nI i0).toNatClampNeg = i0 := nI_clamp (by omega)
    have ng : ¬ nI i0 < 0 := nI_pos (by omega)
    by_cases z : x = s
    · subst z
      simp [zz_ix] at h
    · have ix : zz_ix s (x :: sc) = (zz_ix s sc).map (· + 1) := by simp [zz_ix, z]
      have nes : ¬ YsymbolOf (nI i0).toNatClampNeg = nI s := by rw [ei, hsy, nI_eq (by omega) (by omega)]; exact z
      have hn : zz_ix s sc = none := by
        rw [ix] at h
        cases ek : zz_ix s sc with
        | none => rfl
        | some k0 => rw [ek] at h; cases h
      exact br_f ng (And.intro is8 (br_t es (And.intro ii (br_f nes (And.intro ii (nm_r (e' := YnextOf i0) (by rw [ei]) (ih i0 _ (by omega) hE hn Q HQ)))))))
/-- the two ways that a symbol goes -/
theorem zw_near {ne nc s i : Nat} {sc : List Nat} {e : Int32} (hs : s < 8) (hne : ne ≤ 310) (hEN : zz_EN ne nc Xparent Xcell YplaceOf YnextOf YplaceKind YplaceValue) (hE : zz_EV ne YsymbolOf YnextOf sc e) (hl : zz_lk Yspecial s sc = some i) : ∃ c, c < ne ∧ (∀ Q : Int32 → Prop, Q (nI c) → wpX_nearCell Q (xdrafted, xspecial, xdefined, xhere, xdepth, xscoped, xcells, xclosures, xtop, xundo, xpc, e, xbuffer, xtaken, xoutcome, xrunning, xgiven, xclosed, Xdraft, XdraftValues, Xop, Xarg, Xparameter, Xwaiting, Xdone, Xhole, Xscope, Xplace, Xlocals, Xstack, Xcell, Xparent, Xbodies, Xbinds, Xscopes, Xwhat, Xfirst, Xsecond, Xthird, Xkept) (nI i)) ∧ (∀ Q : Int32 → Prop, Q (nI (32 + c)) → wpY_placeFor Q (yenvs, yclosures, ywork, ybuffer, ysteps, ymode, yat, yenv, ykind, yvalue, ycode, ytag, yresultKind, yresultValue, Ykinds, Ynumbers, Yends, Ylengths, Yparameters, Yspecial, YplaceKind, YplaceValue, Ythere, YsymbolOf, YplaceOf, YnextOf, YclosureSymbol, YclosureBody, YclosureEnv, YworkToken, YworkPhase, YworkEnv, YkeptKind, YkeptValue, YboundPlace, YoldKind, YoldValue, YoldBuffer) (nI s) e) := by
  by_cases z : Yspecial s = 0
  · rw [zz_lk, if_pos z] at hl
    obtain ⟨c, hc, hX, hY⟩ := zw_look (Xparent := Xparent) (YnextOf := YnextOf) (YsymbolOf := YsymbolOf) hs z sc ne e hne (fun i hi => (hEN i hi).1) hE i hl
    have l1 := zz_ixl s sc i hl
    have l2 := zz_EVl _ _ _ hE
    refine ⟨c, hc, fun Q HQ => ⟨i + 1, ?_⟩, fun Q HQ => ⟨sc.length + 1, hY Q (by rw [(hEN c hc).2.2.1]; exact HQ)⟩⟩
    have := hX 0 Q (by omega) HQ
    rw [Nat.zero_add] at this
    exact this
  · rw [zz_lk, if_neg z] at hl
    cases hl
theorem zw_far {ne s b : Nat} {sc : List Nat} {e : Int32} (hs : s < 8) (hb : b < 3) (hne : ne ≤ 310) (hE : zz_EV ne YsymbolOf YnextOf sc e) (hLO : zz_LO Xlocals Ythere) (hl : zz_lk Yspecial s sc = none) : ∀ Q : Int32 → Prop, Q (nI (zz_pr Xlocals b s)) → wpY_placeFor Q (yenvs, yclosures, ywork, nI b, ysteps, ymode, yat, yenv, ykind, yvalue, ycode, ytag, yresultKind, yresultValue, Ykinds, Ynumbers, Yends, Ylengths, Yparameters, Yspecial, YplaceKind, YplaceValue, Ythere, YsymbolOf, YplaceOf, YnextOf, YclosureSymbol, YclosureBody, YclosureEnv, YworkToken, YworkPhase, YworkEnv, YkeptKind, YkeptValue, YboundPlace, YoldKind, YoldValue, YoldBuffer) (nI s) e := by
  intro Q HQ
  have h42 : wY_placeFor_42 Q (nI s) yenvs yclosures ywork (nI b) ysteps ymode yat yenv ykind yvalue ycode ytag yresultKind yresultValue Ykinds Ynumbers Yends Ylengths Yparameters Yspecial YplaceKind YplaceValue Ythere YsymbolOf YplaceOf YnextOf YclosureSymbol YclosureBody YclosureEnv YworkToken YworkPhase YworkEnv YkeptKind YkeptValue YboundPlace YoldKind YoldValue YoldBuffer := zy_pres hb hs hLO HQ
  by_cases z : Yspecial s = 0
  · rw [zz_lk, if_pos z] at hl
    exact ⟨sc.length + 1, zw_lookN hs z sc ne e hne hE hl Q h42⟩
  · refine ⟨1, br_c (fun _ => h42) (fun _ => And.intro (vp_in_nI hs (by omega)) (br_f (by rw [nI_clamp (by omega)]; exact z) h42))⟩
end
/-! runs -/
def zx_R (post : Int32 → SX → Prop) (n : Nat) (u : SX) : Prop := match u with
  | (xdrafted, xspecial, xdefined, xhere, xdepth, xscoped, xcells, xclosures, xtop, xundo, xpc, xenv, xbuffer, xtaken, xoutcome, xrunning, xgiven, xclosed, Xdraft, XdraftValues, Xop, Xarg, Xparameter, Xwaiting, Xdone, Xhole, Xscope, Xplace, Xlocals, Xstack, Xcell, Xparent, Xbodies, Xbinds, Xscopes, Xwhat, Xfirst, Xsecond, Xthird, Xkept) => wX_run_81 post n xdrafted xspecial xdefined xhere xdepth xscoped xcells xclosures xtop xundo xpc xenv xbuffer xtaken xoutcome xrunning xgiven xclosed Xdraft XdraftValues Xop Xarg Xparameter Xwaiting Xdone Xhole Xscope Xplace Xlocals Xstack Xcell Xparent Xbodies Xbinds Xscopes Xwhat Xfirst Xsecond Xthird Xkept
def zy_R (post : Int32 → SY → Prop) (n : Nat) (v : SY) : Prop := match v with
  | (yenvs, yclosures, ywork, ybuffer, ysteps, ymode, yat, yenv, ykind, yvalue, ycode, ytag, yresultKind, yresultValue, Ykinds, Ynumbers, Yends, Ylengths, Yparameters, Yspecial, YplaceKind, YplaceValue, Ythere, YsymbolOf, YplaceOf, YnextOf, YclosureSymbol, YclosureBody, YclosureEnv, YworkToken, YworkPhase, YworkEnv, YkeptKind, YkeptValue, YboundPlace, YoldKind, YoldValue, YoldBuffer) => wY_run_63 post n 1 yenvs yclosures ywork ybuffer ysteps ymode yat yenv ykind yvalue ycode ytag yresultKind yresultValue Ykinds Ynumbers Yends Ylengths Yparameters Yspecial YplaceKind YplaceValue Ythere YsymbolOf YplaceOf YnextOf YclosureSymbol YclosureBody YclosureEnv YworkToken YworkPhase YworkEnv YkeptKind YkeptValue YboundPlace YoldKind YoldValue YoldBuffer
def zx_S (u u1 : SX) : Prop := ∃ j, ∀ (post : Int32 → SX → Prop) (m : Nat), zx_R post m u1 → zx_R post (m + j) u
def zy_S (v v1 : SY) : Prop := ∃ j, ∀ (post : Int32 → SY → Prop) (m : Nat), zy_R post m v1 → zy_R post (m + j) v
theorem zx_Sr {u : SX} : zx_S u u := ⟨0, fun _ _ h => h⟩
theorem zy_Sr {v : SY} : zy_S v v := ⟨0, fun _ _ h => h⟩
theorem zx_St {u u1 u2 : SX} (h1 : zx_S u u1) (h2 : zx_S u1 u2) : zx_S u u2 := by
  obtain ⟨i, h1⟩ := h1
  obtain ⟨j, h2⟩ := h2
  exact ⟨j + i, fun post m h => by rw [← Nat.add_assoc]; exact h1 post _ (h2 post m h)⟩
theorem zy_St {u u1 u2 : SY} (h1 : zy_S u u1) (h2 : zy_S u1 u2) : zy_S u u2 := by
  obtain ⟨i, h1⟩ := h1
  obtain ⟨j, h2⟩ := h2
  exact ⟨j + i, fun post m h => by rw [← Nat.add_assoc]; exact h1 post _ (h2 post m h)⟩
section
variable {xdrafted xspecial xdefined xhere xdepth xscoped xcells xclosures xtop xundo xpc xenv xbuffer xtaken xoutcome xrunning xclosed : Int32} {xgiven : Int64} {Xdraft XdraftValues Xop Xarg Xparameter Xwaiting Xdone Xhole Xscope Xlocals Xparent Xbodies Xbinds Xscopes Xwhat Xfirst Xsecond Xthird : Nat → Int32} {Xplace Xstack Xcell Xkept : Nat → Int64} {yenvs yclosures ywork ybuffer ysteps ymode yat yenv ykind yvalue ycode ytag yresultKind yresultValue : Int32} {Ykinds Ynumbers Yends Ylengths Yparameters Yspecial YplaceKind YplaceValue Ythere YsymbolOf YplaceOf YnextOf YclosureSymbol YclosureBody YclosureEnv YworkToken YworkPhase YworkEnv YkeptKind YkeptValue YboundPlace YoldKind YoldValue YoldBuffer : Nat → Int32} {u1 : SX} {v1 : SY}
theorem zx_SG (H : zx_G (xdrafted, xspecial, xdefined, xhere, xdepth, xscoped, xcells, xclosures, xtop, xundo, xpc, xenv, xbuffer, xtaken, xoutcome, 1, xgiven, xclosed, Xdraft, XdraftValues, Xop, Xarg, Xparameter, Xwaiting, Xdone, Xhole, Xscope, Xplace, Xlocals, Xstack, Xcell, Xparent, Xbodies, Xbinds, Xscopes, Xwhat, Xfirst, Xsecond, Xthird, Xkept) u1) : zx_S (xdrafted, xspecial, xdefined, xhere, xdepth, xscoped, xcells, xclosures, xtop, xundo, xpc, xenv, xbuffer, xtaken, xoutcome, 1, xgiven, xclosed, Xdraft, XdraftValues, Xop, Xarg, Xparameter, Xwaiting, Xdone, Xhole, Xscope, Xplace, Xlocals, Xstack, Xcell, Xparent, Xbodies, Xbinds, Xscopes, Xwhat, Xfirst, Xsecond, Xthird, Xkept) u1 := ⟨1, fun post m h => br_f (by decide) (H (zx_R post m) h)⟩
theorem zy_SE (H : zy_E (yenvs, yclosures, ywork, ybuffer, ysteps, 1, yat, yenv, ykind, yvalue, ycode, ytag, yresultKind, yresultValue, Ykinds, Ynumbers, Yends, Ylengths, Yparameters, Yspecial, YplaceKind, YplaceValue, Ythere, YsymbolOf, YplaceOf, YnextOf, YclosureSymbol, YclosureBody, YclosureEnv, YworkToken, YworkPhase, YworkEnv, YkeptKind, YkeptValue, YboundPlace, YoldKind, YoldValue, YoldBuffer) v1) : zy_S (yenvs, yclosures, ywork, ybuffer, ysteps, 1, yat, yenv, ykind, yvalue, ycode, ytag, yresultKind, yresultValue, Ykinds, Ynumbers, Yends, Ylengths, Yparameters, Yspecial, YplaceKind, YplaceValue, Ythere, YsymbolOf, YplaceOf, YnextOf, YclosureSymbol, YclosureBody, YclosureEnv, YworkToken, YworkPhase, YworkEnv, YkeptKind, YkeptValue, YboundPlace, YoldKind, YoldValue, YoldBuffer) v1 := ⟨1, fun post m h => br_f (by decide) (br_t rfl (H (zy_R post m) h))⟩
theorem zy_SG {w : Nat} (hw : w < 320) (H : zy_G (yenvs, yclosures, nI (w + 1), ybuffer, ysteps, 0, yat, yenv, ykind, yvalue, ycode, ytag, yresultKind, yresultValue, Ykinds, Ynumbers, Yends, Ylengths, Yparameters, Yspecial, YplaceKind, YplaceValue, Ythere, YsymbolOf, YplaceOf, YnextOf, YclosureSymbol, YclosureBody, YclosureEnv, YworkToken, YworkPhase, YworkEnv, YkeptKind, YkeptValue, YboundPlace, YoldKind, YoldValue, YoldBuffer) v1) : zy_S (yenvs, yclosures, nI (w + 1), ybuffer, ysteps, 0, yat, yenv, ykind, yvalue, ycode, ytag, yresultKind, yresultValue, Ykinds, Ynumbers, Yends, Ylengths, Yparameters, Yspecial, YplaceKind, YplaceValue, Ythere, YsymbolOf, YplaceOf, YnextOf, YclosureSymbol, YclosureBody, YclosureEnv, YworkToken, YworkPhase, YworkEnv, YkeptKind, YkeptValue, YboundPlace, YoldKind, YoldValue, YoldBuffer) v1 := ⟨1, fun post m h => br_f (by decide) (br_f (by decide) (br_t rfl (br_f (nI_nle (by omega) (by omega)) (H (zy_R post m) h))))⟩
theorem zy_SN {w : Nat} (hw : w < 320) (H : zy_N (yenvs, yclosures, nI (w + 1), ybuffer, ysteps, 2, yat, yenv, ykind, yvalue, ycode, ytag, yresultKind, yresultValue, Ykinds, Ynumbers, Yends, Ylengths, Yparameters, Yspecial, YplaceKind, YplaceValue, Ythere, YsymbolOf, YplaceOf, YnextOf, YclosureSymbol, YclosureBody, YclosureEnv, YworkToken, YworkPhase, YworkEnv, YkeptKind, YkeptValue, YboundPlace, YoldKind, YoldValue, YoldBuffer) v1) : zy_S (yenvs, yclosures, nI (w + 1), ybuffer, ysteps, 2, yat, yenv, ykind, yvalue, ycode, ytag, yresultKind, yresultValue, Ykinds, Ynumbers, Yends, Ylengths, Yparameters, Yspecial, YplaceKind, YplaceValue, Ythere, YsymbolOf, YplaceOf, YnextOf, YclosureSymbol, YclosureBody, YclosureEnv, YworkToken, YworkPhase, YworkEnv, YkeptKind, YkeptValue, YboundPlace, YoldKind, YoldValue, YoldBuffer) v1 := ⟨1, fun post m h => br_f (by decide) (br_f (by decide) (br_f (by decide) (br_t rfl (br_f (nI_nle (by omega) (by omega)) (H (zy_R post m) h)))))⟩
end
end
section
def zz_Rel (u : SX) (v : SY) : Prop := match u with
  | (xdrafted, xspecial, xdefined, xhere, xdepth, xscoped, xcells, xclosures, xtop, xundo, xpc, xenv, xbuffer, xtaken, xoutcome, xrunning, xgiven, xclosed, Xdraft, XdraftValues, Xop, Xarg, Xparameter, Xwaiting, Xdone, Xhole, Xscope, Xplace, Xlocals, Xstack, Xcell, Xparent, Xbodies, Xbinds, Xscopes, Xwhat, Xfirst, Xsecond, Xthird, Xkept) => match v with
    | (yenvs, yclosures, ywork, ybuffer, ysteps, ymode, yat, yenv, ykind, yvalue, ycode, ytag, yresultKind, yresultValue, Ykinds, Ynumbers, Yends, Ylengths, Yparameters, Yspecial, YplaceKind, YplaceValue, Ythere, YsymbolOf, YplaceOf, YnextOf, YclosureSymbol, YclosureBody, YclosureEnv, YworkToken, YworkPhase, YworkEnv, YkeptKind, YkeptValue, YboundPlace, YoldKind, YoldValue, YoldBuffer) => zz_ST xdrafted xspecial xdefined Xdraft XdraftValues Xop Xarg Xparameter Ykinds Ynumbers Yends Ylengths Yparameters Yspecial ∧ zz_PL 0 Xplace YplaceKind YplaceValue Ythere ∧ zz_LO Xlocals Ythere ∧ zz_RS xgiven xclosed yresultKind yresultValue ∧ xtaken = ysteps
def zz_FI (u : SX) (v : SY) : Prop := ∃ (r : Int32) (u' : SX) (v' : SY), zz_Rel u' v' ∧ (∃ m, ∀ post : Int32 → SX → Prop, post r u' → zx_R post m u) ∧ (∃ m, ∀ post : Int32 → SY → Prop, post r v' → zy_R post m v)
def zx_K (pl pl' : Nat → Int64) (k : Nat) : Prop := ∀ p, pl' p = if p < k ∧ ¬ pl p < 30000000000 then 20000000000 else pl p
def zy_K (pk pk' : Nat → Int32) (k : Nat) : Prop := ∀ p, pk' p = if p < k ∧ pk p = 1 then 2 else pk p
theorem zx_Ks {pl p1 : Nat → Int64} {k : Nat} (h : zx_K pl p1 k) : (p1 k < 30000000000 → zx_K pl p1 (k + 1)) ∧ (¬ p1 k < 30000000000 → zx_K pl (vp_updL p1 k 20000000000) (k + 1)) := by
  have hk : p1 k = pl k := by rw [h k, if_neg (by omega)]
  rw [hk]
  constructor
  · intro z p
    rw [h p]
    by_cases e : p = k
    · subst e; rw [if_neg (by omega), if_neg (fun w => w.2 z)]
    · by_cases w : p < k ∧ ¬ pl p < 30000000000
      · rw [if_pos w, if_pos ⟨by omega, w.2⟩]
      · rw [if_neg w, if_neg (fun y => w ⟨by omega, y.2⟩)]
  · intro z p
    by_cases e : p = k
    · subst e; rw [pk_uLs, if_pos ⟨by omega, z⟩]
    · rw [pk_uLn e, h p]
      by_cases w : p < k ∧ ¬ pl p < 30000000000
      · rw [if_pos w, if_pos ⟨by omega, w.2⟩]
      · rw [if_neg w, if_neg (fun y => w ⟨by omega, y.2⟩)]
theorem zy_Ks {pl p1 : Nat → Int32} {k : Nat} (h : zy_K pl p1 k) : (p1 k = 1 → zy_K pl (upd p1 k 2) (k + 1)) ∧ (¬ p1 k = 1 → zy_K pl p1 (k + 1)) := by
  have hk : p1 k = pl k := by rw [h k, if_neg (by omega)]
  rw [hk]
  constructor
  · intro z p
    by_cases e : p = k
    · subst e; rw [pk_us, if_pos ⟨by omega, z⟩]
    · rw [pk_un e, h p]
      by_cases w : p < k ∧ pl p = 1
      · rw [if_pos w, if_pos ⟨by omega, w.2⟩]
      · rw [if_neg w, if_neg (fun y => w ⟨by omega, y.2⟩)]
  · intro z p
    rw [h p]
    by_cases e : p = k
    · subst e; rw [if_neg (by omega), if_neg (fun w => z w.2)]
    · by_cases w : p < k ∧ pl p = 1
      · rw [if_pos w, if_pos ⟨by omega, w.2⟩]
      · rw [if_neg w, if_neg (fun y => w ⟨by omega, y.2⟩)]
/-- what is left of the places -/
theorem zw_K {nc : Nat} {pl pl' : Nat → Int64} {pk pk' pv th : Nat → Int32} (hn : nc < 1000) (hx : zx_K pl pl' 32) (hy : zy_K pk pk' 32) (H : zz_PL nc pl pk pv th) : zz_PL 0 pl' pk' pv th := by
  intro p h1 h2
  obtain ⟨h3, h4⟩ := H p h1 h2
  rw [hx p, hy p, h3]
  by_cases z : pk p = 1
  · rw [if_pos ⟨h1, fun w => (zz_lt hn h4).mp w z⟩, if_pos ⟨h1, z⟩]
    exact ⟨rfl, Or.inr rfl⟩
  · rw [if_neg (fun w => w.2 ((zz_lt hn h4).mpr z)), if_neg (fun w => z w.2)]
    refine ⟨rfl, ?_⟩
    rcases h4 with (h4 | ⟨h4, _⟩) | h4
    · exact Or.inl (Or.inl h4)
    · exact absurd h4 z
    · exact Or.inr h4
section
variable {xdrafted xspecial xdefined xhere xdepth xscoped xcells xclosures xtop xundo xpc xenv xbuffer xtaken xoutcome xrunning xclosed : Int32} {xgiven : Int64} {Xdraft XdraftValues Xop Xarg Xparameter Xwaiting Xdone Xhole Xscope Xlocals Xparent Xbodies Xbinds Xscopes Xwhat Xfirst Xsecond Xthird : Nat → Int32} {Xplace Xstack Xcell Xkept : Nat → Int64} {yenvs yclosures ywork ybuffer ysteps ymode yat yenv ykind yvalue ycode ytag yresultKind yresultValue : Int32} {Ykinds Ynumbers Yends Ylengths Yparameters Yspecial YplaceKind YplaceValue Ythere YsymbolOf YplaceOf YnextOf YclosureSymbol YclosureBody YclosureEnv YworkToken YworkPhase YworkEnv YkeptKind YkeptValue YboundPlace YoldKind YoldValue YoldBuffer : Nat → Int32}
theorem zx_fin0 {pl : Nat → Int64} : ∀ (d k : Nat) (p1 : Nat → Int64), k + d = 32 → zx_K pl p1 k → ∃ pl', zx_K pl pl' 32 ∧ ∀ post : Int32 → SX → Prop, post xoutcome (xdrafted, xspecial, xdefined, xhere, xdepth, xscoped, xcells, xclosures, xtop, xundo, xpc, xenv, xbuffer, xtaken, xoutcome, xrunning, xgiven, xclosed, Xdraft, XdraftValues, Xop, Xarg, Xparameter, Xwaiting, Xdone, Xhole, Xscope, pl', Xlocals, Xstack, Xcell, Xparent, Xbodies, Xbinds, Xscopes, Xwhat, Xfirst, Xsecond, Xthird, Xkept) → wX_run_152 post xdrafted xspecial xdefined xhere xdepth xscoped xcells xclosures xtop xundo xpc xenv xbuffer xtaken xoutcome xrunning xgiven xclosed (d + 1) (nI k) Xdraft XdraftValues Xop Xarg Xparameter Xwaiting Xdone Xhole Xscope p1 Xlocals Xstack Xcell Xparent Xbodies Xbinds Xscopes Xwhat Xfirst Xsecond Xthird Xkept := by
  intro d
  induction d with
  | zero =>
    intro k p1 hk h
    have e : k = 32 := by omega
    subst e
    exact ⟨p1, h, fun post HP => br_t (by decide) HP⟩
  | succ d ih =>
    intro k p1 hk h
    have ik : vp_in (nI k) 32 := vp_in_nI (by omega) (by omega)
    have ek : (nI k).toNatClampNeg = k := nI_clamp (by omega)
    have hle : ¬ (32 : Int32) ≤ nI k := nI_ge (a := k) (b := 32) (by omega) (by omega)
    by_cases z : p1 k < 30000000000
    · obtain ⟨pl', h1, h2⟩ := ih (k + 1) p1 (by omega) ((zx_Ks h).1 z)
      exact ⟨pl', h1, fun post HP => br_f hle (And.intro ik (br_t (by rw [ek]; exact z) (nm_r (nI_1 k) (h2 post HP))))⟩
    · obtain ⟨pl', h1, h2⟩ := ih (k + 1) (vp_updL p1 k 20000000000) (by omega) ((zx_Ks h).2 z)
      exact ⟨pl', h1, fun post HP => br_f hle (And.intro ik (br_f (by rw [ek]; exact z) (And.intro ik (nm_r (e' := vp_updL p1 k 20000000000) (by rw [ek]) (nm_r (nI_1 k) (h2 post HP))))))⟩
theorem zx_fin : ∃ pl', zx_K Xplace pl' 32 ∧ ∀ post : Int32 → SX → Prop, post xoutcome (xdrafted, xspecial, xdefined, xhere, xdepth, xscoped, xcells, xclosures, xtop, xundo, xpc, xenv, xbuffer, xtaken, xoutcome, xrunning, xgiven, xclosed, Xdraft, XdraftValues, Xop, Xarg, Xparameter, Xwaiting, Xdone, Xhole, Xscope, pl', Xlocals, Xstack, Xcell, Xparent, Xbodies, Xbinds, Xscopes, Xwhat, Xfirst, Xsecond, Xthird, Xkept) → ∃ n, wX_run_152 post xdrafted xspecial xdefined xhere xdepth xscoped xcells xclosures xtop xundo xpc xenv xbuffer xtaken xoutcome xrunning xgiven xclosed n 0 Xdraft XdraftValues Xop Xarg Xparameter Xwaiting Xdone Xhole Xscope Xplace Xlocals Xstack Xcell Xparent Xbodies Xbinds Xscopes Xwhat Xfirst Xsecond Xthird Xkept := by
  obtain ⟨pl', h1, h2⟩ := zx_fin0 (pl := Xplace) 32 0 Xplace (by omega) (fun p => by rw [if_neg (by omega)])
  exact ⟨pl', h1, fun post HP => ⟨33, h2 post HP⟩⟩
theorem zy_fin0 {pk : Nat → Int32} {r : Int32} (hr : (ymode = 0 ∧ r = 0) ∨ (ymode = 3 ∧ r = 5) ∨ (ymode = 2 ∧ r = ycode)) : ∀ (d k : Nat) (p1 : Nat → Int32), k + d = 32 → zy_K pk p1 k → ∃ pk', zy_K pk pk' 32 ∧ ∀ post : Int32 → SY → Prop, post r (yenvs, yclosures, ywork, ybuffer, ysteps, ymode, yat, yenv, ykind, yvalue, ycode, ytag, yresultKind, yresultValue, Ykinds, Ynumbers, Yends, Ylengths, Yparameters, Yspecial, pk', YplaceValue, Ythere, YsymbolOf, YplaceOf, YnextOf, YclosureSymbol, YclosureBody, YclosureEnv, YworkToken, YworkPhase, YworkEnv, YkeptKind, YkeptValue, YboundPlace, YoldKind, YoldValue, YoldBuffer) → wY_run_187 post yenvs yclosures ywork ybuffer ysteps ymode yat yenv ykind yvalue ycode ytag yresultKind yresultValue (d + 1) (nI k) Ykinds Ynumbers Yends Ylengths Yparameters Yspecial p1 YplaceValue Ythere YsymbolOf YplaceOf YnextOf YclosureSymbol YclosureBody YclosureEnv YworkToken YworkPhase YworkEnv YkeptKind YkeptValue YboundPlace YoldKind YoldValue YoldBuffer := by
  intro d
  induction d with
  | zero =>
    intro k p1 hk h
    have e : k = 32 := by omega
    subst e
    refine ⟨p1, h, fun post HP => br_t (by decide) ?_⟩
    rcases hr with ⟨h1, h2⟩ | ⟨h1, h2⟩ | ⟨h1, h2⟩ <;> subst h1 <;> subst h2
    · exact br_t rfl HP
    · exact br_f (by decide) (br_t rfl HP)
    · exact br_f (by decide) (br_f (by decide) HP)
  | succ d ih =>
    intro k p1 hk h
    have ik : vp_in (nI k) 340 := vp_in_nI (by omega) (by omega)
    have ek : (nI k).toNatClampNeg = k := nI_clamp (by omega)
    have hle : ¬ (32 : Int32) ≤ nI k := nI_ge (a := k) (b := 32) (by omega) (by omega)
    by_cases z : p1 k = 1
    · obtain ⟨pl', h1, h2⟩ := ih (k + 1) (upd p1 k 2) (by omega) ((zy_Ks h).1 z)
      exact ⟨pl', h1, fun post HP => br_f hle (And.intro ik (br_t (by rw [ek]; exact z) (And.intro ik (nm_r (e' := upd p1 k 2) (by rw [ek]) (nm_r (nI_1 k) (h2 post HP))))))⟩
    · obtain ⟨pl', h1, h2⟩ := ih (k + 1) p1 (by omega) ((zy_Ks h).2 z)
      exact ⟨pl', h1, fun post HP => br_f hle (And.intro ik (br_f (by rw [ek]; exact z) (nm_r (nI_1 k) (h2 post HP))))⟩
/-- the end of Y's run, nothing at work -/
theorem zy_fin {r : Int32} (hr : (ymode = 0 ∧ r = 0) ∨ (ymode = 3 ∧ r = 5) ∨ (ymode = 2 ∧ r = ycode)) : ∃ pk', zy_K YplaceKind pk' 32 ∧ ∀ post : Int32 → SY → Prop, post r (yenvs, yclosures, nI 0, ybuffer, ysteps, ymode, yat, yenv, ykind, yvalue, ycode, ytag, if ymode = 0 then ykind else 2, yvalue, Ykinds, Ynumbers, Yends, Ylengths, Yparameters, Yspecial, pk', YplaceValue, Ythere, YsymbolOf, YplaceOf, YnextOf, YclosureSymbol, YclosureBody, YclosureEnv, YworkToken, YworkPhase, YworkEnv, YkeptKind, YkeptValue, YboundPlace, YoldKind, YoldValue, YoldBuffer) → wY_run_130 post 1 yenvs yclosures (nI 0) ybuffer ysteps ymode yat yenv ykind yvalue ycode ytag yresultKind yresultValue Ykinds Ynumbers Yends Ylengths Yparameters Yspecial YplaceKind YplaceValue Ythere YsymbolOf YplaceOf YnextOf YclosureSymbol YclosureBody YclosureEnv YworkToken YworkPhase YworkEnv YkeptKind YkeptValue YboundPlace YoldKind YoldValue YoldBuffer := by
  obtain ⟨pk', h1, h2⟩ := zy_fin0 (pk := YplaceKind) (ywork := nI 0) (yresultKind := if ymode = 0 then ykind else 2) (yresultValue := yvalue) hr 32 0 YplaceKind (by omega) (fun p => by rw [if_neg (by omega)])
  refine ⟨pk', h1, fun post HP => br_t (by decide) ?_⟩
  have := h2 post HP
  by_cases z : ymode = 0
  · refine br_t z ⟨33, ?_⟩
    rw [if_pos z] at this
    exact this
  · refine br_f z ⟨33, ?_⟩
    rw [if_neg z] at this
    exact this
theorem zz_fb0 : fits .boolean (.int 0) = true := by decide
theorem zz_fb1 : fits .boolean (.int 1) = true := by decide
/-- X's run ends with an error -/
theorem zx_finE {o : Int32} (ho : ¬ o = 0) : ∃ pl', zx_K Xplace pl' 32 ∧ ∀ post : Int32 → SX → Prop, post o (xdrafted, xspecial, xdefined, xhere, xdepth, xscoped, xcells, xclosures, xtop, xundo, xpc, xenv, xbuffer, xtaken, o, 0, 10000000000, 0, Xdraft, XdraftValues, Xop, Xarg, Xparameter, Xwaiting, Xdone, Xhole, Xscope, pl', Xlocals, Xstack, Xcell, Xparent, Xbodies, Xbinds, Xscopes, Xwhat, Xfirst, Xsecond, Xthird, Xkept) → zx_R post 1 (xdrafted, xspecial, xdefined, xhere, xdepth, xscoped, xcells, xclosures, xtop, xundo, xpc, xenv, xbuffer, xtaken, o, 0, xgiven, xclosed, Xdraft, XdraftValues, Xop, Xarg, Xparameter, Xwaiting, Xdone, Xhole, Xscope, Xplace, Xlocals, Xstack, Xcell, Xparent, Xbodies, Xbinds, Xscopes, Xwhat, Xfirst, Xsecond, Xthird, Xkept) := by
  obtain ⟨pl', h1, h2⟩ := zx_fin (Xplace := Xplace) (xoutcome := o) (xrunning := 0) (xgiven := 10000000000) (xclosed := 0)
  exact ⟨pl', h1, fun post HP => br_t rfl (br_f ho (h2 post HP))⟩
theorem zx_finK {nc : Nat} {k v : Int32} (hn : nc < 1000) (hV : zz_V nc k v) (hs : Xstack 0 = zz_en k v) : ∃ pl' gv cl, zx_K Xplace pl' 32 ∧ zz_RS gv cl k v ∧ ∀ post : Int32 → SX → Prop, post 0 (xdrafted, xspecial, xdefined, xhere, xdepth, xscoped, xcells, xclosures, xtop, xundo, xpc, xenv, xbuffer, xtaken, 0, 0, gv, cl, Xdraft, XdraftValues, Xop, Xarg, Xparameter, Xwaiting, Xdone, Xhole, Xscope, pl', Xlocals, Xstack, Xcell, Xparent, Xbodies, Xbinds, Xscopes, Xwhat, Xfirst, Xsecond, Xthird, Xkept) → zx_R post 1 (xdrafted, xspecial, xdefined, xhere, xdepth, xscoped, xcells, xclosures, xtop, xundo, xpc, xenv, xbuffer, xtaken, 0, 0, xgiven, xclosed, Xdraft, XdraftValues, Xop, Xarg, Xparameter, Xwaiting, Xdone, Xhole, Xscope, Xplace, Xlocals, Xstack, Xcell, Xparent, Xbodies, Xbinds, Xscopes, Xwhat, Xfirst, Xsecond, Xthird, Xkept) := by
  by_cases z : k = 1
  · obtain ⟨pl', h1, h2⟩ := zx_fin (Xplace := Xplace) (Xstack := Xstack) (xoutcome := 0) (xrunning := 0) (xgiven := 10000000000) (xclosed := 1)
    refine ⟨pl', 10000000000, 1, h1, ?_, fun post HP => br_t rfl (br_t rfl (nm_r (e' := zz_en k v) hs (br_f (fun w => (zz_lt hn (Or.inl hV)).mp w z) ?_)))⟩
    · subst z; exact ⟨rfl, rfl⟩
    · exact And.intro narrow_b1 (And.intro zz_fb1 (br_f (by decide) (h2 post HP)))
  · have hk : k = 0 := by
      rcases hV with h | ⟨h, _⟩
      · exact h
      · exact absurd h z
    subst hk
    obtain ⟨pl', h1, h2⟩ := zx_fin (Xplace := Xplace) (Xstack := Xstack) (xoutcome := 0) (xrunning := 0) (xgiven := zz_en 0 v) (xclosed := 0)
    refine ⟨pl', zz_en 0 v, 0, h1, ⟨rfl, rfl⟩, fun post HP => br_t rfl (br_t rfl (nm_r (e' := zz_en 0 v) hs (br_t ((zz_lt hn (Or.inl hV)).mpr z) ?_)))⟩
    exact And.intro narrow_b0 (And.intro zz_fb0 (br_t rfl (h2 post HP)))
/-- both runs end with an error -/
theorem zw_finE {nc sN : Nat} (hn : nc < 1000) (hST : zz_ST xdrafted xspecial xdefined Xdraft XdraftValues Xop Xarg Xparameter Ykinds Ynumbers Yends Ylengths Yparameters Yspecial) (hPL : zz_PL nc Xplace YplaceKind YplaceValue Ythere) (hLO : zz_LO Xlocals Ythere) (hc : ¬ ycode = 0) : zz_FI (xdrafted, xspecial, xdefined, xhere, xdepth, xscoped, xcells, xclosures, xtop, xundo, xpc, xenv, xbuffer, nI sN, ycode, 0, xgiven, xclosed, Xdraft, XdraftValues, Xop, Xarg, Xparameter, Xwaiting, Xdone, Xhole, Xscope, Xplace, Xlocals, Xstack, Xcell, Xparent, Xbodies, Xbinds, Xscopes, Xwhat, Xfirst, Xsecond, Xthird, Xkept) (yenvs, yclosures, nI 0, ybuffer, nI sN, 2, yat, yenv, ykind, yvalue, ycode, ytag, yresultKind, yresultValue, Ykinds, Ynumbers, Yends, Ylengths, Yparameters, Yspecial, YplaceKind, YplaceValue, Ythere, YsymbolOf, YplaceOf, YnextOf, YclosureSymbol, YclosureBody, YclosureEnv, YworkToken, YworkPhase, YworkEnv, YkeptKind, YkeptValue, YboundPlace, YoldKind, YoldValue, YoldBuffer) := by
  obtain ⟨pl', h1, h2⟩ := zx_finE (Xplace := Xplace) (xtaken := nI sN) hc
  obtain ⟨pk', h3, h4⟩ := zy_fin (YplaceKind := YplaceKind) (ysteps := nI sN) (ymode := 2) (r := ycode) (Or.inr (Or.inr ⟨rfl, rfl⟩))
  refine ⟨ycode, (xdrafted, xspecial, xdefined, xhere, xdepth, xscoped, xcells, xclosures, xtop, xundo, xpc, xenv, xbuffer, nI sN, ycode, 0, 10000000000, 0, Xdraft, XdraftValues, Xop, Xarg, Xparameter, Xwaiting, Xdone, Xhole, Xscope, pl', Xlocals, Xstack, Xcell, Xparent, Xbodies, Xbinds, Xscopes, Xwhat, Xfirst, Xsecond, Xthird, Xkept), (yenvs, yclosures, nI 0, ybuffer, nI sN, 2, yat, yenv, ykind, yvalue, ycode, ytag, if (2 : Int32) = 0 then ykind else 2, yvalue, Ykinds, Ynumbers, Yends, Ylengths, Yparameters, Yspecial, pk', YplaceValue, Ythere, YsymbolOf, YplaceOf, YnextOf, YclosureSymbol, YclosureBody, YclosureEnv, YworkToken, YworkPhase, YworkEnv, YkeptKind, YkeptValue, YboundPlace, YoldKind, YoldValue, YoldBuffer), ?_, ⟨1, h2⟩, ⟨2, fun post HP => ?_⟩⟩
  · exact ⟨hST, zw_K hn h1 h3 hPL, hLO, ⟨rfl, rfl⟩, rfl⟩
  · exact br_f (by decide) (br_f (by decide) (br_f (by decide) (br_t rfl (br_t (by decide) (br_t rfl ⟨1, h4 post HP⟩)))))
/-- .. with a value -/
theorem zw_finK {nc sN : Nat} (hn : nc < 1000) (hST : zz_ST xdrafted xspecial xdefined Xdraft XdraftValues Xop Xarg Xparameter Ykinds Ynumbers Yends Ylengths Yparameters Yspecial) (hPL : zz_PL nc Xplace YplaceKind YplaceValue Ythere) (hLO : zz_LO Xlocals Ythere) (hV : zz_V nc ykind yvalue) (hs : Xstack 0 = zz_en ykind yvalue) : zz_FI (xdrafted, xspecial, xdefined, xhere, xdepth, xscoped, xcells, xclosures, xtop, xundo, xpc, xenv, xbuffer, nI sN, 0, 0, xgiven, xclosed, Xdraft, XdraftValues, Xop, Xarg, Xparameter, Xwaiting, Xdone, Xhole, Xscope, Xplace, Xlocals, Xstack, Xcell, Xparent, Xbodies, Xbinds, Xscopes, Xwhat, Xfirst, Xsecond, Xthird, Xkept) (yenvs, yclosures, nI 0, ybuffer, nI sN, 0, yat, yenv, ykind, yvalue, ycode, ytag, yresultKind, yresultValue, Ykinds, Ynumbers, Yends, Ylengths, Yparameters, Yspecial, YplaceKind, YplaceValue, Ythere, YsymbolOf, YplaceOf, YnextOf, YclosureSymbol, YclosureBody, YclosureEnv, YworkToken, YworkPhase, YworkEnv, YkeptKind, YkeptValue, YboundPlace, YoldKind, YoldValue, YoldBuffer) := by
  obtain ⟨pl', gv, cl, h1, hr, h2⟩ := zx_finK (Xplace := Xplace) (xtaken := nI sN) hn hV hs
  obtain ⟨pk', h3, h4⟩ := zy_fin (YplaceKind := YplaceKind) (ykind := ykind) (yvalue := yvalue) (ysteps := nI sN) (ymode := 0) (r := 0) (Or.inl ⟨rfl, rfl⟩)
  refine ⟨0, (xdrafted, xspecial, xdefined, xhere, xdepth, xscoped, xcells, xclosures, xtop, xundo, xpc, xenv, xbuffer, nI sN, 0, 0, gv, cl, Xdraft, XdraftValues, Xop, Xarg, Xparameter, Xwaiting, Xdone, Xhole, Xscope, pl', Xlocals, Xstack, Xcell, Xparent, Xbodies, Xbinds, Xscopes, Xwhat, Xfirst, Xsecond, Xthird, Xkept), (yenvs, yclosures, nI 0, ybuffer, nI sN, 0, yat, yenv, ykind, yvalue, ycode, ytag, if (0 : Int32) = 0 then ykind else 2, yvalue, Ykinds, Ynumbers, Yends, Ylengths, Yparameters, Yspecial, pk', YplaceValue, Ythere, YsymbolOf, YplaceOf, YnextOf, YclosureSymbol, YclosureBody, YclosureEnv, YworkToken, YworkPhase, YworkEnv, YkeptKind, YkeptValue, YboundPlace, YoldKind, YoldValue, YoldBuffer), ?_, ⟨1, h2⟩, ⟨2, fun post HP => ?_⟩⟩
  · exact ⟨hST, zw_K hn h1 h3 hPL, hLO, hr, rfl⟩
  · exact br_f (by decide) (br_f (by decide) (br_t rfl (br_t (by decide) (br_f (by decide) (br_t rfl ⟨1, h4 post HP⟩)))))
end
end
section
def zz_SB (m : Nat) (u : SX) (v : SY) : Prop := match u with
  | (xdrafted, xspecial, xdefined, xhere, xdepth, xscoped, xcells, xclosures, xtop, xundo, xpc, xenv, xbuffer, xtaken, xoutcome, xrunning, xgiven, xclosed, Xdraft, XdraftValues, Xop, Xarg, Xparameter, Xwaiting, Xdone, Xhole, Xscope, Xplace, Xlocals, Xstack, Xcell, Xparent, Xbodies, Xbinds, Xscopes, Xwhat, Xfirst, Xsecond, Xthird, Xkept) => match v with
    | (yenvs, yclosures, ywork, ybuffer, ysteps, ymode, yat, yenv, ykind, yvalue, ycode, ytag, yresultKind, yresultValue, Ykinds, Ynumbers, Yends, Ylengths, Yparameters, Yspecial, YplaceKind, YplaceValue, Ythere, YsymbolOf, YplaceOf, YnextOf, YclosureSymbol, YclosureBody, YclosureEnv, YworkToken, YworkPhase, YworkEnv, YkeptKind, YkeptValue, YboundPlace, YoldKind, YoldValue, YoldBuffer) => ∃ (fs : List zz_YF) (us : List zz_XE) (st : List Int64) (b ne nc sN t a e j q : Nat) (sc : List Nat), (xcells = nI ne ∧ xclosures = nI nc ∧ xtop = nI st.length ∧ xundo = nI us.length ∧ xpc = nI a ∧ xbuffer = nI b ∧ xtaken = nI sN ∧ xoutcome = 0 ∧ xrunning = 1) ∧ (yenvs = nI ne ∧ yclosures = nI nc ∧ ywork = nI fs.length ∧ ybuffer = nI b ∧ ysteps = nI sN ∧ ymode = 1 ∧ yat = nI t ∧ yenv = xenv) ∧ (zz_ST xdrafted xspecial xdefined Xdraft XdraftValues Xop Xarg Xparameter Ykinds Ynumbers Yends Ylengths Yparameters Yspecial ∧ zz_YW YworkToken YworkPhase YworkEnv YkeptKind YkeptValue YboundPlace YoldKind YoldValue YoldBuffer fs ∧ zz_XW Xwhat Xfirst Xsecond Xthird Xkept us ∧ zz_EN ne nc Xparent Xcell YplaceOf YnextOf YplaceKind YplaceValue ∧ zz_CL Xop Xarg Ykinds Ynumbers Yends Yspecial ne YsymbolOf YnextOf nc Xbodies Xbinds Xscopes YclosureSymbol YclosureBody YclosureEnv ∧ zz_PL nc Xplace YplaceKind YplaceValue Ythere ∧ zz_LO Xlocals Ythere ∧ (b < 3 ∧ ne + zz_pt fs ≤ sN ∧ fs.length ≤ sN ∧ nc ≤ sN ∧ sN ≤ 300)) ∧ zz_R Xstack (fun x => x) st ∧ zz_CE Xop Xarg Ykinds Ynumbers Yends Yspecial t a e sc ∧ zz_EV ne YsymbolOf YnextOf sc xenv ∧ zz_J Xop Xarg j e q ∧ zz_KR Xop Xarg Ykinds Ynumbers Yends Yspecial ne YsymbolOf YnextOf nc fs q us st xenv b ∧ (301 - sN) * 1000 ≤ m
def zz_SG (m : Nat) (u : SX) (v : SY) : Prop := match u with
  | (xdrafted, xspecial, xdefined, xhere, xdepth, xscoped, xcells, xclosures, xtop, xundo, xpc, xenv, xbuffer, xtaken, xoutcome, xrunning, xgiven, xclosed, Xdraft, XdraftValues, Xop, Xarg, Xparameter, Xwaiting, Xdone, Xhole, Xscope, Xplace, Xlocals, Xstack, Xcell, Xparent, Xbodies, Xbinds, Xscopes, Xwhat, Xfirst, Xsecond, Xthird, Xkept) => match v with
    | (yenvs, yclosures, ywork, ybuffer, ysteps, ymode, yat, yenv, ykind, yvalue, ycode, ytag, yresultKind, yresultValue, Ykinds, Ynumbers, Yends, Ylengths, Yparameters, Yspecial, YplaceKind, YplaceValue, Ythere, YsymbolOf, YplaceOf, YnextOf, YclosureSymbol, YclosureBody, YclosureEnv, YworkToken, YworkPhase, YworkEnv, YkeptKind, YkeptValue, YboundPlace, YoldKind, YoldValue, YoldBuffer) => ∃ (fs : List zz_YF) (us : List zz_XE) (st : List Int64) (b ne nc sN p j q : Nat), (xcells = nI ne ∧ xclosures = nI nc ∧ xtop = nI (st.length + 1) ∧ xundo = nI us.length ∧ xpc = nI p ∧ xbuffer = nI b ∧ xtaken = nI sN ∧ xoutcome = 0 ∧ xrunning = 1) ∧ (yenvs = nI ne ∧ yclosures = nI nc ∧ ywork = nI fs.length ∧ ybuffer = nI b ∧ ysteps = nI sN ∧ ymode = 0) ∧ (zz_ST xdrafted xspecial xdefined Xdraft XdraftValues Xop Xarg Xparameter Ykinds Ynumbers Yends Ylengths Yparameters Yspecial ∧ zz_YW YworkToken YworkPhase YworkEnv YkeptKind YkeptValue YboundPlace YoldKind YoldValue YoldBuffer fs ∧ zz_XW Xwhat Xfirst Xsecond Xthird Xkept us ∧ zz_EN ne nc Xparent Xcell YplaceOf YnextOf YplaceKind YplaceValue ∧ zz_CL Xop Xarg Ykinds Ynumbers Yends Yspecial ne YsymbolOf YnextOf nc Xbodies Xbinds Xscopes YclosureSymbol YclosureBody YclosureEnv ∧ zz_PL nc Xplace YplaceKind YplaceValue Ythere ∧ zz_LO Xlocals Ythere ∧ (b < 3 ∧ ne + zz_pt fs ≤ sN ∧ fs.length ≤ sN ∧ nc ≤ sN ∧ sN ≤ 300)) ∧ zz_R Xstack (fun x => x) (zz_en ykind yvalue :: st) ∧ zz_V nc ykind yvalue ∧ zz_J Xop Xarg j p q ∧ zz_KR Xop Xarg Ykinds Ynumbers Yends Yspecial ne YsymbolOf YnextOf nc fs q us st xenv b ∧ (301 - sN) * 1000 + 500 + fs.length ≤ m
def zz_O (m : Nat) (u : SX) (v : SY) : Prop := ∃ (u1 : SX) (v1 : SY), zx_S u u1 ∧ zy_S v v1 ∧ (zz_SB m u1 v1 ∨ zz_SG m u1 v1 ∨ zz_FI u1 v1)
section
variable {xdrafted xspecial xdefined xhere xdepth xscoped xcells xclosures xtop xundo xpc xenv xbuffer xtaken xoutcome xrunning xclosed : Int32} {xgiven : Int64} {Xdraft XdraftValues Xop Xarg Xparameter Xwaiting Xdone Xhole Xscope Xlocals Xparent Xbodies Xbinds Xscopes Xwhat Xfirst Xsecond Xthird : Nat → Int32} {Xplace Xstack Xcell Xkept : Nat → Int64} {yenvs yclosures ywork ybuffer ysteps ymode yat yenv ykind yvalue ycode ytag yresultKind yresultValue : Int32} {Ykinds Ynumbers Yends Ylengths Yparameters Yspecial YplaceKind YplaceValue Ythere YsymbolOf YplaceOf YnextOf YclosureSymbol YclosureBody YclosureEnv YworkToken YworkPhase YworkEnv YkeptKind YkeptValue YboundPlace YoldKind YoldValue YoldBuffer : Nat → Int32} {fs : List zz_YF} {us : List zz_XE} {st : List Int64} {b ne nc sN t a e j q m p : Nat} {sc : List Nat}
theorem zz_SBi (hST : zz_ST xdrafted xspecial xdefined Xdraft XdraftValues Xop Xarg Xparameter Ykinds Ynumbers Yends Ylengths Yparameters Yspecial) (hYW : zz_YW YworkToken YworkPhase YworkEnv YkeptKind YkeptValue YboundPlace YoldKind YoldValue YoldBuffer fs) (hXW : zz_XW Xwhat Xfirst Xsecond Xthird Xkept us) (hEN : zz_EN ne nc Xparent Xcell YplaceOf YnextOf YplaceKind YplaceValue) (hCL : zz_CL Xop Xarg Ykinds Ynumbers Yends Yspecial ne YsymbolOf YnextOf nc Xbodies Xbinds Xscopes YclosureSymbol YclosureBody YclosureEnv) (hPL : zz_PL nc Xplace YplaceKind YplaceValue Ythere) (hLO : zz_LO Xlocals Ythere) (hct : b < 3 ∧ ne + zz_pt fs ≤ sN ∧ fs.length ≤ sN ∧ nc ≤ sN ∧ sN ≤ 300) (hSK : zz_R Xstack (fun x => x) st) (hCE : zz_CE Xop Xarg Ykinds Ynumbers Yends Yspecial t a e sc) (hEV : zz_EV ne YsymbolOf YnextOf sc xenv) (hJ : zz_J Xop Xarg j e q) (hKR : zz_KR Xop Xarg Ykinds Ynumbers Yends Yspecial ne YsymbolOf YnextOf nc fs q us st xenv b) (hm : (301 - sN) * 1000 ≤ m) : zz_SB m (xdrafted, xspecial, xdefined, xhere, xdepth, xscoped, nI ne, nI nc, nI st.length, nI us.length, nI a, xenv, nI b, nI sN, 0, 1, xgiven, xclosed, Xdraft, XdraftValues, Xop, Xarg, Xparameter, Xwaiting, Xdone, Xhole, Xscope, Xplace, Xlocals, Xstack, Xcell, Xparent, Xbodies, Xbinds, Xscopes, Xwhat, Xfirst, Xsecond, Xthird, Xkept) (nI ne, nI nc, nI fs.length, nI b, nI sN, 1, nI t, xenv, ykind, yvalue, ycode, ytag, yresultKind, yresultValue, Ykinds, Ynumbers, Yends, Ylengths, Yparameters, Yspecial, YplaceKind, YplaceValue, Ythere, YsymbolOf, YplaceOf, YnextOf, YclosureSymbol, YclosureBody, YclosureEnv, YworkToken, YworkPhase, YworkEnv, YkeptKind, YkeptValue, YboundPlace, YoldKind, YoldValue, YoldBuffer) :=
  ⟨fs, us, st, b, ne, nc, sN, t, a, e, j, q, sc, ⟨rfl, rfl, rfl, rfl, rfl, rfl, rfl, rfl, rfl⟩, ⟨rfl, rfl, rfl, rfl, rfl, rfl, rfl, rfl⟩, ⟨hST, hYW, hXW, hEN, hCL, hPL, hLO, hct⟩, hSK, hCE, hEV, hJ, hKR, hm⟩
theorem zz_SGi (hST : zz_ST xdrafted xspecial xdefined Xdraft XdraftValues Xop Xarg Xparameter Ykinds Ynumbers Yends Ylengths Yparameters Yspecial) (hYW : zz_YW YworkToken YworkPhase YworkEnv YkeptKind YkeptValue YboundPlace YoldKind YoldValue YoldBuffer fs) (hXW : zz_XW Xwhat Xfirst Xsecond Xthird Xkept us) (hEN : zz_EN ne nc Xparent Xcell YplaceOf YnextOf YplaceKind YplaceValue) (hCL : zz_CL Xop Xarg Ykinds Ynumbers Yends Yspecial ne YsymbolOf YnextOf nc Xbodies Xbinds Xscopes YclosureSymbol YclosureBody YclosureEnv) (hPL : zz_PL nc Xplace YplaceKind YplaceValue Ythere) (hLO : zz_LO Xlocals Ythere) (hct : b < 3 ∧ ne + zz_pt fs ≤ sN ∧ fs.length ≤ sN ∧ nc ≤ sN ∧ sN ≤ 300) (hSK : zz_R Xstack (fun x => x) (zz_en ykind yvalue :: st)) (hV : zz_V nc ykind yvalue) (hJ : zz_J Xop Xarg j p q) (hKR : zz_KR Xop Xarg Ykinds Ynumbers Yends Yspecial ne YsymbolOf YnextOf nc fs q us st xenv b) (hm : (301 - sN) * 1000 + 500 + fs.length ≤ m) : zz_SG m (xdrafted, xspecial, xdefined, xhere, xdepth, xscoped, nI ne, nI nc, nI (st.length + 1), nI us.length, nI p, xenv, nI b, nI sN, 0, 1, xgiven, xclosed, Xdraft, XdraftValues, Xop, Xarg, Xparameter, Xwaiting, Xdone, Xhole, Xscope, Xplace, Xlocals, Xstack, Xcell, Xparent, Xbodies, Xbinds, Xscopes, Xwhat, Xfirst, Xsecond, Xthird, Xkept) (nI ne, nI nc, nI fs.length, nI b, nI sN, 0, yat, yenv, ykind, yvalue, ycode, ytag, yresultKind, yresultValue, Ykinds, Ynumbers, Yends, Ylengths, Yparameters, Yspecial, YplaceKind, YplaceValue, Ythere, YsymbolOf, YplaceOf, YnextOf, YclosureSymbol, YclosureBody, YclosureEnv, YworkToken, YworkPhase, YworkEnv, YkeptKind, YkeptValue, YboundPlace, YoldKind, YoldValue, YoldBuffer) :=
  ⟨fs, us, st, b, ne, nc, sN, p, j, q, ⟨rfl, rfl, rfl, rfl, rfl, rfl, rfl, rfl, rfl⟩, ⟨rfl, rfl, rfl, rfl, rfl, rfl⟩, ⟨hST, hYW, hXW, hEN, hCL, hPL, hLO, hct⟩, hSK, hV, hJ, hKR, hm⟩
end
theorem zz_SBe {m : Nat} {u : SX} {v : SY} {P : SX → SY → Prop} (I : zz_SB m u v) (h : ∀ (xdrafted : Int32) (xspecial : Int32) (xdefined : Int32) (xhere : Int32) (xdepth : Int32) (xscoped : Int32) (xcells : Int32) (xclosures : Int32) (xtop : Int32) (xundo : Int32) (xpc : Int32) (xenv : Int32) (xbuffer : Int32) (xtaken : Int32) (xoutcome : Int32) (xrunning : Int32) (xgiven : Int64) (xclosed : Int32) (Xdraft : Nat → Int32) (XdraftValues : Nat → Int32) (Xop : Nat → Int32) (Xarg : Nat → Int32) (Xparameter : Nat → Int32) (Xwaiting : Nat → Int32) (Xdone : Nat → Int32) (Xhole : Nat → Int32) (Xscope : Nat → Int32) (Xplace : Nat → Int64) (Xlocals : Nat → Int32) (Xstack : Nat → Int64) (Xcell : Nat → Int64) (Xparent : Nat → Int32) (Xbodies : Nat → Int32) (Xbinds : Nat → Int32) (Xscopes : Nat → Int32) (Xwhat : Nat → Int32) (Xfirst : Nat → Int32) (Xsecond : Nat → Int32) (Xthird : Nat → Int32) (Xkept : Nat → Int64) (yenvs : Int32) (yclosures : Int32) (ywork : Int32) (ybuffer : Int32) (ysteps : Int32) (ymode : Int32) (yat : Int32) (yenv : Int32) (ykind : Int32) (yvalue : Int32) (ycode : Int32) (ytag : Int32) (yresultKind : Int32) (yresultValue : Int32) (Ykinds : Nat → Int32) (Ynumbers : Nat → Int32) (Yends : Nat → Int32) (Ylengths : Nat → Int32) (Yparameters : Nat → Int32) (Yspecial : Nat → Int32) (YplaceKind : Nat → Int32) (YplaceValue : Nat → Int32) (Ythere : Nat → Int32) (YsymbolOf : Nat → Int32) (YplaceOf : Nat → Int32) (YnextOf : Nat → Int32) (YclosureSymbol : Nat → Int32) (YclosureBody : Nat → Int32) (YclosureEnv : Nat → Int32) (YworkToken : Nat → Int32) (YworkPhase : Nat → Int32) (YworkEnv : Nat → Int32) (YkeptKind : Nat → Int32) (YkeptValue : Nat → Int32) (YboundPlace : Nat → Int32) (YoldKind : Nat → Int32) (YoldValue : Nat → Int32) (YoldBuffer : Nat → Int32) (fs : List zz_YF) (us : List zz_XE) (st : List Int64) (b ne nc sN t a e j q : Nat) (sc : List Nat), (zz_ST xdrafted xspecial xdefined Xdraft XdraftValues Xop Xarg Xparameter Ykinds Ynumbers Yends Ylengths Yparameters Yspecial ∧ zz_YW YworkToken YworkPhase YworkEnv YkeptKind YkeptValue YboundPlace YoldKind YoldValue YoldBuffer fs ∧ zz_XW Xwhat Xfirst Xsecond Xthird Xkept us ∧ zz_EN ne nc Xparent Xcell YplaceOf YnextOf YplaceKind YplaceValue ∧ zz_CL Xop Xarg Ykinds Ynumbers Yends Yspecial ne YsymbolOf YnextOf nc Xbodies Xbinds Xscopes YclosureSymbol YclosureBody YclosureEnv ∧ zz_PL nc Xplace YplaceKind YplaceValue Ythere ∧ zz_LO Xlocals Ythere ∧ (b < 3 ∧ ne + zz_pt fs ≤ sN ∧ fs.length ≤ sN ∧ nc ≤ sN ∧ sN ≤ 300)) → zz_R Xstack (fun x => x) st → zz_CE Xop Xarg Ykinds Ynumbers Yends Yspecial t a e sc → zz_EV ne YsymbolOf YnextOf sc xenv → zz_J Xop Xarg j e q → zz_KR Xop Xarg Ykinds Ynumbers Yends Yspecial ne YsymbolOf YnextOf nc fs q us st xenv b → (301 - sN) * 1000 ≤ m → P (xdrafted, xspecial, xdefined, xhere, xdepth, xscoped, nI ne, nI nc, nI st.length, nI us.length, nI a, xenv, nI b, nI sN, 0, 1, xgiven, xclosed, Xdraft, XdraftValues, Xop, Xarg, Xparameter, Xwaiting, Xdone, Xhole, Xscope, Xplace, Xlocals, Xstack, Xcell, Xparent, Xbodies, Xbinds, Xscopes, Xwhat, Xfirst, Xsecond, Xthird, Xkept) (nI ne, nI nc, nI fs.length, nI b, nI sN, 1, nI t, xenv, ykind, yvalue, ycode, ytag, yresultKind, yresultValue, Ykinds, Ynumbers, Yends, Ylengths, Yparameters, Yspecial, YplaceKind, YplaceValue, Ythere, YsymbolOf, YplaceOf, YnextOf, YclosureSymbol, YclosureBody, YclosureEnv, YworkToken, YworkPhase, YworkEnv, YkeptKind, YkeptValue, YboundPlace, YoldKind, YoldValue, YoldBuffer)) : P u v := by
  obtain ⟨xdrafted, xspecial, xdefined, xhere, xdepth, xscoped, xcells, xclosures, xtop, xundo, xpc, xenv, xbuffer, xtaken, xoutcome, xrunning, xgiven, xclosed, Xdraft, XdraftValues, Xop, Xarg, Xparameter, Xwaiting, Xdone, Xhole, Xscope, Xplace, Xlocals, Xstack, Xcell, Xparent, Xbodies, Xbinds, Xscopes, Xwhat, Xfirst, Xsecond, Xthird, Xkept⟩ := u
  obtain ⟨yenvs, yclosures, ywork, ybuffer, ysteps, ymode, yat, yenv, ykind, yvalue, ycode, ytag, yresultKind, yresultValue, Ykinds, Ynumbers, Yends, Ylengths, Yparameters, Yspecial, YplaceKind, YplaceValue, Ythere, YsymbolOf, YplaceOf, YnextOf, YclosureSymbol, YclosureBody, YclosureEnv, YworkToken, YworkPhase, YworkEnv, YkeptKind, YkeptValue, YboundPlace, YoldKind, YoldValue, YoldBuffer⟩ := v
  obtain ⟨fs, us, st, b, ne, nc, sN, t, a, e, j, q, sc, ⟨e1, e2, e3, e4, e5, e6, e7, e8, e9⟩, ⟨f1, f2, f3, f4, f5, f6, f7, f8⟩, hG, hSK, hCE, hEV, hJ, hKR, hm⟩ := I
  subst e1 e2 e3 e4 e5 e6 e7 e8 e9 f1 f2 f3 f4 f5 f6 f7 f8
  exact h xdrafted xspecial xdefined xhere xdepth xscoped 0 0 0 0 0 _ 0 0 0 0 xgiven xclosed Xdraft XdraftValues Xop Xarg Xparameter Xwaiting Xdone Xhole Xscope Xplace Xlocals Xstack Xcell Xparent Xbodies Xbinds Xscopes Xwhat Xfirst Xsecond Xthird Xkept 0 0 0 0 0 0 0 0 ykind yvalue ycode ytag yresultKind yresultValue Ykinds Ynumbers Yends Ylengths Yparameters Yspecial YplaceKind YplaceValue Ythere YsymbolOf YplaceOf YnextOf YclosureSymbol YclosureBody YclosureEnv YworkToken YworkPhase YworkEnv YkeptKind YkeptValue YboundPlace YoldKind YoldValue YoldBuffer fs us st b ne nc sN t a e j q sc hG hSK hCE hEV hJ hKR hm
theorem zz_SGe {m : Nat} {u : SX} {v : SY} {P : SX → SY → Prop} (I : zz_SG m u v) (h : ∀ (xdrafted : Int32) (xspecial : Int32) (xdefined : Int32) (xhere : Int32) (xdepth : Int32) (xscoped : Int32) (xcells : Int32) (xclosures : Int32) (xtop : Int32) (xundo : Int32) (xpc : Int32) (xenv : Int32) (xbuffer : Int32) (xtaken : Int32) (xoutcome : Int32) (xrunning : Int32) (xgiven : Int64) (xclosed : Int32) (Xdraft : Nat → Int32) (XdraftValues : Nat → Int32) (Xop : Nat → Int32) (Xarg : Nat → Int32) (Xparameter : Nat → Int32) (Xwaiting : Nat → Int32) (Xdone : Nat → Int32) (Xhole : Nat → Int32) (Xscope : Nat → Int32) (Xplace : Nat → Int64) (Xlocals : Nat → Int32) (Xstack : Nat → Int64) (Xcell : Nat → Int64) (Xparent : Nat → Int32) (Xbodies : Nat → Int32) (Xbinds : Nat → Int32) (Xscopes : Nat → Int32) (Xwhat : Nat → Int32) (Xfirst : Nat → Int32) (Xsecond : Nat → Int32) (Xthird : Nat → Int32) (Xkept : Nat → Int64) (yenvs : Int32) (yclosures : Int32) (ywork : Int32) (ybuffer : Int32) (ysteps : Int32) (ymode : Int32) (yat : Int32) (yenv : Int32) (ykind : Int32) (yvalue : Int32) (ycode : Int32) (ytag : Int32) (yresultKind : Int32) (yresultValue : Int32) (Ykinds : Nat → Int32) (Ynumbers : Nat → Int32) (Yends : Nat → Int32) (Ylengths : Nat → Int32) (Yparameters : Nat → Int32) (Yspecial : Nat → Int32) (YplaceKind : Nat → Int32) (YplaceValue : Nat → Int32) (Ythere : Nat → Int32) (YsymbolOf : Nat → Int32) (YplaceOf : Nat → Int32) (YnextOf : Nat → Int32) (YclosureSymbol : Nat → Int32) (YclosureBody : Nat → Int32) (YclosureEnv : Nat → Int32) (YworkToken : Nat → Int32) (YworkPhase : Nat → Int32) (YworkEnv : Nat → Int32) (YkeptKind : Nat → Int32) (YkeptValue : Nat → Int32) (YboundPlace : Nat → Int32) (YoldKind : Nat → Int32) (YoldValue : Nat → Int32) (YoldBuffer : Nat → Int32) (fs : List zz_YF) (us : List zz_XE) (st : List Int64) (b ne nc sN p j q : Nat), (zz_ST xdrafted xspecial xdefined Xdraft XdraftValues Xop Xarg Xparameter Ykinds Ynumbers Yends Ylengths Yparameters Yspecial ∧ zz_YW YworkToken YworkPhase YworkEnv YkeptKind YkeptValue YboundPlace YoldKind YoldValue YoldBuffer fs ∧ zz_XW Xwhat Xfirst Xsecond Xthird Xkept us ∧ zz_EN ne nc Xparent Xcell YplaceOf YnextOf YplaceKind YplaceValue ∧ zz_CL Xop Xarg Ykinds Ynumbers Yends Yspecial ne YsymbolOf YnextOf nc Xbodies Xbinds Xscopes YclosureSymbol YclosureBody YclosureEnv ∧ zz_PL nc Xplace YplaceKind YplaceValue Ythere ∧ zz_LO Xlocals Ythere ∧ (b < 3 ∧ ne + zz_pt fs ≤ sN ∧ fs.length ≤ sN ∧ nc ≤ sN ∧ sN ≤ 300)) → zz_R Xstack (fun x => x) (zz_en ykind yvalue :: st) → zz_V nc ykind yvalue → zz_J Xop Xarg j p q → zz_KR Xop Xarg Ykinds Ynumbers Yends Yspecial ne YsymbolOf YnextOf nc fs q us st xenv b → (301 - sN) * 1000 + 500 + fs.length ≤ m → P (xdrafted, xspecial, xdefined, xhere, xdepth, xscoped, nI ne, nI nc, nI (st.length + 1), nI us.length, nI p, xenv, nI b, nI sN, 0, 1, xgiven, xclosed, Xdraft, XdraftValues, Xop, Xarg, Xparameter, Xwaiting, Xdone, Xhole, Xscope, Xplace, Xlocals, Xstack, Xcell, Xparent, Xbodies, Xbinds, Xscopes, Xwhat, Xfirst, Xsecond, Xthird, Xkept) (nI ne, nI nc, nI fs.length, nI b, nI sN, 0, yat, yenv, ykind, yvalue, ycode, ytag, yresultKind, yresultValue, Ykinds, Ynumbers, Yends, Ylengths, Yparameters, Yspecial, YplaceKind, YplaceValue, Ythere, YsymbolOf, YplaceOf, YnextOf, YclosureSymbol, YclosureBody, YclosureEnv, YworkToken, YworkPhase, YworkEnv, YkeptKind, YkeptValue, YboundPlace, YoldKind, YoldValue, YoldBuffer)) : P u v := by
  obtain ⟨xdrafted, xspecial, xdefined, xhere, xdepth, xscoped, xcells, xclosures, xtop, xundo, xpc, xenv, xbuffer, xtaken, xoutcome, xrunning, xgiven, xclosed, Xdraft, XdraftValues, Xop, Xarg, Xparameter, Xwaiting, Xdone, Xhole, Xscope, Xplace, Xlocals, Xstack, Xcell, Xparent, Xbodies, Xbinds, Xscopes, Xwhat, Xfirst, Xsecond, Xthird, Xkept⟩ := u
  obtain ⟨yenvs, yclosures, ywork, ybuffer, ysteps, ymode, yat, yenv, ykind, yvalue, ycode, ytag, yresultKind, yresultValue, Ykinds, Ynumbers, Yends, Ylengths, Yparameters, Yspecial, YplaceKind, YplaceValue, Ythere, YsymbolOf, YplaceOf, YnextOf, YclosureSymbol, YclosureBody, YclosureEnv, YworkToken, YworkPhase, YworkEnv, YkeptKind, YkeptValue, YboundPlace, YoldKind, YoldValue, YoldBuffer⟩ := v
  obtain ⟨fs, us, st, b, ne, nc, sN, p, j, q, ⟨e1, e2, e3, e4, e5, e6, e7, e8, e9⟩, ⟨f1, f2, f3, f4, f5, f6⟩, hG, hSK, hV, hJ, hKR, hm⟩ := I
  subst e1 e2 e3 e4 e5 e6 e7 e8 e9 f1 f2 f3 f4 f5 f6
  exact h xdrafted xspecial xdefined xhere xdepth xscoped 0 0 0 0 0 _ 0 0 0 0 xgiven xclosed Xdraft XdraftValues Xop Xarg Xparameter Xwaiting Xdone Xhole Xscope Xplace Xlocals Xstack Xcell Xparent Xbodies Xbinds Xscopes Xwhat Xfirst Xsecond Xthird Xkept 0 0 0 0 0 0 yat _ ykind yvalue ycode ytag yresultKind yresultValue Ykinds Ynumbers Yends Ylengths Yparameters Yspecial YplaceKind YplaceValue Ythere YsymbolOf YplaceOf YnextOf YclosureSymbol YclosureBody YclosureEnv YworkToken YworkPhase YworkEnv YkeptKind YkeptValue YboundPlace YoldKind YoldValue YoldBuffer fs us st b ne nc sN p j q hG hSK hV hJ hKR hm
end
section
def zz_KP (nc : Nat) (bp ok ov : Int32) (y : zz_XE) : Prop := y.1 = 1 ∧ ∃ p, p < 32 ∧ bp = nI p ∧ y.2.1 = nI p ∧ y.2.2.2.2 = zz_en ok ov ∧ zz_W nc ok ov
def zz_U4 (nc : Nat) (bp ok ov : Int32) (us us0 : List zz_XE) : Prop := (us = us0 ∧ bp = -1) ∨ (∃ y, us = y :: us0 ∧ (y.1 = 2 ∨ y.1 = 7) ∧ bp = -1) ∨ (∃ y, us = y :: us0 ∧ zz_KP nc bp ok ov y) ∨ (∃ y z, us = y :: z :: us0 ∧ z.1 = 0 ∧ (zz_KP nc bp ok ov y ∨ (y.1 = 2 ∧ bp = -1)))
/-- a frame as its end sees it -/
theorem zz_FRe {op ar K N E S : Nat → Int32} {nc : Nat} {fs : List zz_YF} {t ph : Nat} {we kk kv bp ok ov : Int32} {ob g : Nat} {sc : List Nat} {pc : Nat} {us : List zz_XE} {st : List Int64} {env : Int32} {b e : Nat} {us0 : List zz_XE} {st0 : List Int64} (H : zz_FR op ar K N E S nc fs t ph we kk kv bp ok ov ob g sc pc us st env b e us0 st0) :
    (st = st0 ∨ ∃ v, st = v :: st0) ∧ ((¬ K t = 12 ∧ ¬ K t = 14 ∧ (K t = 15 → ¬ ph = 0) ∧ b = ob ∧ ph < 4 ∧ zz_U4 nc bp ok ov us us0)
    ∨ (K t = 12 ∧ ph = 0 ∧ b = ob ∧ bp = -1 ∧ ∃ s, s < 4 ∧ N t = nI s ∧ us = (4, nI e, nI st0.length, we, lN s) :: us0)
    ∨ (K t = 14 ∧ ph = 0 ∧ b = ob ∧ bp = -1 ∧ ∃ t2, t + 1 < 240 ∧ E (t + 1) = nI t2 ∧ zz_CE op ar K N E S t2 (pc + 2) e sc ∧ us = (5, nI (pc + 2), nI st0.length, we, 0) :: us0)
    ∨ (K t = 15 ∧ ph = 0 ∧ b = ob ∧ bp = -1 ∧ ∃ t2 e2, t + 1 < 240 ∧ E (t + 1) = nI t2 ∧ zz_CE op ar K N E S t2 (pc + 1) e2 sc ∧ op e2 = 29 ∧ e = e2 + 1 ∧ us = (6, nI (pc + 1), nI st0.length, we, 0) :: us0)
    ∨ (K t = 16 ∧ ph = 0 ∧ bp = -1 ∧ us = (3, nI ob, 0, 0, 0) :: us0)) := by
  unfold zz_FR at H
  rcases H with H | H | H | H | H | H | H | H | H | H | H | H | H | H | H
  · obtain ⟨h1, h2, _, _, h5, h6, _, h7, h8⟩ := H
    exact ⟨Or.inl h6, Or.inl ⟨by rw [h1]; decide, by rw [h1]; decide, by rw [h1]; exact fun z => absurd z (by decide), h7, by omega, Or.inl ⟨h5, h8⟩⟩⟩
  · obtain ⟨h1, h2, _, _, h5, h6, _, h7, h8, _⟩ := H
    refine ⟨Or.inl h6, Or.inl ⟨?_, ?_, ?_, h7, by omega, Or.inl ⟨h5, h8⟩⟩⟩
    all_goals (rcases h1 with h1 | h1 | h1 <;> rw [h1] <;> first | decide | exact fun z => absurd z (by decide))
  · obtain ⟨h1, h2, _, h5, h6, _, h7, h8, _⟩ := H
    refine ⟨Or.inl h6, Or.inl ⟨?_, ?_, ?_, h7, by omega, Or.inl ⟨h5, h8⟩⟩⟩
    all_goals (rcases h1 with h1 | h1 | h1 | h1 <;> rw [h1] <;> first | decide | exact fun z => absurd z (by decide))
  · obtain ⟨h1, h2, _, _, h5, h6, _, _, h7, h8, _⟩ := H
    refine ⟨Or.inr ⟨_, h6⟩, Or.inl ⟨?_, ?_, ?_, h7, by omega, Or.inl ⟨h5, h8⟩⟩⟩
    all_goals (rcases h1 with h1 | h1 | h1 | h1 <;> rw [h1] <;> first | decide | exact fun z => absurd z (by decide))
  · obtain ⟨h1, _, ⟨y, h3, h4⟩, h6, h7⟩ := H
    refine ⟨Or.inl h6, Or.inl ⟨?_, ?_, ?_, h7, ?_, Or.inr (Or.inr (Or.inr ⟨y, _, h3, rfl, h4⟩))⟩⟩
    · rcases h1 with ⟨h1, _⟩ | ⟨h1, _⟩ <;> rw [h1] <;> decide
    · rcases h1 with ⟨h1, _⟩ | ⟨h1, _⟩ <;> rw [h1] <;> decide
    · rcases h1 with ⟨h1, _⟩ | ⟨h1, _⟩ <;> rw [h1] <;> exact fun z => absurd z (by decide)
    · rcases h1 with ⟨_, h1⟩ | ⟨_, h1⟩ <;> omega
  · obtain ⟨h1, h2, _, h5, h6, _, h7, h8, _⟩ := H
    exact ⟨Or.inl h6, Or.inl ⟨by rw [h1]; decide, by rw [h1]; decide, by rw [h1]; exact fun z => absurd z (by decide), h7, by omega, Or.inl ⟨h5, h8⟩⟩⟩
  · obtain ⟨h1, h2, _, _, ⟨y, h3, h4, _⟩, h6, h7⟩ := H
    refine ⟨Or.inl h6, Or.inl ⟨by rw [h1]; decide, by rw [h1]; decide, by rw [h1]; exact fun z => absurd z (by decide), h7, by omega, ?_⟩⟩
    rcases h4 with h4 | h4
    · exact Or.inr (Or.inr (Or.inl ⟨y, h3, h4⟩))
    · exact Or.inr (Or.inl ⟨y, h3, Or.inl h4.1, h4.2⟩)
  · obtain ⟨h1, h2, _, h5, h6, _, h7, h8⟩ := H
    exact ⟨Or.inl h6, Or.inl ⟨by rw [h1]; decide, by rw [h1]; decide, by rw [h1]; exact fun z => absurd z (by decide), h7, by omega, Or.inl ⟨h5, h8⟩⟩⟩
  · obtain ⟨h1, h2, _, h5, h6, _, h7, h8⟩ := H
    exact ⟨Or.inl h6, Or.inl ⟨by rw [h1]; decide, by rw [h1]; decide, by rw [h1]; exact fun z => absurd z (by decide), h7, by omega, Or.inl ⟨h5, h8⟩⟩⟩
  · obtain ⟨h1, h2, _, _, ⟨s, h3, h4, h5⟩, h6, _, h7, h8⟩ := H
    exact ⟨Or.inl h6, Or.inr (Or.inl ⟨h1, h2, h7, h8, s, h3, h4, h5⟩)⟩
  · obtain ⟨h1, h2, ⟨t2, h3, h4, _, _, _, h5⟩, h9, h6, _, h7, h8⟩ := H
    exact ⟨Or.inl h6, Or.inr (Or.inr (Or.inl ⟨h1, h2, h7, h8, t2, h3, h4, h5, h9⟩))⟩
  · obtain ⟨h1, h2, ⟨t2, e2, h3, h4, _, h5, h10, h11⟩, h9, h6, _, h7, h8⟩ := H
    exact ⟨Or.inl h6, Or.inr (Or.inr (Or.inr (Or.inl ⟨h1, h2, h7, h8, t2, e2, h3, h4, h5, h10, h11, h9⟩)))⟩
  · obtain ⟨h1, h2, _, _, h5, h6, _, _, h7, h8⟩ := H
    exact ⟨Or.inr ⟨_, h6⟩, Or.inl ⟨by rw [h1]; decide, by rw [h1]; decide, fun _ => by omega, h7, by omega, Or.inr (Or.inl ⟨_, h5, Or.inr rfl, h8⟩)⟩⟩
  · obtain ⟨h1, h2, _, _, ⟨hw, x, v, h5, _⟩, h6, _, h7, h8⟩ := H
    exact ⟨Or.inl h6, Or.inl ⟨by rw [h1]; decide, by rw [h1]; decide, fun _ => by omega, h7, by omega, Or.inr (Or.inl ⟨_, h5, Or.inr rfl, h8⟩)⟩⟩
  · obtain ⟨h1, h2, _, _, h5, h6, _, h8⟩ := H
    exact ⟨Or.inl h6, Or.inr (Or.inr (Or.inr (Or.inr ⟨h1, h2, h8, h5⟩)))⟩
theorem zz_Rst {Xs : Nat → Int64} {st st0 : List Int64} (h : st = st0 ∨ ∃ v, st = v :: st0) (H : zz_R Xs (fun x => x) st) : zz_R Xs (fun x => x) st0 := by
  rcases h with h | ⟨v, h⟩
  · rw [← h]; exact H
  · rw [h] at H; exact H.2
section
variable {xdrafted xspecial xdefined xhere xdepth xscoped xcells xclosures xtop xundo xpc xenv xbuffer xtaken xoutcome xrunning xclosed : Int32} {xgiven : Int64} {Xdraft XdraftValues Xop Xarg Xparameter Xwaiting Xdone Xhole Xscope Xlocals Xparent Xbodies Xbinds Xscopes Xwhat Xfirst Xsecond Xthird : Nat → Int32} {Xplace Xstack Xcell Xkept : Nat → Int64} {yenvs yclosures ywork ybuffer ysteps ymode yat yenv ykind yvalue ycode ytag yresultKind yresultValue : Int32} {Ykinds Ynumbers Yends Ylengths Yparameters Yspecial YplaceKind YplaceValue Ythere YsymbolOf YplaceOf YnextOf YclosureSymbol YclosureBody YclosureEnv YworkToken YworkPhase YworkEnv YkeptKind YkeptValue YboundPlace YoldKind YoldValue YoldBuffer : Nat → Int32} {nc ne : Nat}
/-- the run was too long: what was bound is given back on both sides -/
theorem zw_stop : ∀ (fs : List zz_YF) (us : List zz_XE) (st : List Int64) (pc b : Nat) (env : Int32) (p1 : Nat → Int64) (k1 v1 b1 : Nat → Int32), fs.length ≤ 300 → zz_YW YworkToken YworkPhase YworkEnv YkeptKind YkeptValue b1 YoldKind YoldValue YoldBuffer fs → zz_XW Xwhat Xfirst Xsecond Xthird Xkept us → zz_PL nc p1 k1 v1 Ythere → zz_KR Xop Xarg Ykinds Ynumbers Yends Yspecial ne YsymbolOf YnextOf nc fs pc us st env b → ∃ (pl' : Nat → Int64) (k' v' b' : Nat → Int32), zz_PL nc pl' k' v' Ythere ∧ zx_T (xdrafted, xspecial, xdefined, xhere, xdepth, xscoped, xcells, xclosures, xtop, nI us.length, xpc, xenv, xbuffer, xtaken, xoutcome, xrunning, xgiven, xclosed, Xdraft, XdraftValues, Xop, Xarg, Xparameter, Xwaiting, Xdone, Xhole, Xscope, p1, Xlocals, Xstack, Xcell, Xparent, Xbodies, Xbinds, Xscopes, Xwhat, Xfirst, Xsecond, Xthird, Xkept) (xdrafted, xspecial, xdefined, xhere, xdepth, xscoped, xcells, xclosures, xtop, nI 0, xpc, xenv, xbuffer, xtaken, xoutcome, xrunning, xgiven, xclosed, Xdraft, XdraftValues, Xop, Xarg, Xparameter, Xwaiting, Xdone, Xhole, Xscope, pl', Xlocals, Xstack, Xcell, Xparent, Xbodies, Xbinds, Xscopes, Xwhat, Xfirst, Xsecond, Xthird, Xkept) ∧ ∀ (post : Int32 → SY → Prop) (n : Nat), wY_run_130 post n yenvs yclosures (nI (0)) ybuffer ysteps ymode yat yenv ykind yvalue ycode ytag yresultKind yresultValue Ykinds Ynumbers Yends Ylengths Yparameters Yspecial k' v' Ythere YsymbolOf YplaceOf YnextOf YclosureSymbol YclosureBody YclosureEnv YworkToken YworkPhase YworkEnv YkeptKind YkeptValue b' YoldKind YoldValue YoldBuffer → wY_run_130 post (n + fs.length) yenvs yclosures (nI (fs.length)) ybuffer ysteps ymode yat yenv ykind yvalue ycode ytag yresultKind yresultValue Ykinds Ynumbers Yends Ylengths Yparameters Yspecial k1 v1 Ythere YsymbolOf YplaceOf YnextOf YclosureSymbol YclosureBody YclosureEnv YworkToken YworkPhase YworkEnv YkeptKind YkeptValue b1 YoldKind YoldValue YoldBuffer := by
  intro fs
  induction fs with
  | nil =>
    intro us st pc b env p1 k1 v1 b1 hl hYW hXW hPL hKR
    obtain ⟨_, _, hu, _⟩ := hKR
    subst hu
    exact ⟨p1, k1, v1, b1, hPL, zx_t0, fun post n h => h⟩
  | cons f fs ih =>
    intro us st pc b env p1 k1 v1 b1 hl hYW hXW hPL hKR
    have lu := (zz_KRl _ _ _ _ _ _ hKR).1
    obtain ⟨t, ph, we, kk, kv, bp, ok, ov, ob, g⟩ := f
    obtain ⟨_, _, _, sc, e, j, q, us0, st0, _, _, _, hKR0, hFR⟩ := hKR
    simp only [List.length_cons] at hl lu
    obtain ⟨y1, y2, y3, y4, y5, y6, y7, y8, y9⟩ := zz_YWh hYW
    have hYW0 := zz_YWt hYW
    -- nothing is bound
    have gb0 : bp = -1 → ∀ (post : Int32 → SY → Prop) (n : Nat), wY_run_130 post n yenvs yclosures (nI (fs.length)) ybuffer ysteps ymode yat yenv ykind yvalue ycode ytag yresultKind yresultValue Ykinds Ynumbers Yends Ylengths Yparameters Yspecial k1 v1 Ythere YsymbolOf YplaceOf YnextOf YclosureSymbol YclosureBody YclosureEnv YworkToken YworkPhase YworkEnv YkeptKind YkeptValue b1 YoldKind YoldValue YoldBuffer → wY_run_130 post (n + 1) yenvs yclosures (nI (fs.length + 1)) ybuffer ysteps ymode yat yenv ykind yvalue ycode ytag yresultKind yresultValue Ykinds Ynumbers Yends Ylengths Yparameters Yspecial k1 v1 Ythere YsymbolOf YplaceOf YnextOf YclosureSymbol YclosureBody YclosureEnv YworkToken YworkPhase YworkEnv YkeptKind YkeptValue b1 YoldKind YoldValue YoldBuffer := fun hb post n h =>
      br_f (nI_nle (by omega) (by omega)) (nm_r (e' := nI fs.length) (nI_pred _) (zy_gb0 (by omega) (y6.trans hb) h))
    have gbK : ∀ p, p < 32 → bp = nI p → ∀ (post : Int32 → SY → Prop) (n : Nat), wY_run_130 post n yenvs yclosures (nI (fs.length)) ybuffer ysteps ymode yat yenv ykind yvalue ycode ytag yresultKind yresultValue Ykinds Ynumbers Yends Ylengths Yparameters Yspecial (upd k1 p ok) (upd v1 p ov) Ythere YsymbolOf YplaceOf YnextOf YclosureSymbol YclosureBody YclosureEnv YworkToken YworkPhase YworkEnv YkeptKind YkeptValue (upd b1 fs.length (-1)) YoldKind YoldValue YoldBuffer → wY_run_130 post (n + 1) yenvs yclosures (nI (fs.length + 1)) ybuffer ysteps ymode yat yenv ykind yvalue ycode ytag yresultKind yresultValue Ykinds Ynumbers Yends Ylengths Yparameters Yspecial k1 v1 Ythere YsymbolOf YplaceOf YnextOf YclosureSymbol YclosureBody YclosureEnv YworkToken YworkPhase YworkEnv YkeptKind YkeptValue b1 YoldKind YoldValue YoldBuffer := fun p hp hb post n h =>
      br_f (nI_nle (by omega) (by omega)) (nm_r (e' := nI fs.length) (nI_pred _) (zy_gbK (q := p) (by omega) (by omega) (y6.trans hb) (by rw [y7, y8]; exact h)))
    have base : ∀ (us1 : List zz_XE), us1 = us0 → zz_XW Xwhat Xfirst Xsecond Xthird Xkept us1 → bp = -1 → ∃ (pl' : Nat → Int64) (k' v' b' : Nat → Int32), zz_PL nc pl' k' v' Ythere ∧ zx_T (xdrafted, xspecial, xdefined, xhere, xdepth, xscoped, xcells, xclosures, xtop, nI us1.length, xpc, xenv, xbuffer, xtaken, xoutcome, xrunning, xgiven, xclosed, Xdraft, XdraftValues, Xop, Xarg, Xparameter, Xwaiting, Xdone, Xhole, Xscope, p1, Xlocals, Xstack, Xcell, Xparent, Xbodies, Xbinds, Xscopes, Xwhat, Xfirst, Xsecond, Xthird, Xkept) (xdrafted, xspecial, xdefined, xhere, xdepth, xscoped, xcells, xclosures, xtop, nI 0, xpc, xenv, xbuffer, xtaken, xoutcome, xrunning, xgiven, xclosed, Xdraft, XdraftValues, Xop, Xarg, Xparameter, Xwaiting, Xdone, Xhole, Xscope, pl', Xlocals, Xstack, Xcell, Xparent, Xbodies, Xbinds, Xscopes, Xwhat, Xfirst, Xsecond, Xthird, Xkept) ∧ ∀ (post : Int32 → SY → Prop) (n : Nat), wY_run_130 post n yenvs yclosures (nI (0)) ybuffer ysteps ymode yat yenv ykind yvalue ycode ytag yresultKind yresultValue Ykinds Ynumbers Yends Ylengths Yparameters Yspecial k' v' Ythere YsymbolOf YplaceOf YnextOf YclosureSymbol YclosureBody YclosureEnv YworkToken YworkPhase YworkEnv YkeptKind YkeptValue b' YoldKind YoldValue YoldBuffer → wY_run_130 post (n + (fs.length + 1)) yenvs yclosures (nI (fs.length + 1)) ybuffer ysteps ymode yat yenv ykind yvalue ycode ytag yresultKind yresultValue Ykinds Ynumbers Yends Ylengths Yparameters Yspecial k1 v1 Ythere YsymbolOf YplaceOf YnextOf YclosureSymbol YclosureBody YclosureEnv YworkToken YworkPhase YworkEnv YkeptKind YkeptValue b1 YoldKind YoldValue YoldBuffer := by
      intro us1 e1 hX hb
      subst e1
      obtain ⟨pl', k', v', b', g1, g2, g3⟩ := ih us1 st0 q ob we p1 k1 v1 b1 (by omega) hYW0 hX hPL hKR0
      exact ⟨pl', k', v', b', g1, g2, fun post n h => gb0 hb post _ (g3 post n h)⟩
    have baseK : ∀ (us1 : List zz_XE) (y : zz_XE), us1 = us0 → zz_XW Xwhat Xfirst Xsecond Xthird Xkept (y :: us1) → zz_KP nc bp ok ov y → us1.length < 960 → ∃ (pl' : Nat → Int64) (k' v' b' : Nat → Int32), zz_PL nc pl' k' v' Ythere ∧ (∀ z : zz_XE, z.1 = 0 → True) ∧ zx_T (xdrafted, xspecial, xdefined, xhere, xdepth, xscoped, xcells, xclosures, xtop, nI (us1.length + 1), xpc, xenv, xbuffer, xtaken, xoutcome, xrunning, xgiven, xclosed, Xdraft, XdraftValues, Xop, Xarg, Xparameter, Xwaiting, Xdone, Xhole, Xscope, p1, Xlocals, Xstack, Xcell, Xparent, Xbodies, Xbinds, Xscopes, Xwhat, Xfirst, Xsecond, Xthird, Xkept) (xdrafted, xspecial, xdefined, xhere, xdepth, xscoped, xcells, xclosures, xtop, nI 0, xpc, xenv, xbuffer, xtaken, xoutcome, xrunning, xgiven, xclosed, Xdraft, XdraftValues, Xop, Xarg, Xparameter, Xwaiting, Xdone, Xhole, Xscope, pl', Xlocals, Xstack, Xcell, Xparent, Xbodies, Xbinds, Xscopes, Xwhat, Xfirst, Xsecond, Xthird, Xkept) ∧ ∀ (post : Int32 → SY → Prop) (n : Nat), wY_run_130 post n yenvs yclosures (nI (0)) ybuffer ysteps ymode yat yenv ykind yvalue ycode ytag yresultKind yresultValue Ykinds Ynumbers Yends Ylengths Yparameters Yspecial k' v' Ythere YsymbolOf YplaceOf YnextOf YclosureSymbol YclosureBody YclosureEnv YworkToken YworkPhase YworkEnv YkeptKind YkeptValue b' YoldKind YoldValue YoldBuffer → wY_run_130 post (n + (fs.length + 1)) yenvs yclosures (nI (fs.length + 1)) ybuffer ysteps ymode yat yenv ykind yvalue ycode ytag yresultKind yresultValue Ykinds Ynumbers Yends Ylengths Yparameters Yspecial k1 v1 Ythere YsymbolOf YplaceOf YnextOf YclosureSymbol YclosureBody YclosureEnv YworkToken YworkPhase YworkEnv YkeptKind YkeptValue b1 YoldKind YoldValue YoldBuffer := by
      intro us1 y e1 hX hk hlt
      subst e1
      obtain ⟨k0, p, hp, hb, hf, hkp, hW⟩ := hk
      obtain ⟨x1, x2, _, _, x5⟩ := zz_XWh hX
      obtain ⟨pl', k', v', b', g1, g2, g3⟩ := ih us1 st0 q ob we (vp_updL p1 p (y.2.2.2.2)) (upd k1 p ok) (upd v1 p ov) (upd b1 fs.length (-1)) (by omega) (zz_YWd (Nat.le_refl _) hYW0) (zz_XWt hX) (zz_PLu hkp hW hPL) hKR0
      refine ⟨pl', k', v', b', g1, fun _ _ => trivial, zx_tk (q := p) hlt hp (x1.trans k0) (x2.trans hf) ?_, fun post n h => gbK p hp hb post _ (g3 post n h)⟩
      rw [x5]
      exact g2
    obtain ⟨_, hc⟩ := zz_FRe hFR
    rcases hc with ⟨_, _, _, _, _, hU⟩ | ⟨_, _, _, hb, s, _, _, hu⟩ | ⟨_, _, _, hb, t2, _, _, _, hu⟩ | ⟨_, _, _, hb, t2, e2, _, _, _, _, _, hu⟩ | ⟨_, _, hb, hu⟩
    · rcases hU with ⟨hu, hb⟩ | ⟨y, hu, hy, hb⟩ | ⟨y, hu, hk⟩ | ⟨y, z, hu, hz, hk⟩
      · exact base us hu hXW hb
      · subst hu
        obtain ⟨pl', k', v', b', g1, g2, g3⟩ := base us0 rfl (zz_XWt hXW) hb
        simp only [List.length_cons] at lu
        refine ⟨pl', k', v', b', g1, zx_ts (by omega) ?_ g2, g3⟩
        rw [(zz_XWh hXW).1]
        rcases hy with hy | hy <;> rw [hy] <;> decide
      · subst hu
        simp only [List.length_cons] at lu
        obtain ⟨pl', k', v', b', g1, _, g2, g3⟩ := baseK us0 y rfl hXW hk (by omega)
        exact ⟨pl', k', v', b', g1, g2, g3⟩
      · subst hu
        simp only [List.length_cons] at lu
        have hXz := zz_XWt hXW
        have hz1 : ¬ Xwhat us0.length = 1 := by rw [(zz_XWh hXz).1, hz]; decide
        obtain ⟨x1, x2, _, _, x5⟩ := zz_XWh hXW
        rcases hk with hk | ⟨hy, hb⟩
        · obtain ⟨k0, p, hp, hb, hf, hkp, hW⟩ := hk
          obtain ⟨pl', k', v', b', g1, g2, g3⟩ := ih us0 st0 q ob we (vp_updL p1 p (y.2.2.2.2)) (upd k1 p ok) (upd v1 p ov) (upd b1 fs.length (-1)) (by omega) (zz_YWd (Nat.le_refl _) hYW0) (zz_XWt hXz) (zz_PLu hkp hW hPL) hKR0
          refine ⟨pl', k', v', b', g1, zx_tk (n := us0.length + 1) (q := p) (by omega) hp (x1.trans k0) (x2.trans hf) ?_, fun post n h => gbK p hp hb post _ (g3 post n h)⟩
          refine zx_ts (by omega) hz1 ?_
          have x5 : Xkept (us0.length + 1) = y.2.2.2.2 := x5
          rw [x5]
          exact g2
        · obtain ⟨pl', k', v', b', g1, g2, g3⟩ := base us0 rfl (zz_XWt hXz) hb
          refine ⟨pl', k', v', b', g1, zx_ts (n := us0.length + 1) (by omega) ?_ (zx_ts (by omega) hz1 g2), g3⟩
          have x1 : Xwhat (us0.length + 1) = y.1 := x1
          rw [x1, hy]; decide
    · subst hu
      simp only [List.length_cons] at lu
      obtain ⟨pl', k', v', b', g1, g2, g3⟩ := base us0 rfl (zz_XWt hXW) hb
      exact ⟨pl', k', v', b', g1, zx_ts (by omega) (by rw [(zz_XWh hXW).1]; show ¬ (4 : Int32) = 1; decide) g2, g3⟩
    · subst hu
      simp only [List.length_cons] at lu
      obtain ⟨pl', k', v', b', g1, g2, g3⟩ := base us0 rfl (zz_XWt hXW) hb
      exact ⟨pl', k', v', b', g1, zx_ts (by omega) (by rw [(zz_XWh hXW).1]; show ¬ (5 : Int32) = 1; decide) g2, g3⟩
    · subst hu
      simp only [List.length_cons] at lu
      obtain ⟨pl', k', v', b', g1, g2, g3⟩ := base us0 rfl (zz_XWt hXW) hb
      exact ⟨pl', k', v', b', g1, zx_ts (by omega) (by rw [(zz_XWh hXW).1]; show ¬ (6 : Int32) = 1; decide) g2, g3⟩
    · subst hu
      simp only [List.length_cons] at lu
      obtain ⟨pl', k', v', b', g1, g2, g3⟩ := base us0 rfl (zz_XWt hXW) hb
      exact ⟨pl', k', v', b', g1, zx_ts (by omega) (by rw [(zz_XWh hXW).1]; show ¬ (3 : Int32) = 1; decide) g2, g3⟩
end
end
section
theorem zz_TGt {K N : Nat → Int32} {nc : Nat} {f : zz_YF} {fs : List zz_YF} {hw x : Int32} {v : Int64} {tag code k vl : Int32} (hn : K f.1 = 12 → ¬ tag = N f.1) (H : zz_TG K N nc (f :: fs) hw x v tag code k vl) : zz_TG K N nc fs hw x v tag code k vl := by
  rcases H with H | ⟨h1, s, h2, h3, h4, h5, h6, ⟨f', hf, h7, h8⟩⟩
  · exact Or.inl H
  · refine Or.inr ⟨h1, s, h2, h3, h4, h5, h6, f', ?_, h7, h8⟩
    rcases List.mem_cons.mp hf with e | e
    · subst e
      exact absurd (h3.trans h8.symm) (hn h7)
    · exact e
theorem zz_TGh {K N : Nat → Int32} {nc : Nat} {fs : List zz_YF} {hw x : Int32} {v : Int64} {tag code k vl : Int32} (H : zz_TG K N nc fs hw x v tag code k vl) : hw = 1 ∨ hw = 2 := by
  rcases H with ⟨h, _⟩ | ⟨h, _⟩
  · exact Or.inr h
  · exact Or.inl h
section
variable {xdrafted xspecial xdefined xhere xdepth xscoped xcells xclosures xtop xundo xpc xenv xbuffer xtaken xoutcome xrunning xclosed : Int32} {xgiven : Int64} {Xdraft XdraftValues Xop Xarg Xparameter Xwaiting Xdone Xhole Xscope Xlocals Xparent Xbodies Xbinds Xscopes Xwhat Xfirst Xsecond Xthird : Nat → Int32} {Xplace Xstack Xcell Xkept : Nat → Int64} {yenvs yclosures ywork ybuffer ysteps ymode yat yenv ykind yvalue ycode ytag yresultKind yresultValue : Int32} {Ykinds Ynumbers Yends Ylengths Yparameters Yspecial YplaceKind YplaceValue Ythere YsymbolOf YplaceOf YnextOf YclosureSymbol YclosureBody YclosureEnv YworkToken YworkPhase YworkEnv YkeptKind YkeptValue YboundPlace YoldKind YoldValue YoldBuffer : Nat → Int32} {ne nc sN m : Nat} {hw x : Int32} {v : Int64}
/-- a throw or an error goes out -/
theorem zw_end (hST : zz_ST xdrafted xspecial xdefined Xdraft XdraftValues Xop Xarg Xparameter Ykinds Ynumbers Yends Ylengths Yparameters Yspecial) (hCL : zz_CL Xop Xarg Ykinds Ynumbers Yends Yspecial ne YsymbolOf YnextOf nc Xbodies Xbinds Xscopes YclosureSymbol YclosureBody YclosureEnv) (hLO : zz_LO Xlocals Ythere) (hcn : nc ≤ sN) (hsN : sN ≤ 300) : ∀ (fs : List zz_YF) (us : List zz_XE) (st : List Int64) (pc b : Nat) (env : Int32) (p1 : Nat → Int64) (k1 v1 b1 : Nat → Int32), zz_YW YworkToken YworkPhase YworkEnv YkeptKind YkeptValue b1 YoldKind YoldValue YoldBuffer fs → zz_XW Xwhat Xfirst Xsecond Xthird Xkept us → zz_R Xstack (fun x => x) st → zz_EN ne nc Xparent Xcell YplaceOf YnextOf k1 v1 → zz_PL nc p1 k1 v1 Ythere → zz_KR Xop Xarg Ykinds Ynumbers Yends Yspecial ne YsymbolOf YnextOf nc fs pc us st env b → zz_TG Ykinds Ynumbers nc fs hw x v ytag ycode ykind yvalue → b < 3 → ne + zz_pt fs ≤ sN → fs.length ≤ sN → (301 - sN) * 1000 + 500 + fs.length ≤ m → ∃ (u1 : SX) (w1 : SY), zx_L hw x v (xdrafted, xspecial, xdefined, xhere, xdepth, xscoped, nI ne, nI nc, xtop, nI (us.length), xpc, xenv, nI b, nI sN, 0, 1, xgiven, xclosed, Xdraft, XdraftValues, Xop, Xarg, Xparameter, Xwaiting, Xdone, Xhole, Xscope, p1, Xlocals, Xstack, Xcell, Xparent, Xbodies, Xbinds, Xscopes, Xwhat, Xfirst, Xsecond, Xthird, Xkept) u1 ∧ zy_S (nI ne, nI nc, nI (fs.length), nI b, nI sN, 2, yat, yenv, ykind, yvalue, ycode, ytag, yresultKind, yresultValue, Ykinds, Ynumbers, Yends, Ylengths, Yparameters, Yspecial, k1, v1, Ythere, YsymbolOf, YplaceOf, YnextOf, YclosureSymbol, YclosureBody, YclosureEnv, YworkToken, YworkPhase, YworkEnv, YkeptKind, YkeptValue, b1, YoldKind, YoldValue, YoldBuffer) w1 ∧ (zz_SB m u1 w1 ∨ zz_SG m u1 w1 ∨ zz_FI u1 w1) := by
  intro fs
  induction fs with
  | nil =>
    intro us st pc b env p1 k1 v1 b1 hYW hXW hSK hEN hPL hKR hTG hb hpt hl hm
    obtain ⟨_, _, hu, _⟩ := hKR
    subst hu
    rcases hTG with ⟨h1, h2, h3, h4⟩ | ⟨_, s, _, _, _, _, _, ⟨f, hf, _⟩⟩
    · subst h3
      exact ⟨_, _, zx_lend, zy_Sr, Or.inr (Or.inr (zw_finE (nc := nc) (by omega) hST hPL hLO h4))⟩
    · cases hf
  | cons f fs ih =>
    intro us st pc b env p1 k1 v1 b1 hYW hXW hSK hEN hPL hKR hTG hb hpt hl hm
    have lu := zz_KRl _ _ _ _ _ _ hKR
    obtain ⟨t, ph, we, kk, kv, bp, ok, ov, ob, g⟩ := f
    obtain ⟨hpc, ht, hob, sc, e, j, q, us0, st0, he, hEV, hJ, hKR0, hFR⟩ := hKR
    have ht : t < 240 := ht
    have hob : ob < 3 := hob
    have hEV : zz_EV ne YsymbolOf YnextOf sc we := hEV
    have hpt : ne + (g + zz_pt fs) ≤ sN := hpt
    simp only [List.length_cons] at hl lu hm
    obtain ⟨y1, y2, y3, y4, y5, y6, y7, y8, y9⟩ := zz_YWh hYW
    have y1 : YworkToken fs.length = nI t := y1
    have y2 : YworkPhase fs.length = nI ph := y2
    have y3 : YworkEnv fs.length = we := y3
    have y6 : b1 fs.length = bp := y6
    have y7 : YoldKind fs.length = ok := y7
    have y8 : YoldValue fs.length = ov := y8
    have y9 : YoldBuffer fs.length = nI ob := y9
    have hYW0 := zz_YWt hYW
    have hh := zz_TGh hTG
    obtain ⟨hst, hc⟩ := zz_FRe hFR
    have hSK0 := zz_Rst hst hSK
    have lt0 := (zz_KRl _ _ _ _ _ _ hKR0)
    -- a frame that only goes: nothing bound
    have go0 : bp = -1 → (Ykinds t = 15 → ¬ ph = 0) → ph < 4 → (Ykinds t = 14 → 0 ≤ ytag) → (Ykinds t = 12 → ¬ ytag = Ynumbers t) → (∃ (u1 : SX) (w1 : SY), zx_L hw x v (xdrafted, xspecial, xdefined, xhere, xdepth, xscoped, nI ne, nI nc, xtop, nI (us0.length), xpc, xenv, nI ob, nI sN, 0, 1, xgiven, xclosed, Xdraft, XdraftValues, Xop, Xarg, Xparameter, Xwaiting, Xdone, Xhole, Xscope, p1, Xlocals, Xstack, Xcell, Xparent, Xbodies, Xbinds, Xscopes, Xwhat, Xfirst, Xsecond, Xthird, Xkept) u1 ∧ zy_S (nI ne, nI nc, nI (fs.length), nI ob, nI sN, 2, yat, yenv, ykind, yvalue, ycode, ytag, yresultKind, yresultValue, Ykinds, Ynumbers, Yends, Ylengths, Yparameters, Yspecial, k1, v1, Ythere, YsymbolOf, YplaceOf, YnextOf, YclosureSymbol, YclosureBody, YclosureEnv, YworkToken, YworkPhase, YworkEnv, YkeptKind, YkeptValue, b1, YoldKind, YoldValue, YoldBuffer) w1 ∧ (zz_SB m u1 w1 ∨ zz_SG m u1 w1 ∨ zz_FI u1 w1)) → ∃ (u1 : SX) (w1 : SY), zx_L hw x v (xdrafted, xspecial, xdefined, xhere, xdepth, xscoped, nI ne, nI nc, xtop, nI (us0.length), xpc, xenv, nI ob, nI sN, 0, 1, xgiven, xclosed, Xdraft, XdraftValues, Xop, Xarg, Xparameter, Xwaiting, Xdone, Xhole, Xscope, p1, Xlocals, Xstack, Xcell, Xparent, Xbodies, Xbinds, Xscopes, Xwhat, Xfirst, Xsecond, Xthird, Xkept) u1 ∧ zy_S (nI ne, nI nc, nI (fs.length + 1), nI b, nI sN, 2, yat, yenv, ykind, yvalue, ycode, ytag, yresultKind, yresultValue, Ykinds, Ynumbers, Yends, Ylengths, Yparameters, Yspecial, k1, v1, Ythere, YsymbolOf, YplaceOf, YnextOf, YclosureSymbol, YclosureBody, YclosureEnv, YworkToken, YworkPhase, YworkEnv, YkeptKind, YkeptValue, b1, YoldKind, YoldValue, YoldBuffer) w1 ∧ (zz_SB m u1 w1 ∨ zz_SG m u1 w1 ∨ zz_FI u1 w1) := by
      intro hbp c15 hph c14 c12 ⟨u1, w1, g1, g2, g3⟩
      refine ⟨u1, w1, g1, zy_St (zy_SN (by omega) (zy_nS (t := t) (ph := ph) (k := Ykinds t) (by omega) ht y1 rfl y2 hph c15 c14 c12 (fun Q HQ => zy_gb0 (by omega) (y6.trans hbp) HQ))) ?_, g3⟩
      rw [y9]
      exact g2
    have goK : ∀ p, p < 32 → bp = nI p → (Ykinds t = 15 → ¬ ph = 0) → ph < 4 → (Ykinds t = 14 → 0 ≤ ytag) → (Ykinds t = 12 → ¬ ytag = Ynumbers t) → ∀ px : Nat → Int64, (∃ (u1 : SX) (w1 : SY), zx_L hw x v (xdrafted, xspecial, xdefined, xhere, xdepth, xscoped, nI ne, nI nc, xtop, nI (us0.length), xpc, xenv, nI ob, nI sN, 0, 1, xgiven, xclosed, Xdraft, XdraftValues, Xop, Xarg, Xparameter, Xwaiting, Xdone, Xhole, Xscope, px, Xlocals, Xstack, Xcell, Xparent, Xbodies, Xbinds, Xscopes, Xwhat, Xfirst, Xsecond, Xthird, Xkept) u1 ∧ zy_S (nI ne, nI nc, nI (fs.length), nI ob, nI sN, 2, yat, yenv, ykind, yvalue, ycode, ytag, yresultKind, yresultValue, Ykinds, Ynumbers, Yends, Ylengths, Yparameters, Yspecial, upd k1 p ok, upd v1 p ov, Ythere, YsymbolOf, YplaceOf, YnextOf, YclosureSymbol, YclosureBody, YclosureEnv, YworkToken, YworkPhase, YworkEnv, YkeptKind, YkeptValue, upd b1 fs.length (-1), YoldKind, YoldValue, YoldBuffer) w1 ∧ (zz_SB m u1 w1 ∨ zz_SG m u1 w1 ∨ zz_FI u1 w1)) → ∃ (u1 : SX) (w1 : SY), zx_L hw x v (xdrafted, xspecial, xdefined, xhere, xdepth, xscoped, nI ne, nI nc, xtop, nI (us0.length), xpc, xenv, nI ob, nI sN, 0, 1, xgiven, xclosed, Xdraft, XdraftValues, Xop, Xarg, Xparameter, Xwaiting, Xdone, Xhole, Xscope, px, Xlocals, Xstack, Xcell, Xparent, Xbodies, Xbinds, Xscopes, Xwhat, Xfirst, Xsecond, Xthird, Xkept) u1 ∧ zy_S (nI ne, nI nc, nI (fs.length + 1), nI b, nI sN, 2, yat, yenv, ykind, yvalue, ycode, ytag, yresultKind, yresultValue, Ykinds, Ynumbers, Yends, Ylengths, Yparameters, Yspecial, k1, v1, Ythere, YsymbolOf, YplaceOf, YnextOf, YclosureSymbol, YclosureBody, YclosureEnv, YworkToken, YworkPhase, YworkEnv, YkeptKind, YkeptValue, b1, YoldKind, YoldValue, YoldBuffer) w1 ∧ (zz_SB m u1 w1 ∨ zz_SG m u1 w1 ∨ zz_FI u1 w1) := by
      intro p hp hbp c15 hph c14 c12 px ⟨u1, w1, g1, g2, g3⟩
      refine ⟨u1, w1, g1, zy_St (zy_SN (by omega) (zy_nS (t := t) (ph := ph) (k := Ykinds t) (by omega) ht y1 rfl y2 hph c15 c14 c12 (fun Q HQ => zy_gbK (q := p) (by omega) (by omega) (y6.trans hbp) HQ))) ?_, g3⟩
      rw [y7, y8, y9]
      exact g2
    rcases hc with ⟨c12, c14, c15, hbo, hph, hU⟩ | ⟨c12, hph, hbo, hbp, s, hs, hN, hu⟩ | ⟨c14, hph, hbo, hbp, t2, ht1, hE, hCE, hu⟩ | ⟨c15, hph, hbo, hbp, t2, e2, ht1, hE, hCE, ho2, ee, hu⟩ | ⟨c16, hph, hbp, hu⟩
    · subst hbo
      have hT0 : zz_TG Ykinds Ynumbers nc fs hw x v ytag ycode ykind yvalue := zz_TGt (fun z => absurd z c12) hTG
      have d14 : Ykinds t = 14 → 0 ≤ ytag := fun z => absurd z c14
      have d12 : Ykinds t = 12 → ¬ ytag = Ynumbers t := fun z => absurd z c12
      -- what is skipped on X's second stack
      have sk : ∀ (w : Int32), (w = 0 ∨ w = 2 ∨ w = 7) → ¬ w = 1 ∧ ¬ w = 3 ∧ ¬ w = 6 ∧ ∀ (n : Nat), ((hw = 1 ∧ (w = 4 → ¬ Xkept n = x.toInt64)) ∨ (hw = 2 ∧ ¬ w = 5)) := by
        intro w hw0
        refine ⟨?_, ?_, ?_, fun n => ?_⟩
        · rcases hw0 with h | h | h <;> rw [h] <;> decide
        · rcases hw0 with h | h | h <;> rw [h] <;> decide
        · rcases hw0 with h | h | h <;> rw [h] <;> decide
        · rcases hh with h | h
          · exact Or.inl ⟨h, by rcases hw0 with h | h | h <;> rw [h] <;> exact fun z => absurd z (by decide)⟩
          · exact Or.inr ⟨h, by rcases hw0 with h | h | h <;> rw [h] <;> decide⟩
      rcases hU with ⟨hu, hbp⟩ | ⟨y, hu, hy, hbp⟩ | ⟨y, hu, hk⟩ | ⟨y, z, hu, hz, hk⟩
      · subst hu
        exact go0 hbp c15 hph d14 d12 (ih us st0 q b we p1 k1 v1 b1 hYW0 hXW hSK0 hEN hPL hKR0 hT0 hb (by omega) (by omega) (by omega))
      · subst hu
        simp only [List.length_cons] at lu
        obtain ⟨u1, w1, g1, g2, g3⟩ := go0 hbp c15 hph d14 d12 (ih us0 st0 q b we p1 k1 v1 b1 hYW0 (zz_XWt hXW) hSK0 hEN hPL hKR0 hT0 hb (by omega) (by omega) (by omega))
        obtain ⟨s1, s2, s3, s4⟩ := sk y.1 (hy.elim (fun z => Or.inr (Or.inl z)) (fun z => Or.inr (Or.inr z)))
        exact ⟨u1, w1, zx_lskip (by omega) (zz_XWh hXW).1 s1 s2 s3 (s4 _) g1, g2, g3⟩
      · subst hu
        simp only [List.length_cons] at lu
        obtain ⟨k0, p, hp, hbp, hf, hkp, hW⟩ := hk
        obtain ⟨x1, x2, _, _, x5⟩ := zz_XWh hXW
        obtain ⟨u1, w1, g1, g2, g3⟩ := goK p hp hbp c15 hph d14 d12 (vp_updL p1 p y.2.2.2.2) (ih us0 st0 q b we _ _ _ _ (zz_YWd (Nat.le_refl _) hYW0) (zz_XWt hXW) hSK0 (zz_ENl hp hEN) (zz_PLu hkp hW hPL) hKR0 hT0 hb (by omega) (by omega) (by omega))
        refine ⟨u1, w1, zx_lkept (q := p) hh (by omega) hp (x1.trans k0) (x2.trans hf) ?_, g2, g3⟩
        rw [x5]
        exact g1
      · subst hu
        simp only [List.length_cons] at lu
        have hXz := zz_XWt hXW
        obtain ⟨s1, s2, s3, s4⟩ := sk z.1 (Or.inl hz)
        obtain ⟨x1, x2, _, _, x5⟩ := zz_XWh hXW
        rcases hk with ⟨k0, p, hp, hbp, hf, hkp, hW⟩ | ⟨hy, hbp⟩
        · obtain ⟨u1, w1, g1, g2, g3⟩ := goK p hp hbp c15 hph d14 d12 (vp_updL p1 p y.2.2.2.2) (ih us0 st0 q b we _ _ _ _ (zz_YWd (Nat.le_refl _) hYW0) (zz_XWt hXz) hSK0 (zz_ENl hp hEN) (zz_PLu hkp hW hPL) hKR0 hT0 hb (by omega) (by omega) (by omega))
          refine ⟨u1, w1, zx_lkept (n := us0.length + 1) (q := p) hh (by omega) hp (x1.trans k0) (x2.trans hf) (zx_lskip (by omega) (zz_XWh hXz).1 s1 s2 s3 (s4 _) ?_), g2, g3⟩
          have x5 : Xkept (us0.length + 1) = y.2.2.2.2 := x5
          rw [x5]
          exact g1
        · obtain ⟨u1, w1, g1, g2, g3⟩ := go0 hbp c15 hph d14 d12 (ih us0 st0 q b we p1 k1 v1 b1 hYW0 (zz_XWt hXz) hSK0 hEN hPL hKR0 hT0 hb (by omega) (by omega) (by omega))
          obtain ⟨r1, r2, r3, r4⟩ := sk y.1 (Or.inr (Or.inl hy))
          exact ⟨u1, w1, zx_lskip (n := us0.length + 1) (by omega) x1 r1 r2 r3 (r4 _) (zx_lskip (by omega) (zz_XWh hXz).1 s1 s2 s3 (s4 _) g1), g2, g3⟩
    · -- CATCH
      have hph : ph = 0 := hph
      subst hbo hu
      simp only [List.length_cons] at lu
      obtain ⟨x1, x2, x3, x4, x5⟩ := zz_XWh hXW
      have x1 : Xwhat us0.length = 4 := x1
      have x2 : Xfirst us0.length = nI e := x2
      have x3 : Xsecond us0.length = nI st0.length := x3
      have x4 : Xthird us0.length = we := x4
      have x5 : Xkept us0.length = lN s := x5
      by_cases hit : ytag = Ynumbers t
      · rcases hTG with ⟨_, h2, _⟩ | ⟨h1, s', hs', h3, h4, h5, h6, _⟩
        · rw [hN] at hit
          rw [h2] at hit
          exact absurd (congrArg (fun z : Int32 => decide (z < 0)) hit) (by rw [decide_eq_true (by decide), decide_eq_false (nI_pos (by omega))]; decide)
        · subst h1
          have es : s' = s := by
            rw [h3, hN, nI_eq (by omega) (by omega)] at hit
            exact hit
          subst es
          subst h4
          have hkp : Xkept us0.length = (nI s').toInt64 := by rw [x5, nI_l (by omega)]
          have hL : zx_L 1 (nI s') v (xdrafted, xspecial, xdefined, xhere, xdepth, xscoped, nI ne, nI nc, xtop, nI (us0.length + 1), xpc, xenv, nI b, nI sN, 0, 1, xgiven, xclosed, Xdraft, XdraftValues, Xop, Xarg, Xparameter, Xwaiting, Xdone, Xhole, Xscope, p1, Xlocals, Xstack, Xcell, Xparent, Xbodies, Xbinds, Xscopes, Xwhat, Xfirst, Xsecond, Xthird, Xkept) (xdrafted, xspecial, xdefined, xhere, xdepth, xscoped, nI ne, nI nc, nI (st0.length + 1), nI us0.length, Xfirst us0.length, Xthird us0.length, nI b, nI sN, 0, 1, xgiven, xclosed, Xdraft, XdraftValues, Xop, Xarg, Xparameter, Xwaiting, Xdone, Xhole, Xscope, p1, Xlocals, vp_updL Xstack st0.length v, Xcell, Xparent, Xbodies, Xbinds, Xscopes, Xwhat, Xfirst, Xsecond, Xthird, Xkept) := zx_lcatch (by omega) (by omega) x1 hkp x3
          have hY : zy_S (nI ne, nI nc, nI (fs.length + 1), nI b, nI sN, 2, yat, yenv, ykind, yvalue, ycode, ytag, yresultKind, yresultValue, Ykinds, Ynumbers, Yends, Ylengths, Yparameters, Yspecial, k1, v1, Ythere, YsymbolOf, YplaceOf, YnextOf, YclosureSymbol, YclosureBody, YclosureEnv, YworkToken, YworkPhase, YworkEnv, YkeptKind, YkeptValue, b1, YoldKind, YoldValue, YoldBuffer) (nI ne, nI nc, nI fs.length, YoldBuffer fs.length, nI sN, 0, yat, yenv, ykind, yvalue, ycode, ytag, yresultKind, yresultValue, Ykinds, Ynumbers, Yends, Ylengths, Yparameters, Yspecial, k1, v1, Ythere, YsymbolOf, YplaceOf, YnextOf, YclosureSymbol, YclosureBody, YclosureEnv, YworkToken, YworkPhase, YworkEnv, YkeptKind, YkeptValue, b1, YoldKind, YoldValue, YoldBuffer) := zy_SN (by omega) (zy_nC (t := t) (ph := ph) (k := Ykinds t) (by omega) ht y1 rfl c12 y2 (y6.trans hbp) hit)
          rw [x2, x4] at hL
          rw [y9] at hY
          refine ⟨_, _, hL, hY, Or.inr (Or.inl (zz_SGi (fs := fs) (us := us0) (st := st0) hST hYW0 (zz_XWt hXW) hEN hCL hPL hLO ⟨hb, by omega, by omega, hcn, hsN⟩ ?_ h6 hJ hKR0 (by omega)))⟩
          exact zz_RpL h5 hSK0
      · have hT0 : zz_TG Ykinds Ynumbers nc fs hw x v ytag ycode ykind yvalue := zz_TGt (fun _ => hit) hTG
        obtain ⟨u1, w1, g1, g2, g3⟩ := go0 hbp (fun z => absurd (c12.symm.trans z) (by decide)) (by omega) (fun z => absurd (c12.symm.trans z) (by decide)) (fun _ => hit) (ih us0 st0 q b we p1 k1 v1 b1 hYW0 (zz_XWt hXW) hSK0 hEN hPL hKR0 hT0 hb (by omega) (by omega) (by omega))
        refine ⟨u1, w1, zx_lskip (w := 4) (by omega) x1 (by decide) (by decide) (by decide) ?_ g1, g2, g3⟩
        rcases hTG with ⟨h1, _⟩ | ⟨h1, s', hs', h3, h4, _⟩
        · exact Or.inr ⟨h1, by decide⟩
        · refine Or.inl ⟨h1, fun _ => ?_⟩
          rw [x5, h4, nI_l (by omega), lN_eq (by omega) (by omega)]
          intro z
          exact hit (by rw [h3, hN, z])
    · -- TRY
      have hph : ph = 0 := hph
      subst hbo hu
      simp only [List.length_cons] at lu
      obtain ⟨x1, x2, x3, x4, x5⟩ := zz_XWh hXW
      have x1 : Xwhat us0.length = 5 := x1
      have x2 : Xfirst us0.length = nI (pc + 2) := x2
      have x3 : Xsecond us0.length = nI st0.length := x3
      have x4 : Xthird us0.length = we := x4
      have hT0 : zz_TG Ykinds Ynumbers nc fs hw x v ytag ycode ykind yvalue := zz_TGt (fun z => absurd (c14.symm.trans z) (by decide)) hTG
      rcases hTG with ⟨h1, h2, _⟩ | ⟨h1, s', hs', h3, _⟩
      · subst h1
        have hL : zx_L 2 x v (xdrafted, xspecial, xdefined, xhere, xdepth, xscoped, nI ne, nI nc, xtop, nI (us0.length + 1), xpc, xenv, nI b, nI sN, 0, 1, xgiven, xclosed, Xdraft, XdraftValues, Xop, Xarg, Xparameter, Xwaiting, Xdone, Xhole, Xscope, p1, Xlocals, Xstack, Xcell, Xparent, Xbodies, Xbinds, Xscopes, Xwhat, Xfirst, Xsecond, Xthird, Xkept) (xdrafted, xspecial, xdefined, xhere, xdepth, xscoped, nI ne, nI nc, Xsecond us0.length, nI us0.length, Xfirst us0.length, Xthird us0.length, nI b, nI sN, 0, 1, xgiven, xclosed, Xdraft, XdraftValues, Xop, Xarg, Xparameter, Xwaiting, Xdone, Xhole, Xscope, p1, Xlocals, Xstack, Xcell, Xparent, Xbodies, Xbinds, Xscopes, Xwhat, Xfirst, Xsecond, Xthird, Xkept) := zx_ltry (by omega) x1
        subst hph
        have hY : zy_S (nI ne, nI nc, nI (fs.length + 1), nI b, nI sN, 2, yat, yenv, ykind, yvalue, ycode, ytag, yresultKind, yresultValue, Ykinds, Ynumbers, Yends, Ylengths, Yparameters, Yspecial, k1, v1, Ythere, YsymbolOf, YplaceOf, YnextOf, YclosureSymbol, YclosureBody, YclosureEnv, YworkToken, YworkPhase, YworkEnv, YkeptKind, YkeptValue, b1, YoldKind, YoldValue, YoldBuffer) (nI ne, nI nc, nI fs.length, YoldBuffer fs.length, nI sN, 1, nI t2, YworkEnv fs.length, ykind, yvalue, ycode, ytag, yresultKind, yresultValue, Ykinds, Ynumbers, Yends, Ylengths, Yparameters, Yspecial, k1, v1, Ythere, YsymbolOf, YplaceOf, YnextOf, YclosureSymbol, YclosureBody, YclosureEnv, YworkToken, YworkPhase, YworkEnv, YkeptKind, YkeptValue, b1, YoldKind, YoldValue, YoldBuffer) := zy_SN (by omega) (zy_nT (t := t) (k := Ykinds t) (by omega) ht1 y1 rfl c14 y2 hE (y6.trans hbp) (by rw [h2]; decide))
        rw [x2, x3, x4] at hL
        rw [y9, y3] at hY
        exact ⟨_, _, hL, hY, Or.inl (zz_SBi (fs := fs) (us := us0) (st := st0) hST hYW0 (zz_XWt hXW) hEN hCL hPL hLO ⟨hb, by omega, by omega, hcn, hsN⟩ hSK0 hCE hEV hJ hKR0 (by omega))⟩
      · obtain ⟨u1, w1, g1, g2, g3⟩ := go0 hbp (fun z => absurd (c14.symm.trans z) (by decide)) (by omega) (fun _ => by rw [h3]; exact nI_pos' (by omega)) (fun z => absurd (c14.symm.trans z) (by decide)) (ih us0 st0 q b we p1 k1 v1 b1 hYW0 (zz_XWt hXW) hSK0 hEN hPL hKR0 hT0 hb (by omega) (by omega) (by omega))
        exact ⟨u1, w1, zx_lskip (w := 5) (by omega) x1 (by decide) (by decide) (by decide) (Or.inl ⟨h1, fun z => absurd z (by decide)⟩) g1, g2, g3⟩
    · -- PROTECT
      have hph : ph = 0 := hph
      subst hbo hu hbp
      simp only [List.length_cons] at lu
      obtain ⟨x1, x2, x3, x4, x5⟩ := zz_XWh hXW
      have x1 : Xwhat us0.length = 6 := x1
      have x2 : Xfirst us0.length = nI (pc + 1) := x2
      have x3 : Xsecond us0.length = nI st0.length := x3
      have x4 : Xthird us0.length = we := x4
      have hT0 : zz_TG Ykinds Ynumbers nc fs hw x v ytag ycode ykind yvalue := zz_TGt (fun z => absurd (c15.symm.trans z) (by decide)) hTG
      have hL : zx_L hw x v (xdrafted, xspecial, xdefined, xhere, xdepth, xscoped, nI ne, nI nc, xtop, nI (us0.length + 1), xpc, xenv, nI b, nI sN, 0, 1, xgiven, xclosed, Xdraft, XdraftValues, Xop, Xarg, Xparameter, Xwaiting, Xdone, Xhole, Xscope, p1, Xlocals, Xstack, Xcell, Xparent, Xbodies, Xbinds, Xscopes, Xwhat, Xfirst, Xsecond, Xthird, Xkept) (xdrafted, xspecial, xdefined, xhere, xdepth, xscoped, nI ne, nI nc, Xsecond us0.length, nI (us0.length + 1), Xfirst us0.length, Xthird us0.length, nI b, nI sN, 0, 1, xgiven, xclosed, Xdraft, XdraftValues, Xop, Xarg, Xparameter, Xwaiting, Xdone, Xhole, Xscope, p1, Xlocals, Xstack, Xcell, Xparent, Xbodies, Xbinds, Xscopes, upd Xwhat us0.length (nI 7), upd Xfirst us0.length hw, upd Xsecond us0.length x, upd Xthird us0.length 0, vp_updL Xkept us0.length v) := zx_lguard hh (by omega) x1
      subst hph
      have hY : zy_S (nI ne, nI nc, nI (fs.length + 1), nI b, nI sN, 2, yat, yenv, ykind, yvalue, ycode, ytag, yresultKind, yresultValue, Ykinds, Ynumbers, Yends, Ylengths, Yparameters, Yspecial, k1, v1, Ythere, YsymbolOf, YplaceOf, YnextOf, YclosureSymbol, YclosureBody, YclosureEnv, YworkToken, YworkPhase, YworkEnv, YkeptKind, YkeptValue, b1, YoldKind, YoldValue, YoldBuffer) (nI ne, nI nc, nI (fs.length + 1), YoldBuffer fs.length, nI sN, 1, nI t2, YworkEnv fs.length, ykind, yvalue, ycode, ytag, yresultKind, yresultValue, Ykinds, Ynumbers, Yends, Ylengths, Yparameters, Yspecial, k1, v1, Ythere, YsymbolOf, YplaceOf, YnextOf, YclosureSymbol, YclosureBody, YclosureEnv, YworkToken, upd YworkPhase fs.length 2, YworkEnv, upd YkeptKind fs.length ykind, upd YkeptValue fs.length yvalue, b1, upd YoldKind fs.length ytag, upd YoldValue fs.length ycode, YoldBuffer) := zy_SN (by omega) (zy_nP (t := t) (k := Ykinds t) (by omega) ht1 y1 rfl c15 y2 hE y6)
      rw [x2, x3, x4] at hL
      rw [y9, y3] at hY
      have ce := zz_CEb hCE
      refine ⟨_, _, hL, hY, Or.inl (zz_SBi (j := 0) (q := e2) (fs := (t, 2, we, ykind, yvalue, -1, ytag, ycode, b, g) :: fs) (us := (7, hw, x, 0, v) :: us0) (st := st0) hST (zz_YWp 2 ytag ycode ykind yvalue hYW) (zz_XWp 7 hw x 0 v (zz_XWt hXW)) hEN hCL hPL hLO ⟨hb, hpt, hl, hcn, hsN⟩ hSK0 hCE hEV rfl ?_ (by omega))⟩
      exact ⟨by omega, ht, hb, sc, e, j, q, us0, st0, he, hEV, hJ, hKR0, Or.inr (Or.inr (Or.inr (Or.inr (Or.inr (Or.inr (Or.inr (Or.inr (Or.inr (Or.inr (Or.inr (Or.inr (Or.inr (Or.inl ⟨c15, rfl, ho2, ee, ⟨hw, x, v, rfl, hT0⟩, rfl, rfl, rfl, rfl⟩)))))))))))))⟩
    · -- BUFFER
      have hph : ph = 0 := hph
      subst hu
      simp only [List.length_cons] at lu
      obtain ⟨x1, x2, _⟩ := zz_XWh hXW
      have x2 : Xfirst us0.length = nI ob := x2
      have hT0 : zz_TG Ykinds Ynumbers nc fs hw x v ytag ycode ykind yvalue := zz_TGt (fun z => absurd (c16.symm.trans z) (by decide)) hTG
      obtain ⟨u1, w1, g1, g2, g3⟩ := go0 hbp (fun z => absurd (c16.symm.trans z) (by decide)) (by omega) (fun z => absurd (c16.symm.trans z) (by decide)) (fun z => absurd (c16.symm.trans z) (by decide)) (ih us0 st0 q ob we p1 k1 v1 b1 hYW0 (zz_XWt hXW) hSK0 hEN hPL hKR0 hT0 hob (by omega) (by omega) (by omega))
      refine ⟨u1, w1, zx_lbuf hh (by omega) x1 ?_, g2, g3⟩
      rw [x2]
      exact g1
end
end
section
theorem zz_prv {L th : Nat → Int32} {b s : Nat} (hb : b < 3) (hs : s < 8) (hLO : zz_LO L th) : zz_pr L b s < 8 ∨ ¬ th (zz_pr L b s) = 0 := by
  unfold zz_pr
  by_cases z : bt (L b) s = true
  · rw [if_pos z]; exact Or.inr ((hLO b s hb hs).mp z)
  · rw [if_neg z]; exact Or.inl hs
theorem zz_rcs {op ar S : Nat → Int32} {near far : Int32} {p s i : Nat} {sc : List Nat} (H : zz_RC op ar S near far p s sc) (hl : zz_lk S s sc = some i) : op p = near ∧ ar p = nI i := by
  unfold zz_RC zz_rc at H
  rw [hl] at H
  exact H
theorem zz_rcn {op ar S : Nat → Int32} {near far : Int32} {p s : Nat} {sc : List Nat} (H : zz_RC op ar S near far p s sc) (hl : zz_lk S s sc = none) : op p = far ∧ ar p = nI s := by
  unfold zz_RC zz_rc at H
  rw [hl] at H
  exact H
section
variable {xdrafted xspecial xdefined xhere xdepth xscoped xcells xclosures xtop xundo xpc xenv xbuffer xtaken xoutcome xrunning xclosed : Int32} {xgiven : Int64} {Xdraft XdraftValues Xop Xarg Xparameter Xwaiting Xdone Xhole Xscope Xlocals Xparent Xbodies Xbinds Xscopes Xwhat Xfirst Xsecond Xthird : Nat → Int32} {Xplace Xstack Xcell Xkept : Nat → Int64} {yenvs yclosures ywork ybuffer ysteps ymode yat yenv ykind yvalue ycode ytag yresultKind yresultValue : Int32} {Ykinds Ynumbers Yends Ylengths Yparameters Yspecial YplaceKind YplaceValue Ythere YsymbolOf YplaceOf YnextOf YclosureSymbol YclosureBody YclosureEnv YworkToken YworkPhase YworkEnv YkeptKind YkeptValue YboundPlace YoldKind YoldValue YoldBuffer : Nat → Int32} {fs : List zz_YF} {us : List zz_XE} {st : List Int64} {b ne nc sN t a e j q m p : Nat} {sc : List Nat}
theorem zb_0 (hST : zz_ST xdrafted xspecial xdefined Xdraft XdraftValues Xop Xarg Xparameter Ykinds Ynumbers Yends Ylengths Yparameters Yspecial) (hYW : zz_YW YworkToken YworkPhase YworkEnv YkeptKind YkeptValue YboundPlace YoldKind YoldValue YoldBuffer fs) (hXW : zz_XW Xwhat Xfirst Xsecond Xthird Xkept us) (hEN : zz_EN ne nc Xparent Xcell YplaceOf YnextOf YplaceKind YplaceValue) (hCL : zz_CL Xop Xarg Ykinds Ynumbers Yends Yspecial ne YsymbolOf YnextOf nc Xbodies Xbinds Xscopes YclosureSymbol YclosureBody YclosureEnv) (hPL : zz_PL nc Xplace YplaceKind YplaceValue Ythere) (hLO : zz_LO Xlocals Ythere) (hct : b < 3 ∧ ne + zz_pt fs ≤ sN ∧ fs.length ≤ sN ∧ nc ≤ sN ∧ sN ≤ 300) (hSK : zz_R Xstack (fun x => x) st) (hEV : zz_EV ne YsymbolOf YnextOf sc xenv) (hJ : zz_J Xop Xarg j e q) (hKR : zz_KR Xop Xarg Ykinds Ynumbers Yends Yspecial ne YsymbolOf YnextOf nc fs q us st xenv b) (hm : (301 - sN) * 1000 ≤ m + 1) (hN : sN < 300) (ht : t < 240) (hae : a < e) (he : e < 1280) (h20 : Xop a = 20) (hk : Ykinds t = 0) (h1 : Xop (a + 1) = 0) (h2 : Xarg (a + 1) = Ynumbers t) (h3 : e = a + 2) : zz_O m (xdrafted, xspecial, xdefined, xhere, xdepth, xscoped, nI ne, nI nc, nI st.length, nI us.length, nI a, xenv, nI b, nI sN, 0, 1, xgiven, xclosed, Xdraft, XdraftValues, Xop, Xarg, Xparameter, Xwaiting, Xdone, Xhole, Xscope, Xplace, Xlocals, Xstack, Xcell, Xparent, Xbodies, Xbinds, Xscopes, Xwhat, Xfirst, Xsecond, Xthird, Xkept) (nI ne, nI nc, nI fs.length, nI b, nI sN, 1, nI t, xenv, ykind, yvalue, ycode, ytag, yresultKind, yresultValue, Ykinds, Ynumbers, Yends, Ylengths, Yparameters, Yspecial, YplaceKind, YplaceValue, Ythere, YsymbolOf, YplaceOf, YnextOf, YclosureSymbol, YclosureBody, YclosureEnv, YworkToken, YworkPhase, YworkEnv, YkeptKind, YkeptValue, YboundPlace, YoldKind, YoldValue, YoldBuffer) := by
  have lu := zz_KRl _ _ _ _ _ _ hKR
  have hX1 : zx_S (xdrafted, xspecial, xdefined, xhere, xdepth, xscoped, nI ne, nI nc, nI st.length, nI us.length, nI a, xenv, nI b, nI sN, 0, 1, xgiven, xclosed, Xdraft, XdraftValues, Xop, Xarg, Xparameter, Xwaiting, Xdone, Xhole, Xscope, Xplace, Xlocals, Xstack, Xcell, Xparent, Xbodies, Xbinds, Xscopes, Xwhat, Xfirst, Xsecond, Xthird, Xkept) (xdrafted, xspecial, xdefined, xhere, xdepth, xscoped, nI ne, nI nc, nI st.length, nI us.length, nI (a + 1), xenv, nI b, nI (sN + 1), 0, 1, xgiven, xclosed, Xdraft, XdraftValues, Xop, Xarg, Xparameter, Xwaiting, Xdone, Xhole, Xscope, Xplace, Xlocals, Xstack, Xcell, Xparent, Xbodies, Xbinds, Xscopes, Xwhat, Xfirst, Xsecond, Xthird, Xkept) := zx_SG (zx_step20 (by omega) hN h20)
  have hX2 : zx_S (xdrafted, xspecial, xdefined, xhere, xdepth, xscoped, nI ne, nI nc, nI st.length, nI us.length, nI (a + 1), xenv, nI b, nI (sN + 1), 0, 1, xgiven, xclosed, Xdraft, XdraftValues, Xop, Xarg, Xparameter, Xwaiting, Xdone, Xhole, Xscope, Xplace, Xlocals, Xstack, Xcell, Xparent, Xbodies, Xbinds, Xscopes, Xwhat, Xfirst, Xsecond, Xthird, Xkept) (xdrafted, xspecial, xdefined, xhere, xdepth, xscoped, nI ne, nI nc, nI (st.length + 1), nI us.length, nI (a + 1 + 1), xenv, nI b, nI (sN + 1), 0, 1, xgiven, xclosed, Xdraft, XdraftValues, Xop, Xarg, Xparameter, Xwaiting, Xdone, Xhole, Xscope, Xplace, Xlocals, vp_updL Xstack st.length (Xarg (a + 1)).toInt64, Xcell, Xparent, Xbodies, Xbinds, Xscopes, Xwhat, Xfirst, Xsecond, Xthird, Xkept) := zx_SG (zx_num (by omega) hct.1 (by omega) h1)
  have hY : zy_S (nI ne, nI nc, nI fs.length, nI b, nI sN, 1, nI t, xenv, ykind, yvalue, ycode, ytag, yresultKind, yresultValue, Ykinds, Ynumbers, Yends, Ylengths, Yparameters, Yspecial, YplaceKind, YplaceValue, Ythere, YsymbolOf, YplaceOf, YnextOf, YclosureSymbol, YclosureBody, YclosureEnv, YworkToken, YworkPhase, YworkEnv, YkeptKind, YkeptValue, YboundPlace, YoldKind, YoldValue, YoldBuffer) (nI ne, nI nc, nI fs.length, nI b, nI (sN + 1), 0, nI t, xenv, 0, Ynumbers t, ycode, ytag, yresultKind, yresultValue, Ykinds, Ynumbers, Yends, Ylengths, Yparameters, Yspecial, YplaceKind, YplaceValue, Ythere, YsymbolOf, YplaceOf, YnextOf, YclosureSymbol, YclosureBody, YclosureEnv, YworkToken, YworkPhase, YworkEnv, YkeptKind, YkeptValue, YboundPlace, YoldKind, YoldValue, YoldBuffer) := zy_SE (zy_ev0 ht hN hk)
  subst h3
  refine ⟨_, _, zx_St hX1 hX2, hY, Or.inr (Or.inl (zz_SGi (fs := fs) (us := us) (st := st) hST hYW hXW hEN hCL hPL hLO ⟨hct.1, by omega, by omega, by omega, by omega⟩ (zz_RpL (by rw [h2]; rfl) hSK) (Or.inl rfl) hJ hKR (by omega)))⟩
theorem zb_1n (hST : zz_ST xdrafted xspecial xdefined Xdraft XdraftValues Xop Xarg Xparameter Ykinds Ynumbers Yends Ylengths Yparameters Yspecial) (hYW : zz_YW YworkToken YworkPhase YworkEnv YkeptKind YkeptValue YboundPlace YoldKind YoldValue YoldBuffer fs) (hXW : zz_XW Xwhat Xfirst Xsecond Xthird Xkept us) (hEN : zz_EN ne nc Xparent Xcell YplaceOf YnextOf YplaceKind YplaceValue) (hCL : zz_CL Xop Xarg Ykinds Ynumbers Yends Yspecial ne YsymbolOf YnextOf nc Xbodies Xbinds Xscopes YclosureSymbol YclosureBody YclosureEnv) (hPL : zz_PL nc Xplace YplaceKind YplaceValue Ythere) (hLO : zz_LO Xlocals Ythere) (hct : b < 3 ∧ ne + zz_pt fs ≤ sN ∧ fs.length ≤ sN ∧ nc ≤ sN ∧ sN ≤ 300) (hSK : zz_R Xstack (fun x => x) st) (hEV : zz_EV ne YsymbolOf YnextOf sc xenv) (hJ : zz_J Xop Xarg j e q) (hKR : zz_KR Xop Xarg Ykinds Ynumbers Yends Yspecial ne YsymbolOf YnextOf nc fs q us st xenv b) (hm : (301 - sN) * 1000 ≤ m + 1) (hN : sN < 300) (ht : t < 240) (hae : a < e) (he : e < 1280) (h20 : Xop a = 20) {s i : Nat} (hk : Ykinds t = 1) (hs : s < 8) (hn : Ynumbers t = nI s) (hRC : zz_RC Xop Xarg Yspecial 31 1 (a + 1) s sc) (h3 : e = a + 2) (hl : zz_lk Yspecial s sc = some i) : zz_O m (xdrafted, xspecial, xdefined, xhere, xdepth, xscoped, nI ne, nI nc, nI st.length, nI us.length, nI a, xenv, nI b, nI sN, 0, 1, xgiven, xclosed, Xdraft, XdraftValues, Xop, Xarg, Xparameter, Xwaiting, Xdone, Xhole, Xscope, Xplace, Xlocals, Xstack, Xcell, Xparent, Xbodies, Xbinds, Xscopes, Xwhat, Xfirst, Xsecond, Xthird, Xkept) (nI ne, nI nc, nI fs.length, nI b, nI sN, 1, nI t, xenv, ykind, yvalue, ycode, ytag, yresultKind, yresultValue, Ykinds, Ynumbers, Yends, Ylengths, Yparameters, Yspecial, YplaceKind, YplaceValue, Ythere, YsymbolOf, YplaceOf, YnextOf, YclosureSymbol, YclosureBody, YclosureEnv, YworkToken, YworkPhase, YworkEnv, YkeptKind, YkeptValue, YboundPlace, YoldKind, YoldValue, YoldBuffer) := by
  have lu := zz_KRl _ _ _ _ _ _ hKR
  obtain ⟨h1, h2⟩ := zz_rcs hRC hl
  obtain ⟨c, hc, hXn, hYn⟩ := zw_near (xdrafted := xdrafted) (xspecial := xspecial) (xdefined := xdefined) (xhere := xhere) (xdepth := xdepth) (xscoped := xscoped) (xcells := nI ne) (xclosures := nI nc) (xtop := nI st.length) (xundo := nI us.length) (xpc := nI (a + 1 + 1)) (xbuffer := nI b) (xtaken := nI (sN + 1)) (xoutcome := 0) (xrunning := 1) (xgiven := xgiven) (xclosed := xclosed) (Xdraft := Xdraft) (XdraftValues := XdraftValues) (Xop := Xop) (Xarg := Xarg) (Xparameter := Xparameter) (Xwaiting := Xwaiting) (Xdone := Xdone) (Xhole := Xhole) (Xscope := Xscope) (Xplace := Xplace) (Xlocals := Xlocals) (Xstack := Xstack) (Xcell := Xcell) (Xparent := Xparent) (Xbodies := Xbodies) (Xbinds := Xbinds) (Xscopes := Xscopes) (Xwhat := Xwhat) (Xfirst := Xfirst) (Xsecond := Xsecond) (Xthird := Xthird) (Xkept := Xkept) (yenvs := nI ne) (yclosures := nI nc) (ywork := nI fs.length) (ybuffer := nI b) (ysteps := nI (sN + 1)) (ymode := 1) (yat := nI t) (yenv := xenv) (ykind := ykind) (yvalue := yvalue) (ycode := ycode) (ytag := ytag) (yresultKind := yresultKind) (yresultValue := yresultValue) (Ykinds := Ykinds) (Ynumbers := Ynumbers) (Yends := Yends) (Ylengths := Ylengths) (Yparameters := Yparameters) (Ythere := Ythere) (YclosureSymbol := YclosureSymbol) (YclosureBody := YclosureBody) (YclosureEnv := YclosureEnv) (YworkToken := YworkToken) (YworkPhase := YworkPhase) (YworkEnv := YworkEnv) (YkeptKind := YkeptKind) (YkeptValue := YkeptValue) (YboundPlace := YboundPlace) (YoldKind := YoldKind) (YoldValue := YoldValue) (YoldBuffer := YoldBuffer) hs (by omega) hEN hEV hl
  obtain ⟨_, _, _, hce, hcv⟩ := hEN c hc
  have hX1 : zx_S (xdrafted, xspecial, xdefined, xhere, xdepth, xscoped, nI ne, nI nc, nI st.length, nI us.length, nI a, xenv, nI b, nI sN, 0, 1, xgiven, xclosed, Xdraft, XdraftValues, Xop, Xarg, Xparameter, Xwaiting, Xdone, Xhole, Xscope, Xplace, Xlocals, Xstack, Xcell, Xparent, Xbodies, Xbinds, Xscopes, Xwhat, Xfirst, Xsecond, Xthird, Xkept) (xdrafted, xspecial, xdefined, xhere, xdepth, xscoped, nI ne, nI nc, nI st.length, nI us.length, nI (a + 1), xenv, nI b, nI (sN + 1), 0, 1, xgiven, xclosed, Xdraft, XdraftValues, Xop, Xarg, Xparameter, Xwaiting, Xdone, Xhole, Xscope, Xplace, Xlocals, Xstack, Xcell, Xparent, Xbodies, Xbinds, Xscopes, Xwhat, Xfirst, Xsecond, Xthird, Xkept) := zx_SG (zx_step20 (by omega) hN h20)
  have hX2 : zx_S (xdrafted, xspecial, xdefined, xhere, xdepth, xscoped, nI ne, nI nc, nI st.length, nI us.length, nI (a + 1), xenv, nI b, nI (sN + 1), 0, 1, xgiven, xclosed, Xdraft, XdraftValues, Xop, Xarg, Xparameter, Xwaiting, Xdone, Xhole, Xscope, Xplace, Xlocals, Xstack, Xcell, Xparent, Xbodies, Xbinds, Xscopes, Xwhat, Xfirst, Xsecond, Xthird, Xkept) (xdrafted, xspecial, xdefined, xhere, xdepth, xscoped, nI ne, nI nc, nI (st.length + 1), nI us.length, nI (a + 1 + 1), xenv, nI b, nI (sN + 1), 0, 1, xgiven, xclosed, Xdraft, XdraftValues, Xop, Xarg, Xparameter, Xwaiting, Xdone, Xhole, Xscope, Xplace, Xlocals, vp_updL Xstack st.length (Xcell c), Xcell, Xparent, Xbodies, Xbinds, Xscopes, Xwhat, Xfirst, Xsecond, Xthird, Xkept) := zx_SG (zx_near (by omega) (by omega) (by omega) h1 (by rw [h2]; exact hXn))
  have hY : zy_S (nI ne, nI nc, nI fs.length, nI b, nI sN, 1, nI t, xenv, ykind, yvalue, ycode, ytag, yresultKind, yresultValue, Ykinds, Ynumbers, Yends, Ylengths, Yparameters, Yspecial, YplaceKind, YplaceValue, Ythere, YsymbolOf, YplaceOf, YnextOf, YclosureSymbol, YclosureBody, YclosureEnv, YworkToken, YworkPhase, YworkEnv, YkeptKind, YkeptValue, YboundPlace, YoldKind, YoldValue, YoldBuffer) (nI ne, nI nc, nI fs.length, nI b, nI (sN + 1), 0, nI t, xenv, YplaceKind (32 + c), YplaceValue (32 + c), ycode, ytag, yresultKind, yresultValue, Ykinds, Ynumbers, Yends, Ylengths, Yparameters, Yspecial, YplaceKind, YplaceValue, Ythere, YsymbolOf, YplaceOf, YnextOf, YclosureSymbol, YclosureBody, YclosureEnv, YworkToken, YworkPhase, YworkEnv, YkeptKind, YkeptValue, YboundPlace, YoldKind, YoldValue, YoldBuffer) := zy_SE (zy_ev1 ht hN hk hn (by omega) hYn (zz_V2 hcv))
  subst h3
  exact ⟨_, _, zx_St hX1 hX2, hY, Or.inr (Or.inl (zz_SGi (fs := fs) (us := us) (st := st) hST hYW hXW hEN hCL hPL hLO ⟨hct.1, by omega, by omega, by omega, by omega⟩ (zz_RpL hce hSK) hcv hJ hKR (by omega)))⟩
theorem zb_1f (hST : zz_ST xdrafted xspecial xdefined Xdraft XdraftValues Xop Xarg Xparameter Ykinds Ynumbers Yends Ylengths Yparameters Yspecial) (hYW : zz_YW YworkToken YworkPhase YworkEnv YkeptKind YkeptValue YboundPlace YoldKind YoldValue YoldBuffer fs) (hXW : zz_XW Xwhat Xfirst Xsecond Xthird Xkept us) (hEN : zz_EN ne nc Xparent Xcell YplaceOf YnextOf YplaceKind YplaceValue) (hCL : zz_CL Xop Xarg Ykinds Ynumbers Yends Yspecial ne YsymbolOf YnextOf nc Xbodies Xbinds Xscopes YclosureSymbol YclosureBody YclosureEnv) (hPL : zz_PL nc Xplace YplaceKind YplaceValue Ythere) (hLO : zz_LO Xlocals Ythere) (hct : b < 3 ∧ ne + zz_pt fs ≤ sN ∧ fs.length ≤ sN ∧ nc ≤ sN ∧ sN ≤ 300) (hSK : zz_R Xstack (fun x => x) st) (hEV : zz_EV ne YsymbolOf YnextOf sc xenv) (hJ : zz_J Xop Xarg j e q) (hKR : zz_KR Xop Xarg Ykinds Ynumbers Yends Yspecial ne YsymbolOf YnextOf nc fs q us st xenv b) (hm : (301 - sN) * 1000 ≤ m + 1) (hN : sN < 300) (ht : t < 240) (hae : a < e) (he : e < 1280) (h20 : Xop a = 20) {s : Nat} (hk : Ykinds t = 1) (hs : s < 8) (hn : Ynumbers t = nI s) (hRC : zz_RC Xop Xarg Yspecial 31 1 (a + 1) s sc) (h3 : e = a + 2) (hl : zz_lk Yspecial s sc = none) : zz_O m (xdrafted, xspecial, xdefined, xhere, xdepth, xscoped, nI ne, nI nc, nI st.length, nI us.length, nI a, xenv, nI b, nI sN, 0, 1, xgiven, xclosed, Xdraft, XdraftValues, Xop, Xarg, Xparameter, Xwaiting, Xdone, Xhole, Xscope, Xplace, Xlocals, Xstack, Xcell, Xparent, Xbodies, Xbinds, Xscopes, Xwhat, Xfirst, Xsecond, Xthird, Xkept) (nI ne, nI nc, nI fs.length, nI b, nI sN, 1, nI t, xenv, ykind, yvalue, ycode, ytag, yresultKind, yresultValue, Ykinds, Ynumbers, Yends, Ylengths, Yparameters, Yspecial, YplaceKind, YplaceValue, Ythere, YsymbolOf, YplaceOf, YnextOf, YclosureSymbol, YclosureBody, YclosureEnv, YworkToken, YworkPhase, YworkEnv, YkeptKind, YkeptValue, YboundPlace, YoldKind, YoldValue, YoldBuffer) := by
  have lu := zz_KRl _ _ _ _ _ _ hKR
  obtain ⟨h1, h2⟩ := zz_rcn hRC hl
  have hb := hct.1
  have h32 := zz_pr32 (L := Xlocals) hb hs
  obtain ⟨hpl, hpw⟩ := hPL (zz_pr Xlocals b s) h32 (zz_prv hb hs hLO)
  have hX1 : zx_S (xdrafted, xspecial, xdefined, xhere, xdepth, xscoped, nI ne, nI nc, nI st.length, nI us.length, nI a, xenv, nI b, nI sN, 0, 1, xgiven, xclosed, Xdraft, XdraftValues, Xop, Xarg, Xparameter, Xwaiting, Xdone, Xhole, Xscope, Xplace, Xlocals, Xstack, Xcell, Xparent, Xbodies, Xbinds, Xscopes, Xwhat, Xfirst, Xsecond, Xthird, Xkept) (xdrafted, xspecial, xdefined, xhere, xdepth, xscoped, nI ne, nI nc, nI st.length, nI us.length, nI (a + 1), xenv, nI b, nI (sN + 1), 0, 1, xgiven, xclosed, Xdraft, XdraftValues, Xop, Xarg, Xparameter, Xwaiting, Xdone, Xhole, Xscope, Xplace, Xlocals, Xstack, Xcell, Xparent, Xbodies, Xbinds, Xscopes, Xwhat, Xfirst, Xsecond, Xthird, Xkept) := zx_SG (zx_step20 (by omega) hN h20)
  by_cases z : YplaceKind (zz_pr Xlocals b s) = 2
  · have hY : zy_S (nI ne, nI nc, nI fs.length, nI b, nI sN, 1, nI t, xenv, ykind, yvalue, ycode, ytag, yresultKind, yresultValue, Ykinds, Ynumbers, Yends, Ylengths, Yparameters, Yspecial, YplaceKind, YplaceValue, Ythere, YsymbolOf, YplaceOf, YnextOf, YclosureSymbol, YclosureBody, YclosureEnv, YworkToken, YworkPhase, YworkEnv, YkeptKind, YkeptValue, YboundPlace, YoldKind, YoldValue, YoldBuffer) (nI ne, nI nc, nI fs.length, nI b, nI (sN + 1), 2, nI t, xenv, ykind, yvalue, 1, -1, yresultKind, yresultValue, Ykinds, Ynumbers, Yends, Ylengths, Yparameters, Yspecial, YplaceKind, YplaceValue, Ythere, YsymbolOf, YplaceOf, YnextOf, YclosureSymbol, YclosureBody, YclosureEnv, YworkToken, YworkPhase, YworkEnv, YkeptKind, YkeptValue, YboundPlace, YoldKind, YoldValue, YoldBuffer) := zy_SE (zy_ev1E ht hN hk hn (by omega) (zw_far hs hb (by omega) hEV hLO hl) z)
    obtain ⟨u1, w1, g1, g2, g3⟩ := zw_end (hw := 2) (x := 1) (v := 0) (m := m) (sN := sN + 1) (xtop := nI st.length) (xpc := nI (a + 1 + 1)) (xenv := xenv) (yat := nI t) (yenv := xenv) (ytag := -1) (ycode := 1) hST hCL hLO (by omega) (by omega) fs us st q b xenv Xplace YplaceKind YplaceValue YboundPlace hYW hXW hSK hEN hPL hKR (Or.inl ⟨rfl, rfl, rfl, by decide⟩) hb (by omega) (by omega) (by omega)
    have hX2 : zx_S (xdrafted, xspecial, xdefined, xhere, xdepth, xscoped, nI ne, nI nc, nI st.length, nI us.length, nI (a + 1), xenv, nI b, nI (sN + 1), 0, 1, xgiven, xclosed, Xdraft, XdraftValues, Xop, Xarg, Xparameter, Xwaiting, Xdone, Xhole, Xscope, Xplace, Xlocals, Xstack, Xcell, Xparent, Xbodies, Xbinds, Xscopes, Xwhat, Xfirst, Xsecond, Xthird, Xkept) u1 := zx_SG (zx_varE (by omega) hb hs h1 h2 (by rw [hpl]; exact (zz_eq2 (by omega) hpw).mpr z) (zx_LU g1))
    exact ⟨u1, w1, zx_St hX1 hX2, zy_St hY g2, g3⟩
  · have hV : zz_V nc (YplaceKind (zz_pr Xlocals b s)) (YplaceValue (zz_pr Xlocals b s)) := hpw.elim id (fun w => absurd w z)
    have hX2 : zx_S (xdrafted, xspecial, xdefined, xhere, xdepth, xscoped, nI ne, nI nc, nI st.length, nI us.length, nI (a + 1), xenv, nI b, nI (sN + 1), 0, 1, xgiven, xclosed, Xdraft, XdraftValues, Xop, Xarg, Xparameter, Xwaiting, Xdone, Xhole, Xscope, Xplace, Xlocals, Xstack, Xcell, Xparent, Xbodies, Xbinds, Xscopes, Xwhat, Xfirst, Xsecond, Xthird, Xkept) (xdrafted, xspecial, xdefined, xhere, xdepth, xscoped, nI ne, nI nc, nI (st.length + 1), nI us.length, nI (a + 1 + 1), xenv, nI b, nI (sN + 1), 0, 1, xgiven, xclosed, Xdraft, XdraftValues, Xop, Xarg, Xparameter, Xwaiting, Xdone, Xhole, Xscope, Xplace, Xlocals, vp_updL Xstack st.length (Xplace (zz_pr Xlocals b s)), Xcell, Xparent, Xbodies, Xbinds, Xscopes, Xwhat, Xfirst, Xsecond, Xthird, Xkept) := zx_SG (zx_var (by omega) hb hs (by omega) h1 h2 (by rw [hpl]; exact fun w => z ((zz_eq2 (by omega) hpw).mp w)))
    have hY : zy_S (nI ne, nI nc, nI fs.length, nI b, nI sN, 1, nI t, xenv, ykind, yvalue, ycode, ytag, yresultKind, yresultValue, Ykinds, Ynumbers, Yends, Ylengths, Yparameters, Yspecial, YplaceKind, YplaceValue, Ythere, YsymbolOf, YplaceOf, YnextOf, YclosureSymbol, YclosureBody, YclosureEnv, YworkToken, YworkPhase, YworkEnv, YkeptKind, YkeptValue, YboundPlace, YoldKind, YoldValue, YoldBuffer) (nI ne, nI nc, nI fs.length, nI b, nI (sN + 1), 0, nI t, xenv, YplaceKind (zz_pr Xlocals b s), YplaceValue (zz_pr Xlocals b s), ycode, ytag, yresultKind, yresultValue, Ykinds, Ynumbers, Yends, Ylengths, Yparameters, Yspecial, YplaceKind, YplaceValue, Ythere, YsymbolOf, YplaceOf, YnextOf, YclosureSymbol, YclosureBody, YclosureEnv, YworkToken, YworkPhase, YworkEnv, YkeptKind, YkeptValue, YboundPlace, YoldKind, YoldValue, YoldBuffer) := zy_SE (zy_ev1 ht hN hk hn (by omega) (zw_far hs hb (by omega) hEV hLO hl) z)
    subst h3
    exact ⟨_, _, zx_St hX1 hX2, hY, Or.inr (Or.inl (zz_SGi (fs := fs) (us := us) (st := st) hST hYW hXW hEN hCL hPL hLO ⟨hct.1, by omega, by omega, by omega, by omega⟩ (zz_RpL hpl hSK) hV hJ hKR (by omega)))⟩
theorem zb_18 (hST : zz_ST xdrafted xspecial xdefined Xdraft XdraftValues Xop Xarg Xparameter Ykinds Ynumbers Yends Ylengths Yparameters Yspecial) (hYW : zz_YW YworkToken YworkPhase YworkEnv YkeptKind YkeptValue YboundPlace YoldKind YoldValue YoldBuffer fs) (hXW : zz_XW Xwhat Xfirst Xsecond Xthird Xkept us) (hEN : zz_EN ne nc Xparent Xcell YplaceOf YnextOf YplaceKind YplaceValue) (hCL : zz_CL Xop Xarg Ykinds Ynumbers Yends Yspecial ne YsymbolOf YnextOf nc Xbodies Xbinds Xscopes YclosureSymbol YclosureBody YclosureEnv) (hPL : zz_PL nc Xplace YplaceKind YplaceValue Ythere) (hLO : zz_LO Xlocals Ythere) (hct : b < 3 ∧ ne + zz_pt fs ≤ sN ∧ fs.length ≤ sN ∧ nc ≤ sN ∧ sN ≤ 300) (hSK : zz_R Xstack (fun x => x) st) (hEV : zz_EV ne YsymbolOf YnextOf sc xenv) (hJ : zz_J Xop Xarg j e q) (hKR : zz_KR Xop Xarg Ykinds Ynumbers Yends Yspecial ne YsymbolOf YnextOf nc fs q us st xenv b) (hm : (301 - sN) * 1000 ≤ m + 1) (hN : sN < 300) (ht : t < 240) (hae : a < e) (he : e < 1280) (h20 : Xop a = 20) (hk : Ykinds t = 18) (h1 : Xop (a + 1) = 18) (h3 : e = a + 2) : zz_O m (xdrafted, xspecial, xdefined, xhere, xdepth, xscoped, nI ne, nI nc, nI st.length, nI us.length, nI a, xenv, nI b, nI sN, 0, 1, xgiven, xclosed, Xdraft, XdraftValues, Xop, Xarg, Xparameter, Xwaiting, Xdone, Xhole, Xscope, Xplace, Xlocals, Xstack, Xcell, Xparent, Xbodies, Xbinds, Xscopes, Xwhat, Xfirst, Xsecond, Xthird, Xkept) (nI ne, nI nc, nI fs.length, nI b, nI sN, 1, nI t, xenv, ykind, yvalue, ycode, ytag, yresultKind, yresultValue, Ykinds, Ynumbers, Yends, Ylengths, Yparameters, Yspecial, YplaceKind, YplaceValue, Ythere, YsymbolOf, YplaceOf, YnextOf, YclosureSymbol, YclosureBody, YclosureEnv, YworkToken, YworkPhase, YworkEnv, YkeptKind, YkeptValue, YboundPlace, YoldKind, YoldValue, YoldBuffer) := by
  have hb := hct.1
  have hX1 : zx_S (xdrafted, xspecial, xdefined, xhere, xdepth, xscoped, nI ne, nI nc, nI st.length, nI us.length, nI a, xenv, nI b, nI sN, 0, 1, xgiven, xclosed, Xdraft, XdraftValues, Xop, Xarg, Xparameter, Xwaiting, Xdone, Xhole, Xscope, Xplace, Xlocals, Xstack, Xcell, Xparent, Xbodies, Xbinds, Xscopes, Xwhat, Xfirst, Xsecond, Xthird, Xkept) (xdrafted, xspecial, xdefined, xhere, xdepth, xscoped, nI ne, nI nc, nI st.length, nI us.length, nI (a + 1), xenv, nI b, nI (sN + 1), 0, 1, xgiven, xclosed, Xdraft, XdraftValues, Xop, Xarg, Xparameter, Xwaiting, Xdone, Xhole, Xscope, Xplace, Xlocals, Xstack, Xcell, Xparent, Xbodies, Xbinds, Xscopes, Xwhat, Xfirst, Xsecond, Xthird, Xkept) := zx_SG (zx_step20 (by omega) hN h20)
  have hY : zy_S (nI ne, nI nc, nI fs.length, nI b, nI sN, 1, nI t, xenv, ykind, yvalue, ycode, ytag, yresultKind, yresultValue, Ykinds, Ynumbers, Yends, Ylengths, Yparameters, Yspecial, YplaceKind, YplaceValue, Ythere, YsymbolOf, YplaceOf, YnextOf, YclosureSymbol, YclosureBody, YclosureEnv, YworkToken, YworkPhase, YworkEnv, YkeptKind, YkeptValue, YboundPlace, YoldKind, YoldValue, YoldBuffer) (nI ne, nI nc, nI fs.length, nI b, nI (sN + 1), 2, nI t, xenv, ykind, yvalue, 4, -1, yresultKind, yresultValue, Ykinds, Ynumbers, Yends, Ylengths, Yparameters, Yspecial, YplaceKind, YplaceValue, Ythere, YsymbolOf, YplaceOf, YnextOf, YclosureSymbol, YclosureBody, YclosureEnv, YworkToken, YworkPhase, YworkEnv, YkeptKind, YkeptValue, YboundPlace, YoldKind, YoldValue, YoldBuffer) := zy_SE (zy_ev18 ht hN hk)
  obtain ⟨u1, w1, g1, g2, g3⟩ := zw_end (hw := 2) (x := 4) (v := 0) (m := m) (sN := sN + 1) (xtop := nI st.length) (xpc := nI (a + 1 + 1)) (xenv := xenv) (yat := nI t) (yenv := xenv) (ytag := -1) (ycode := 4) hST hCL hLO (by omega) (by omega) fs us st q b xenv Xplace YplaceKind YplaceValue YboundPlace hYW hXW hSK hEN hPL hKR (Or.inl ⟨rfl, rfl, rfl, by decide⟩) hb (by omega) (by omega) (by omega)
  have hX2 : zx_S (xdrafted, xspecial, xdefined, xhere, xdepth, xscoped, nI ne, nI nc, nI st.length, nI us.length, nI (a + 1), xenv, nI b, nI (sN + 1), 0, 1, xgiven, xclosed, Xdraft, XdraftValues, Xop, Xarg, Xparameter, Xwaiting, Xdone, Xhole, Xscope, Xplace, Xlocals, Xstack, Xcell, Xparent, Xbodies, Xbinds, Xscopes, Xwhat, Xfirst, Xsecond, Xthird, Xkept) u1 := zx_SG (zx_failE (by omega) hb h1 (zx_LU g1))
  exact ⟨u1, w1, zx_St hX1 hX2, zy_St hY g2, g3⟩
theorem zb_4 (hST : zz_ST xdrafted xspecial xdefined Xdraft XdraftValues Xop Xarg Xparameter Ykinds Ynumbers Yends Ylengths Yparameters Yspecial) (hYW : zz_YW YworkToken YworkPhase YworkEnv YkeptKind YkeptValue YboundPlace YoldKind YoldValue YoldBuffer fs) (hXW : zz_XW Xwhat Xfirst Xsecond Xthird Xkept us) (hEN : zz_EN ne nc Xparent Xcell YplaceOf YnextOf YplaceKind YplaceValue) (hCL : zz_CL Xop Xarg Ykinds Ynumbers Yends Yspecial ne YsymbolOf YnextOf nc Xbodies Xbinds Xscopes YclosureSymbol YclosureBody YclosureEnv) (hPL : zz_PL nc Xplace YplaceKind YplaceValue Ythere) (hLO : zz_LO Xlocals Ythere) (hct : b < 3 ∧ ne + zz_pt fs ≤ sN ∧ fs.length ≤ sN ∧ nc ≤ sN ∧ sN ≤ 300) (hSK : zz_R Xstack (fun x => x) st) (hEV : zz_EV ne YsymbolOf YnextOf sc xenv) (hJ : zz_J Xop Xarg j e q) (hKR : zz_KR Xop Xarg Ykinds Ynumbers Yends Yspecial ne YsymbolOf YnextOf nc fs q us st xenv b) (hm : (301 - sN) * 1000 ≤ m + 1) (hN : sN < 300) (ht : t < 240) (hae : a < e) (he : e < 1280) (h20 : Xop a = 20) {s e1 : Nat} (hk : Ykinds t = 4) (hs : s < 8) (hn : Ynumbers t = nI s) (h1 : Xop (a + 1) = 4) (h2 : Xarg (a + 1) = nI (a + 3 + s * 65536)) (h4 : Xop (a + 2) = 23) (h5 : Xarg (a + 2) = nI (e * 65536)) (hC : zz_CE Xop Xarg Ykinds Ynumbers Yends Yspecial (t + 1) (a + 3) e1 (zz_ex Yspecial s sc)) (h6 : Xop e1 = 24) (h3 : e = e1 + 1) : zz_O m (xdrafted, xspecial, xdefined, xhere, xdepth, xscoped, nI ne, nI nc, nI st.length, nI us.length, nI a, xenv, nI b, nI sN, 0, 1, xgiven, xclosed, Xdraft, XdraftValues, Xop, Xarg, Xparameter, Xwaiting, Xdone, Xhole, Xscope, Xplace, Xlocals, Xstack, Xcell, Xparent, Xbodies, Xbinds, Xscopes, Xwhat, Xfirst, Xsecond, Xthird, Xkept) (nI ne, nI nc, nI fs.length, nI b, nI sN, 1, nI t, xenv, ykind, yvalue, ycode, ytag, yresultKind, yresultValue, Ykinds, Ynumbers, Yends, Ylengths, Yparameters, Yspecial, YplaceKind, YplaceValue, Ythere, YsymbolOf, YplaceOf, YnextOf, YclosureSymbol, YclosureBody, YclosureEnv, YworkToken, YworkPhase, YworkEnv, YkeptKind, YkeptValue, YboundPlace, YoldKind, YoldValue, YoldBuffer) := by
  have lu := zz_KRl _ _ _ _ _ _ hKR
  have hb := hct.1
  have ce := zz_CEb hC
  have hX1 : zx_S (xdrafted, xspecial, xdefined, xhere, xdepth, xscoped, nI ne, nI nc, nI st.length, nI us.length, nI a, xenv, nI b, nI sN, 0, 1, xgiven, xclosed, Xdraft, XdraftValues, Xop, Xarg, Xparameter, Xwaiting, Xdone, Xhole, Xscope, Xplace, Xlocals, Xstack, Xcell, Xparent, Xbodies, Xbinds, Xscopes, Xwhat, Xfirst, Xsecond, Xthird, Xkept) (xdrafted, xspecial, xdefined, xhere, xdepth, xscoped, nI ne, nI nc, nI st.length, nI us.length, nI (a + 1), xenv, nI b, nI (sN + 1), 0, 1, xgiven, xclosed, Xdraft, XdraftValues, Xop, Xarg, Xparameter, Xwaiting, Xdone, Xhole, Xscope, Xplace, Xlocals, Xstack, Xcell, Xparent, Xbodies, Xbinds, Xscopes, Xwhat, Xfirst, Xsecond, Xthird, Xkept) := zx_SG (zx_step20 (by omega) hN h20)
  have hX2 : zx_S (xdrafted, xspecial, xdefined, xhere, xdepth, xscoped, nI ne, nI nc, nI st.length, nI us.length, nI (a + 1), xenv, nI b, nI (sN + 1), 0, 1, xgiven, xclosed, Xdraft, XdraftValues, Xop, Xarg, Xparameter, Xwaiting, Xdone, Xhole, Xscope, Xplace, Xlocals, Xstack, Xcell, Xparent, Xbodies, Xbinds, Xscopes, Xwhat, Xfirst, Xsecond, Xthird, Xkept) (xdrafted, xspecial, xdefined, xhere, xdepth, xscoped, nI ne, nI (nc + 1), nI (st.length + 1), nI us.length, nI (a + 1 + 1), xenv, nI b, nI (sN + 1), 0, 1, xgiven, xclosed, Xdraft, XdraftValues, Xop, Xarg, Xparameter, Xwaiting, Xdone, Xhole, Xscope, Xplace, Xlocals, vp_updL Xstack st.length (zz_en 1 (nI nc)), Xcell, Xparent, upd Xbodies nc (nI (a + 3)), upd Xbinds nc (nI s), upd Xscopes nc xenv, Xwhat, Xfirst, Xsecond, Xthird, Xkept) := zx_SG (zx_fun (by omega) hb hs (by omega) (by omega) (by omega) (zz_EVe (by omega) hEV) h1 h2)
  have hX3 : zx_S (xdrafted, xspecial, xdefined, xhere, xdepth, xscoped, nI ne, nI (nc + 1), nI (st.length + 1), nI us.length, nI (a + 1 + 1), xenv, nI b, nI (sN + 1), 0, 1, xgiven, xclosed, Xdraft, XdraftValues, Xop, Xarg, Xparameter, Xwaiting, Xdone, Xhole, Xscope, Xplace, Xlocals, vp_updL Xstack st.length (zz_en 1 (nI nc)), Xcell, Xparent, upd Xbodies nc (nI (a + 3)), upd Xbinds nc (nI s), upd Xscopes nc xenv, Xwhat, Xfirst, Xsecond, Xthird, Xkept) (xdrafted, xspecial, xdefined, xhere, xdepth, xscoped, nI ne, nI (nc + 1), nI (st.length + 1), nI us.length, nI (e), xenv, nI b, nI (sN + 1), 0, 1, xgiven, xclosed, Xdraft, XdraftValues, Xop, Xarg, Xparameter, Xwaiting, Xdone, Xhole, Xscope, Xplace, Xlocals, vp_updL Xstack st.length (zz_en 1 (nI nc)), Xcell, Xparent, upd Xbodies nc (nI (a + 3)), upd Xbinds nc (nI s), upd Xscopes nc xenv, Xwhat, Xfirst, Xsecond, Xthird, Xkept) := zx_SG (zx_jump (by omega) (by omega) h4 h5)
  have hY : zy_S (nI ne, nI nc, nI fs.length, nI b, nI sN, 1, nI t, xenv, ykind, yvalue, ycode, ytag, yresultKind, yresultValue, Ykinds, Ynumbers, Yends, Ylengths, Yparameters, Yspecial, YplaceKind, YplaceValue, Ythere, YsymbolOf, YplaceOf, YnextOf, YclosureSymbol, YclosureBody, YclosureEnv, YworkToken, YworkPhase, YworkEnv, YkeptKind, YkeptValue, YboundPlace, YoldKind, YoldValue, YoldBuffer) (nI ne, nI (nc + 1), nI fs.length, nI b, nI (sN + 1), 0, nI t, xenv, 1, nI nc, ycode, ytag, yresultKind, yresultValue, Ykinds, Ynumbers, Yends, Ylengths, Yparameters, Yspecial, YplaceKind, YplaceValue, Ythere, YsymbolOf, YplaceOf, YnextOf, upd YclosureSymbol nc (Ynumbers t), upd YclosureBody nc (nI (t + 1)), upd YclosureEnv nc xenv, YworkToken, YworkPhase, YworkEnv, YkeptKind, YkeptValue, YboundPlace, YoldKind, YoldValue, YoldBuffer) := zy_SE (zy_ev4 ht hN hk (by omega))
  rw [hn] at hY
  exact ⟨_, _, zx_St hX1 (zx_St hX2 hX3), hY, Or.inr (Or.inl (zz_SGi (fs := fs) (us := us) (st := st) hST hYW hXW (zz_ENm (Nat.le_succ _) hEN) (zz_CLn hs hC h6 hEV hCL) (zz_PLm (Nat.le_succ _) hPL) hLO ⟨hct.1, by omega, by omega, by omega, by omega⟩ (zz_RpL rfl hSK) (Or.inr ⟨rfl, nc, Nat.lt_succ_self _, rfl⟩) hJ (zz_KRm (Nat.le_refl _) (fun _ _ => ⟨rfl, rfl⟩) (Nat.le_succ _) _ _ _ _ _ _ hKR) (by omega)))⟩
/-- a token that waits for its first expression -/
theorem zb_push (hST : zz_ST xdrafted xspecial xdefined Xdraft XdraftValues Xop Xarg Xparameter Ykinds Ynumbers Yends Ylengths Yparameters Yspecial) (hYW : zz_YW YworkToken YworkPhase YworkEnv YkeptKind YkeptValue YboundPlace YoldKind YoldValue YoldBuffer fs) (hXW : zz_XW Xwhat Xfirst Xsecond Xthird Xkept us) (hEN : zz_EN ne nc Xparent Xcell YplaceOf YnextOf YplaceKind YplaceValue) (hCL : zz_CL Xop Xarg Ykinds Ynumbers Yends Yspecial ne YsymbolOf YnextOf nc Xbodies Xbinds Xscopes YclosureSymbol YclosureBody YclosureEnv) (hPL : zz_PL nc Xplace YplaceKind YplaceValue Ythere) (hLO : zz_LO Xlocals Ythere) (hct : b < 3 ∧ ne + zz_pt fs ≤ sN ∧ fs.length ≤ sN ∧ nc ≤ sN ∧ sN ≤ 300) (hSK : zz_R Xstack (fun x => x) st) (hEV : zz_EV ne YsymbolOf YnextOf sc xenv) (hJ : zz_J Xop Xarg j e q) (hKR : zz_KR Xop Xarg Ykinds Ynumbers Yends Yspecial ne YsymbolOf YnextOf nc fs q us st xenv b) (hm : (301 - sN) * 1000 ≤ m + 1) (hN : sN < 300) (ht : t < 240) (hae : a < e) (he : e < 1280) (h20 : Xop a = 20) {e1 : Nat} {k : Int32} (hk : Ykinds t = k) (h0 : ¬ k = 0) (h1 : ¬ k = 1) (h2 : ¬ k = 18) (h3 : ¬ k = 4) (h4 : ¬ k = 16) (hC : zz_CE Xop Xarg Ykinds Ynumbers Yends Yspecial (t + 1) (a + 1) e1 sc) (hF : ∀ kk kv ok ov : Int32, zz_FR Xop Xarg Ykinds Ynumbers Yends Yspecial nc fs t 0 xenv kk kv (-1) ok ov b 1 sc e1 us st xenv b e us st) : zz_O m (xdrafted, xspecial, xdefined, xhere, xdepth, xscoped, nI ne, nI nc, nI st.length, nI us.length, nI a, xenv, nI b, nI sN, 0, 1, xgiven, xclosed, Xdraft, XdraftValues, Xop, Xarg, Xparameter, Xwaiting, Xdone, Xhole, Xscope, Xplace, Xlocals, Xstack, Xcell, Xparent, Xbodies, Xbinds, Xscopes, Xwhat, Xfirst, Xsecond, Xthird, Xkept) (nI ne, nI nc, nI fs.length, nI b, nI sN, 1, nI t, xenv, ykind, yvalue, ycode, ytag, yresultKind, yresultValue, Ykinds, Ynumbers, Yends, Ylengths, Yparameters, Yspecial, YplaceKind, YplaceValue, Ythere, YsymbolOf, YplaceOf, YnextOf, YclosureSymbol, YclosureBody, YclosureEnv, YworkToken, YworkPhase, YworkEnv, YkeptKind, YkeptValue, YboundPlace, YoldKind, YoldValue, YoldBuffer) := by
  have ce := zz_CEb hC
  have hX1 : zx_S (xdrafted, xspecial, xdefined, xhere, xdepth, xscoped, nI ne, nI nc, nI st.length, nI us.length, nI a, xenv, nI b, nI sN, 0, 1, xgiven, xclosed, Xdraft, XdraftValues, Xop, Xarg, Xparameter, Xwaiting, Xdone, Xhole, Xscope, Xplace, Xlocals, Xstack, Xcell, Xparent, Xbodies, Xbinds, Xscopes, Xwhat, Xfirst, Xsecond, Xthird, Xkept) (xdrafted, xspecial, xdefined, xhere, xdepth, xscoped, nI ne, nI nc, nI st.length, nI us.length, nI (a + 1), xenv, nI b, nI (sN + 1), 0, 1, xgiven, xclosed, Xdraft, XdraftValues, Xop, Xarg, Xparameter, Xwaiting, Xdone, Xhole, Xscope, Xplace, Xlocals, Xstack, Xcell, Xparent, Xbodies, Xbinds, Xscopes, Xwhat, Xfirst, Xsecond, Xthird, Xkept) := zx_SG (zx_step20 (by omega) hN h20)
  have hY : zy_S (nI ne, nI nc, nI fs.length, nI b, nI sN, 1, nI t, xenv, ykind, yvalue, ycode, ytag, yresultKind, yresultValue, Ykinds, Ynumbers, Yends, Ylengths, Yparameters, Yspecial, YplaceKind, YplaceValue, Ythere, YsymbolOf, YplaceOf, YnextOf, YclosureSymbol, YclosureBody, YclosureEnv, YworkToken, YworkPhase, YworkEnv, YkeptKind, YkeptValue, YboundPlace, YoldKind, YoldValue, YoldBuffer) (nI ne, nI nc, nI (fs.length + 1), nI b, nI (sN + 1), 1, nI (t + 1), xenv, ykind, yvalue, ycode, ytag, yresultKind, yresultValue, Ykinds, Ynumbers, Yends, Ylengths, Yparameters, Yspecial, YplaceKind, YplaceValue, Ythere, YsymbolOf, YplaceOf, YnextOf, YclosureSymbol, YclosureBody, YclosureEnv, upd YworkToken fs.length (nI t), upd YworkPhase fs.length 0, upd YworkEnv fs.length xenv, YkeptKind, YkeptValue, upd YboundPlace fs.length (-1), YoldKind, YoldValue, upd YoldBuffer fs.length (nI b)) := zy_SE (zy_evp ht hN (by omega) hk h0 h1 h2 h3 h4)
  refine ⟨_, _, hX1, hY, Or.inl (zz_SBi (j := 0) (q := e1) (fs := (t, 0, xenv, YkeptKind fs.length, YkeptValue fs.length, -1, YoldKind fs.length, YoldValue fs.length, b, 1) :: fs) (us := us) (st := st) hST (zz_YWe t xenv b 1 hYW) hXW hEN hCL hPL hLO ⟨hct.1, ?_, ?_, by omega, by omega⟩ hSK hC hEV rfl ?_ (by omega))⟩
  · show ne + (1 + zz_pt fs) ≤ sN + 1; omega
  · show fs.length + 1 ≤ sN + 1; omega
  · exact ⟨by omega, ht, hct.1, sc, e, j, q, us, st, he, hEV, hJ, hKR, hF _ _ _ _⟩
/-- .. with an entry on the second stack -/
theorem zb_push2 (hST : zz_ST xdrafted xspecial xdefined Xdraft XdraftValues Xop Xarg Xparameter Ykinds Ynumbers Yends Ylengths Yparameters Yspecial) (hYW : zz_YW YworkToken YworkPhase YworkEnv YkeptKind YkeptValue YboundPlace YoldKind YoldValue YoldBuffer fs) (hXW : zz_XW Xwhat Xfirst Xsecond Xthird Xkept us) (hEN : zz_EN ne nc Xparent Xcell YplaceOf YnextOf YplaceKind YplaceValue) (hCL : zz_CL Xop Xarg Ykinds Ynumbers Yends Yspecial ne YsymbolOf YnextOf nc Xbodies Xbinds Xscopes YclosureSymbol YclosureBody YclosureEnv) (hPL : zz_PL nc Xplace YplaceKind YplaceValue Ythere) (hLO : zz_LO Xlocals Ythere) (hct : b < 3 ∧ ne + zz_pt fs ≤ sN ∧ fs.length ≤ sN ∧ nc ≤ sN ∧ sN ≤ 300) (hSK : zz_R Xstack (fun x => x) st) (hEV : zz_EV ne YsymbolOf YnextOf sc xenv) (hJ : zz_J Xop Xarg j e q) (hKR : zz_KR Xop Xarg Ykinds Ynumbers Yends Yspecial ne YsymbolOf YnextOf nc fs q us st xenv b) (hm : (301 - sN) * 1000 ≤ m + 1) (hN : sN < 300) (ht : t < 240) (hae : a < e) (he : e < 1280) (h20 : Xop a = 20) {e1 q2 : Nat} {k w : Int32} {kp : Int64} (hk : Ykinds t = k) (h0 : ¬ k = 0) (h1 : ¬ k = 1) (h2 : ¬ k = 18) (h3 : ¬ k = 4) (h4 : ¬ k = 16) (hC : zz_CE Xop Xarg Ykinds Ynumbers Yends Yspecial (t + 1) (a + 2) e1 sc) (hX2 : zx_S (xdrafted, xspecial, xdefined, xhere, xdepth, xscoped, nI ne, nI nc, nI st.length, nI us.length, nI (a + 1), xenv, nI b, nI (sN + 1), 0, 1, xgiven, xclosed, Xdraft, XdraftValues, Xop, Xarg, Xparameter, Xwaiting, Xdone, Xhole, Xscope, Xplace, Xlocals, Xstack, Xcell, Xparent, Xbodies, Xbinds, Xscopes, Xwhat, Xfirst, Xsecond, Xthird, Xkept) (xdrafted, xspecial, xdefined, xhere, xdepth, xscoped, nI ne, nI nc, nI st.length, nI (us.length + 1), nI (a + 1 + 1), xenv, nI b, nI (sN + 1), 0, 1, xgiven, xclosed, Xdraft, XdraftValues, Xop, Xarg, Xparameter, Xwaiting, Xdone, Xhole, Xscope, Xplace, Xlocals, Xstack, Xcell, Xparent, Xbodies, Xbinds, Xscopes, upd Xwhat us.length w, upd Xfirst us.length (nI q2), upd Xsecond us.length (nI st.length), upd Xthird us.length xenv, vp_updL Xkept us.length kp)) (hF : ∀ kk kv ok ov : Int32, zz_FR Xop Xarg Ykinds Ynumbers Yends Yspecial nc fs t 0 xenv kk kv (-1) ok ov b 1 sc e1 ((w, nI q2, nI st.length, xenv, kp) :: us) st xenv b e us st) : zz_O m (xdrafted, xspecial, xdefined, xhere, xdepth, xscoped, nI ne, nI nc, nI st.length, nI us.length, nI a, xenv, nI b, nI sN, 0, 1, xgiven, xclosed, Xdraft, XdraftValues, Xop, Xarg, Xparameter, Xwaiting, Xdone, Xhole, Xscope, Xplace, Xlocals, Xstack, Xcell, Xparent, Xbodies, Xbinds, Xscopes, Xwhat, Xfirst, Xsecond, Xthird, Xkept) (nI ne, nI nc, nI fs.length, nI b, nI sN, 1, nI t, xenv, ykind, yvalue, ycode, ytag, yresultKind, yresultValue, Ykinds, Ynumbers, Yends, Ylengths, Yparameters, Yspecial, YplaceKind, YplaceValue, Ythere, YsymbolOf, YplaceOf, YnextOf, YclosureSymbol, YclosureBody, YclosureEnv, YworkToken, YworkPhase, YworkEnv, YkeptKind, YkeptValue, YboundPlace, YoldKind, YoldValue, YoldBuffer) := by
  have ce := zz_CEb hC
  have hX1 : zx_S (xdrafted, xspecial, xdefined, xhere, xdepth, xscoped, nI ne, nI nc, nI st.length, nI us.length, nI a, xenv, nI b, nI sN, 0, 1, xgiven, xclosed, Xdraft, XdraftValues, Xop, Xarg, Xparameter, Xwaiting, Xdone, Xhole, Xscope, Xplace, Xlocals, Xstack, Xcell, Xparent, Xbodies, Xbinds, Xscopes, Xwhat, Xfirst, Xsecond, Xthird, Xkept) (xdrafted, xspecial, xdefined, xhere, xdepth, xscoped, nI ne, nI nc, nI st.length, nI us.length, nI (a + 1), xenv, nI b, nI (sN + 1), 0, 1, xgiven, xclosed, Xdraft, XdraftValues, Xop, Xarg, Xparameter, Xwaiting, Xdone, Xhole, Xscope, Xplace, Xlocals, Xstack, Xcell, Xparent, Xbodies, Xbinds, Xscopes, Xwhat, Xfirst, Xsecond, Xthird, Xkept) := zx_SG (zx_step20 (by omega) hN h20)
  have hY : zy_S (nI ne, nI nc, nI fs.length, nI b, nI sN, 1, nI t, xenv, ykind, yvalue, ycode, ytag, yresultKind, yresultValue, Ykinds, Ynumbers, Yends, Ylengths, Yparameters, Yspecial, YplaceKind, YplaceValue, Ythere, YsymbolOf, YplaceOf, YnextOf, YclosureSymbol, YclosureBody, YclosureEnv, YworkToken, YworkPhase, YworkEnv, YkeptKind, YkeptValue, YboundPlace, YoldKind, YoldValue, YoldBuffer) (nI ne, nI nc, nI (fs.length + 1), nI b, nI (sN + 1), 1, nI (t + 1), xenv, ykind, yvalue, ycode, ytag, yresultKind, yresultValue, Ykinds, Ynumbers, Yends, Ylengths, Yparameters, Yspecial, YplaceKind, YplaceValue, Ythere, YsymbolOf, YplaceOf, YnextOf, YclosureSymbol, YclosureBody, YclosureEnv, upd YworkToken fs.length (nI t), upd YworkPhase fs.length 0, upd YworkEnv fs.length xenv, YkeptKind, YkeptValue, upd YboundPlace fs.length (-1), YoldKind, YoldValue, upd YoldBuffer fs.length (nI b)) := zy_SE (zy_evp ht hN (by omega) hk h0 h1 h2 h3 h4)
  refine ⟨_, _, zx_St hX1 hX2, hY, Or.inl (zz_SBi (j := 0) (q := e1) (fs := (t, 0, xenv, YkeptKind fs.length, YkeptValue fs.length, -1, YoldKind fs.length, YoldValue fs.length, b, 1) :: fs) (us := (w, nI q2, nI st.length, xenv, kp) :: us) (st := st) hST (zz_YWe t xenv b 1 hYW) (zz_XWp _ _ _ _ _ hXW) hEN hCL hPL hLO ⟨hct.1, ?_, ?_, by omega, by omega⟩ hSK hC hEV rfl ?_ (by omega))⟩
  · show ne + (1 + zz_pt fs) ≤ sN + 1; omega
  · show fs.length + 1 ≤ sN + 1; omega
  · exact ⟨by omega, ht, hct.1, sc, e, j, q, us, st, he, hEV, hJ, hKR, hF _ _ _ _⟩
theorem zb_16 (hST : zz_ST xdrafted xspecial xdefined Xdraft XdraftValues Xop Xarg Xparameter Ykinds Ynumbers Yends Ylengths Yparameters Yspecial) (hYW : zz_YW YworkToken YworkPhase YworkEnv YkeptKind YkeptValue YboundPlace YoldKind YoldValue YoldBuffer fs) (hXW : zz_XW Xwhat Xfirst Xsecond Xthird Xkept us) (hEN : zz_EN ne nc Xparent Xcell YplaceOf YnextOf YplaceKind YplaceValue) (hCL : zz_CL Xop Xarg Ykinds Ynumbers Yends Yspecial ne YsymbolOf YnextOf nc Xbodies Xbinds Xscopes YclosureSymbol YclosureBody YclosureEnv) (hPL : zz_PL nc Xplace YplaceKind YplaceValue Ythere) (hLO : zz_LO Xlocals Ythere) (hct : b < 3 ∧ ne + zz_pt fs ≤ sN ∧ fs.length ≤ sN ∧ nc ≤ sN ∧ sN ≤ 300) (hSK : zz_R Xstack (fun x => x) st) (hEV : zz_EV ne YsymbolOf YnextOf sc xenv) (hJ : zz_J Xop Xarg j e q) (hKR : zz_KR Xop Xarg Ykinds Ynumbers Yends Yspecial ne YsymbolOf YnextOf nc fs q us st xenv b) (hm : (301 - sN) * 1000 ≤ m + 1) (hN : sN < 300) (ht : t < 240) (hae : a < e) (he : e < 1280) (h20 : Xop a = 20) {s e1 : Nat} (hk : Ykinds t = 16) (hs : s < 3) (hn : Ynumbers t = nI s) (h1 : Xop (a + 1) = 33) (h2 : Xarg (a + 1) = nI s) (hC : zz_CE Xop Xarg Ykinds Ynumbers Yends Yspecial (t + 1) (a + 2) e1 sc) (h3 : Xop e1 = 34) (h4 : e = e1 + 1) : zz_O m (xdrafted, xspecial, xdefined, xhere, xdepth, xscoped, nI ne, nI nc, nI st.length, nI us.length, nI a, xenv, nI b, nI sN, 0, 1, xgiven, xclosed, Xdraft, XdraftValues, Xop, Xarg, Xparameter, Xwaiting, Xdone, Xhole, Xscope, Xplace, Xlocals, Xstack, Xcell, Xparent, Xbodies, Xbinds, Xscopes, Xwhat, Xfirst, Xsecond, Xthird, Xkept) (nI ne, nI nc, nI fs.length, nI b, nI sN, 1, nI t, xenv, ykind, yvalue, ycode, ytag, yresultKind, yresultValue, Ykinds, Ynumbers, Yends, Ylengths, Yparameters, Yspecial, YplaceKind, YplaceValue, Ythere, YsymbolOf, YplaceOf, YnextOf, YclosureSymbol, YclosureBody, YclosureEnv, YworkToken, YworkPhase, YworkEnv, YkeptKind, YkeptValue, YboundPlace, YoldKind, YoldValue, YoldBuffer) := by
  have lu := zz_KRl _ _ _ _ _ _ hKR
  have ce := zz_CEb hC
  have hX1 : zx_S (xdrafted, xspecial, xdefined, xhere, xdepth, xscoped, nI ne, nI nc, nI st.length, nI us.length, nI a, xenv, nI b, nI sN, 0, 1, xgiven, xclosed, Xdraft, XdraftValues, Xop, Xarg, Xparameter, Xwaiting, Xdone, Xhole, Xscope, Xplace, Xlocals, Xstack, Xcell, Xparent, Xbodies, Xbinds, Xscopes, Xwhat, Xfirst, Xsecond, Xthird, Xkept) (xdrafted, xspecial, xdefined, xhere, xdepth, xscoped, nI ne, nI nc, nI st.length, nI us.length, nI (a + 1), xenv, nI b, nI (sN + 1), 0, 1, xgiven, xclosed, Xdraft, XdraftValues, Xop, Xarg, Xparameter, Xwaiting, Xdone, Xhole, Xscope, Xplace, Xlocals, Xstack, Xcell, Xparent, Xbodies, Xbinds, Xscopes, Xwhat, Xfirst, Xsecond, Xthird, Xkept) := zx_SG (zx_step20 (by omega) hN h20)
  have hX2 : zx_S (xdrafted, xspecial, xdefined, xhere, xdepth, xscoped, nI ne, nI nc, nI st.length, nI us.length, nI (a + 1), xenv, nI b, nI (sN + 1), 0, 1, xgiven, xclosed, Xdraft, XdraftValues, Xop, Xarg, Xparameter, Xwaiting, Xdone, Xhole, Xscope, Xplace, Xlocals, Xstack, Xcell, Xparent, Xbodies, Xbinds, Xscopes, Xwhat, Xfirst, Xsecond, Xthird, Xkept) (xdrafted, xspecial, xdefined, xhere, xdepth, xscoped, nI ne, nI nc, nI st.length, nI (us.length + 1), nI (a + 1 + 1), xenv, Xarg (a + 1), nI (sN + 1), 0, 1, xgiven, xclosed, Xdraft, XdraftValues, Xop, Xarg, Xparameter, Xwaiting, Xdone, Xhole, Xscope, Xplace, Xlocals, Xstack, Xcell, Xparent, Xbodies, Xbinds, Xscopes, upd Xwhat us.length (nI 3), upd Xfirst us.length (nI b), upd Xsecond us.length 0, upd Xthird us.length 0, vp_updL Xkept us.length 0) := zx_SG (zx_move (by omega) (by omega) h1)
  have hY : zy_S (nI ne, nI nc, nI fs.length, nI b, nI sN, 1, nI t, xenv, ykind, yvalue, ycode, ytag, yresultKind, yresultValue, Ykinds, Ynumbers, Yends, Ylengths, Yparameters, Yspecial, YplaceKind, YplaceValue, Ythere, YsymbolOf, YplaceOf, YnextOf, YclosureSymbol, YclosureBody, YclosureEnv, YworkToken, YworkPhase, YworkEnv, YkeptKind, YkeptValue, YboundPlace, YoldKind, YoldValue, YoldBuffer) (nI ne, nI nc, nI (fs.length + 1), Ynumbers t, nI (sN + 1), 1, nI (t + 1), xenv, ykind, yvalue, ycode, ytag, yresultKind, yresultValue, Ykinds, Ynumbers, Yends, Ylengths, Yparameters, Yspecial, YplaceKind, YplaceValue, Ythere, YsymbolOf, YplaceOf, YnextOf, YclosureSymbol, YclosureBody, YclosureEnv, upd YworkToken fs.length (nI t), upd YworkPhase fs.length 0, upd YworkEnv fs.length xenv, YkeptKind, YkeptValue, upd YboundPlace fs.length (-1), YoldKind, YoldValue, upd YoldBuffer fs.length (nI b)) := zy_SE (zy_ev16 ht hN (by omega) hk)
  rw [h2] at hX2
  rw [hn] at hY
  refine ⟨_, _, zx_St hX1 hX2, hY, Or.inl (zz_SBi (b := s) (j := 0) (q := e1) (fs := (t, 0, xenv, YkeptKind fs.length, YkeptValue fs.length, -1, YoldKind fs.length, YoldValue fs.length, b, 1) :: fs) (us := (3, nI b, 0, 0, 0) :: us) (st := st) hST (zz_YWe t xenv b 1 hYW) (zz_XWp 3 _ _ _ _ hXW) hEN hCL hPL hLO ⟨hs, ?_, ?_, by omega, by omega⟩ hSK hC hEV rfl ?_ (by omega))⟩
  · show ne + (1 + zz_pt fs) ≤ sN + 1; omega
  · show fs.length + 1 ≤ sN + 1; omega
  · exact ⟨by omega, ht, hct.1, sc, e, j, q, us, st, he, hEV, hJ, hKR, Or.inr (Or.inr (Or.inr (Or.inr (Or.inr (Or.inr (Or.inr (Or.inr (Or.inr (Or.inr (Or.inr (Or.inr (Or.inr (Or.inr ⟨hk, rfl, h3, h4, rfl, rfl, rfl, rfl⟩)))))))))))))⟩
end
end
section
theorem zz_FIs {u u1 : SX} {v v1 : SY} (h1 : zx_S u u1) (h2 : zy_S v v1) (H : zz_FI u1 v1) : zz_FI u v := by
  obtain ⟨i, h1⟩ := h1
  obtain ⟨j, h2⟩ := h2
  obtain ⟨r, u', v', h3, ⟨m, h4⟩, ⟨n, h5⟩⟩ := H
  exact ⟨r, u', v', h3, ⟨m + i, fun post HP => h1 post m (h4 post HP)⟩, ⟨n + j, fun post HP => h2 post n (h5 post HP)⟩⟩
section
variable {xdrafted xspecial xdefined xhere xdepth xscoped xcells xclosures xtop xundo xpc xenv xbuffer xtaken xoutcome xrunning xclosed : Int32} {xgiven : Int64} {Xdraft XdraftValues Xop Xarg Xparameter Xwaiting Xdone Xhole Xscope Xlocals Xparent Xbodies Xbinds Xscopes Xwhat Xfirst Xsecond Xthird : Nat → Int32} {Xplace Xstack Xcell Xkept : Nat → Int64} {yenvs yclosures ywork ybuffer ysteps ymode yat yenv ykind yvalue ycode ytag yresultKind yresultValue : Int32} {Ykinds Ynumbers Yends Ylengths Yparameters Yspecial YplaceKind YplaceValue Ythere YsymbolOf YplaceOf YnextOf YclosureSymbol YclosureBody YclosureEnv YworkToken YworkPhase YworkEnv YkeptKind YkeptValue YboundPlace YoldKind YoldValue YoldBuffer : Nat → Int32} {fs : List zz_YF} {us : List zz_XE} {st : List Int64} {b ne nc sN t a e j q m p : Nat} {sc : List Nat}
theorem zb_stop (hST : zz_ST xdrafted xspecial xdefined Xdraft XdraftValues Xop Xarg Xparameter Ykinds Ynumbers Yends Ylengths Yparameters Yspecial) (hYW : zz_YW YworkToken YworkPhase YworkEnv YkeptKind YkeptValue YboundPlace YoldKind YoldValue YoldBuffer fs) (hXW : zz_XW Xwhat Xfirst Xsecond Xthird Xkept us) (hEN : zz_EN ne nc Xparent Xcell YplaceOf YnextOf YplaceKind YplaceValue) (hCL : zz_CL Xop Xarg Ykinds Ynumbers Yends Yspecial ne YsymbolOf YnextOf nc Xbodies Xbinds Xscopes YclosureSymbol YclosureBody YclosureEnv) (hPL : zz_PL nc Xplace YplaceKind YplaceValue Ythere) (hLO : zz_LO Xlocals Ythere) (hct : b < 3 ∧ ne + zz_pt fs ≤ sN ∧ fs.length ≤ sN ∧ nc ≤ sN ∧ sN ≤ 300) (hKR : zz_KR Xop Xarg Ykinds Ynumbers Yends Yspecial ne YsymbolOf YnextOf nc fs q us st xenv b) (hN : sN = 300) (ha : a < 1280) (h20 : Xop a = 20) : zz_FI (xdrafted, xspecial, xdefined, xhere, xdepth, xscoped, nI ne, nI nc, nI st.length, nI us.length, nI a, xenv, nI b, nI sN, 0, 1, xgiven, xclosed, Xdraft, XdraftValues, Xop, Xarg, Xparameter, Xwaiting, Xdone, Xhole, Xscope, Xplace, Xlocals, Xstack, Xcell, Xparent, Xbodies, Xbinds, Xscopes, Xwhat, Xfirst, Xsecond, Xthird, Xkept) (nI ne, nI nc, nI fs.length, nI b, nI sN, 1, nI t, xenv, ykind, yvalue, ycode, ytag, yresultKind, yresultValue, Ykinds, Ynumbers, Yends, Ylengths, Yparameters, Yspecial, YplaceKind, YplaceValue, Ythere, YsymbolOf, YplaceOf, YnextOf, YclosureSymbol, YclosureBody, YclosureEnv, YworkToken, YworkPhase, YworkEnv, YkeptKind, YkeptValue, YboundPlace, YoldKind, YoldValue, YoldBuffer) := by
  subst hN
  obtain ⟨pl', k', v', b', g1, g2, g3⟩ := zw_stop (xcells := nI ne) (xclosures := nI nc) (xtop := nI st.length) (xpc := nI (a + 1)) (xenv := xenv) (xbuffer := nI b) (xtaken := nI 300) (xoutcome := 5) (xrunning := 0) (yenvs := nI ne) (yclosures := nI nc) (ybuffer := nI b) (ysteps := nI 300) (ymode := 3) (yat := nI t) (yenv := xenv) fs us st q b xenv Xplace YplaceKind YplaceValue YboundPlace (by omega) hYW hXW hPL hKR
  have hX : zx_S (xdrafted, xspecial, xdefined, xhere, xdepth, xscoped, nI ne, nI nc, nI st.length, nI us.length, nI a, xenv, nI b, nI 300, 0, 1, xgiven, xclosed, Xdraft, XdraftValues, Xop, Xarg, Xparameter, Xwaiting, Xdone, Xhole, Xscope, Xplace, Xlocals, Xstack, Xcell, Xparent, Xbodies, Xbinds, Xscopes, Xwhat, Xfirst, Xsecond, Xthird, Xkept) (xdrafted, xspecial, xdefined, xhere, xdepth, xscoped, nI ne, nI nc, nI st.length, nI 0, nI (a + 1), xenv, nI b, nI 300, 5, 0, xgiven, xclosed, Xdraft, XdraftValues, Xop, Xarg, Xparameter, Xwaiting, Xdone, Xhole, Xscope, pl', Xlocals, Xstack, Xcell, Xparent, Xbodies, Xbinds, Xscopes, Xwhat, Xfirst, Xsecond, Xthird, Xkept) := zx_SG (zx_stop20 ha h20 g2)
  have hY : zy_S (nI ne, nI nc, nI fs.length, nI b, nI 300, 1, nI t, xenv, ykind, yvalue, ycode, ytag, yresultKind, yresultValue, Ykinds, Ynumbers, Yends, Ylengths, Yparameters, Yspecial, YplaceKind, YplaceValue, Ythere, YsymbolOf, YplaceOf, YnextOf, YclosureSymbol, YclosureBody, YclosureEnv, YworkToken, YworkPhase, YworkEnv, YkeptKind, YkeptValue, YboundPlace, YoldKind, YoldValue, YoldBuffer) (nI ne, nI nc, nI fs.length, nI b, nI 300, 3, nI t, xenv, ykind, yvalue, ycode, ytag, yresultKind, yresultValue, Ykinds, Ynumbers, Yends, Ylengths, Yparameters, Yspecial, YplaceKind, YplaceValue, Ythere, YsymbolOf, YplaceOf, YnextOf, YclosureSymbol, YclosureBody, YclosureEnv, YworkToken, YworkPhase, YworkEnv, YkeptKind, YkeptValue, YboundPlace, YoldKind, YoldValue, YoldBuffer) := zy_SE zy_ev300
  refine zz_FIs hX hY ?_
  obtain ⟨pl2, h1, h2⟩ := zx_finE (xdrafted := xdrafted) (xspecial := xspecial) (xdefined := xdefined) (xhere := xhere) (xdepth := xdepth) (xscoped := xscoped) (xcells := nI ne) (xclosures := nI nc) (xtop := nI st.length) (xundo := nI 0) (xpc := nI (a + 1)) (xenv := xenv) (xbuffer := nI b) (xtaken := nI 300) (xgiven := xgiven) (xclosed := xclosed) (Xdraft := Xdraft) (XdraftValues := XdraftValues) (Xop := Xop) (Xarg := Xarg) (Xparameter := Xparameter) (Xwaiting := Xwaiting) (Xdone := Xdone) (Xhole := Xhole) (Xscope := Xscope) (Xplace := pl') (Xlocals := Xlocals) (Xstack := Xstack) (Xcell := Xcell) (Xparent := Xparent) (Xbodies := Xbodies) (Xbinds := Xbinds) (Xscopes := Xscopes) (Xwhat := Xwhat) (Xfirst := Xfirst) (Xsecond := Xsecond) (Xthird := Xthird) (Xkept := Xkept) (o := 5) (by decide)
  obtain ⟨pk2, h3, h4⟩ := zy_fin (yenvs := nI ne) (yclosures := nI nc) (ybuffer := nI b) (ysteps := nI 300) (ymode := 3) (yat := nI t) (yenv := xenv) (ykind := ykind) (yvalue := yvalue) (ycode := ycode) (ytag := ytag) (yresultKind := yresultKind) (yresultValue := yresultValue) (Ykinds := Ykinds) (Ynumbers := Ynumbers) (Yends := Yends) (Ylengths := Ylengths) (Yparameters := Yparameters) (Yspecial := Yspecial) (YplaceKind := k') (YplaceValue := v') (Ythere := Ythere) (YsymbolOf := YsymbolOf) (YplaceOf := YplaceOf) (YnextOf := YnextOf) (YclosureSymbol := YclosureSymbol) (YclosureBody := YclosureBody) (YclosureEnv := YclosureEnv) (YworkToken := YworkToken) (YworkPhase := YworkPhase) (YworkEnv := YworkEnv) (YkeptKind := YkeptKind) (YkeptValue := YkeptValue) (YboundPlace := b') (YoldKind := YoldKind) (YoldValue := YoldValue) (YoldBuffer := YoldBuffer) (r := 5) (Or.inr (Or.inl ⟨rfl, rfl⟩))
  refine ⟨5, (xdrafted, xspecial, xdefined, xhere, xdepth, xscoped, nI ne, nI nc, nI st.length, nI 0, nI (a + 1), xenv, nI b, nI 300, 5, 0, 10000000000, 0, Xdraft, XdraftValues, Xop, Xarg, Xparameter, Xwaiting, Xdone, Xhole, Xscope, pl2, Xlocals, Xstack, Xcell, Xparent, Xbodies, Xbinds, Xscopes, Xwhat, Xfirst, Xsecond, Xthird, Xkept), (nI ne, nI nc, nI 0, nI b, nI 300, 3, nI t, xenv, ykind, yvalue, ycode, ytag, if (3 : Int32) = 0 then ykind else 2, yvalue, Ykinds, Ynumbers, Yends, Ylengths, Yparameters, Yspecial, pk2, v', Ythere, YsymbolOf, YplaceOf, YnextOf, YclosureSymbol, YclosureBody, YclosureEnv, YworkToken, YworkPhase, YworkEnv, YkeptKind, YkeptValue, b', YoldKind, YoldValue, YoldBuffer), ?_, ⟨1, h2⟩, ⟨2, fun post HP => ?_⟩⟩
  · exact ⟨hST, zw_K (nc := nc) (by omega) h1 h3 g1, hLO, ⟨rfl, rfl⟩, rfl⟩
  · exact br_f (by decide) (br_f (by decide) (br_f (by decide) (br_f (by decide) (br_t rfl ⟨1 + fs.length, g3 post 1 (h4 post HP)⟩))))
theorem zb_all (hST : zz_ST xdrafted xspecial xdefined Xdraft XdraftValues Xop Xarg Xparameter Ykinds Ynumbers Yends Ylengths Yparameters Yspecial) (hYW : zz_YW YworkToken YworkPhase YworkEnv YkeptKind YkeptValue YboundPlace YoldKind YoldValue YoldBuffer fs) (hXW : zz_XW Xwhat Xfirst Xsecond Xthird Xkept us) (hEN : zz_EN ne nc Xparent Xcell YplaceOf YnextOf YplaceKind YplaceValue) (hCL : zz_CL Xop Xarg Ykinds Ynumbers Yends Yspecial ne YsymbolOf YnextOf nc Xbodies Xbinds Xscopes YclosureSymbol YclosureBody YclosureEnv) (hPL : zz_PL nc Xplace YplaceKind YplaceValue Ythere) (hLO : zz_LO Xlocals Ythere) (hct : b < 3 ∧ ne + zz_pt fs ≤ sN ∧ fs.length ≤ sN ∧ nc ≤ sN ∧ sN ≤ 300) (hSK : zz_R Xstack (fun x => x) st) (hCE : zz_CE Xop Xarg Ykinds Ynumbers Yends Yspecial t a e sc) (hEV : zz_EV ne YsymbolOf YnextOf sc xenv) (hJ : zz_J Xop Xarg j e q) (hKR : zz_KR Xop Xarg Ykinds Ynumbers Yends Yspecial ne YsymbolOf YnextOf nc fs q us st xenv b) (hm : (301 - sN) * 1000 ≤ m + 1) : zz_O m (xdrafted, xspecial, xdefined, xhere, xdepth, xscoped, nI ne, nI nc, nI st.length, nI us.length, nI a, xenv, nI b, nI sN, 0, 1, xgiven, xclosed, Xdraft, XdraftValues, Xop, Xarg, Xparameter, Xwaiting, Xdone, Xhole, Xscope, Xplace, Xlocals, Xstack, Xcell, Xparent, Xbodies, Xbinds, Xscopes, Xwhat, Xfirst, Xsecond, Xthird, Xkept) (nI ne, nI nc, nI fs.length, nI b, nI sN, 1, nI t, xenv, ykind, yvalue, ycode, ytag, yresultKind, yresultValue, Ykinds, Ynumbers, Yends, Ylengths, Yparameters, Yspecial, YplaceKind, YplaceValue, Ythere, YsymbolOf, YplaceOf, YnextOf, YclosureSymbol, YclosureBody, YclosureEnv, YworkToken, YworkPhase, YworkEnv, YkeptKind, YkeptValue, YboundPlace, YoldKind, YoldValue, YoldBuffer) := by
  obtain ⟨ht, hae, he, h20⟩ := zz_CEb hCE
  have lu := zz_KRl _ _ _ _ _ _ hKR
  by_cases hN : sN = 300
  · exact ⟨_, _, zx_Sr, zy_Sr, Or.inr (Or.inr (zb_stop hST hYW hXW hEN hCL hPL hLO hct hKR hN (by omega) h20))⟩
  have hN : sN < 300 := by omega
  have H := zz_CEu hCE
  unfold zz_CB at H
  rcases H with h | h | h | h | h | h | h | h | h | h | h | h | h | h
  · obtain ⟨h1, h2, h3, h4⟩ := h
    exact zb_0 hST hYW hXW hEN hCL hPL hLO hct hSK hEV hJ hKR hm hN ht hae he h20 h1 h2 h3 h4
  · obtain ⟨h1, s, h2, h3, h4, h5⟩ := h
    cases hl : zz_lk Yspecial s sc with
    | some i => exact zb_1n hST hYW hXW hEN hCL hPL hLO hct hSK hEV hJ hKR hm hN ht hae he h20 h1 h2 h3 h4 h5 hl
    | none => exact zb_1f hST hYW hXW hEN hCL hPL hLO hct hSK hEV hJ hKR hm hN ht hae he h20 h1 h2 h3 h4 h5 hl
  · obtain ⟨h1, h2, h3⟩ := h
    exact zb_18 hST hYW hXW hEN hCL hPL hLO hct hSK hEV hJ hKR hm hN ht hae he h20 h1 h2 h3
  · obtain ⟨h1, s, e1, h2, h3, h4, h5, h6, h7, h8, h9, h10⟩ := h
    exact zb_4 hST hYW hXW hEN hCL hPL hLO hct hSK hEV hJ hKR hm hN ht hae he h20 h1 h2 h3 h4 h5 h6 h7 h8 h9 h10
  · obtain ⟨h1, s, e1, h2, h3, h4, h5, h6⟩ := h
    exact zb_push hST hYW hXW hEN hCL hPL hLO hct hSK hEV hJ hKR hm hN ht hae he h20 h1 (by decide) (by decide) (by decide) (by decide) (by decide) h4 (fun _ _ _ _ => (Or.inl (⟨h1, rfl, ⟨s, h2, h3, h5⟩, h6, rfl, rfl, rfl, rfl, rfl⟩)))
  · obtain ⟨h1, s, e1, h2, h3, h4, h5, h6, h7, h8⟩ := h
    refine zb_push (k := Ykinds t) hST hYW hXW hEN hCL hPL hLO hct hSK hEV hJ hKR hm hN ht hae he h20 rfl ?_ ?_ ?_ ?_ ?_ h5 (fun _ _ _ _ => (Or.inr (Or.inl (⟨h1, rfl, ⟨s, h2, h3, h4, h6, h7⟩, h8, rfl, rfl, rfl, rfl, rfl, rfl⟩))))
    all_goals (rcases h1 with h1 | h1 | h1 <;> rw [h1] <;> decide)
  · obtain ⟨h1, t2, e1, e2, h2, h3, h4, h5, h6⟩ := h
    have c1 := zz_CEb h3
    refine zb_push (k := Ykinds t) hST hYW hXW hEN hCL hPL hLO hct hSK hEV hJ hKR hm hN ht hae he h20 rfl ?_ ?_ ?_ ?_ ?_ h3 (fun _ _ _ _ => (Or.inr (Or.inr (Or.inl (⟨h1, rfl, ⟨t2, e2, c1.1, h2, h4, h5, h6⟩, rfl, rfl, rfl, rfl, rfl, rfl⟩)))))
    all_goals (rcases h1 with h1 | h1 | h1 | h1 <;> rw [h1] <;> decide)
  · obtain ⟨h1, s, t2, e1, e2, h2, h3, h4, h5, h6, h7, h8, h9, h10⟩ := h
    have c1 := zz_CEb h5
    exact zb_push hST hYW hXW hEN hCL hPL hLO hct hSK hEV hJ hKR hm hN ht hae he h20 h1 (by decide) (by decide) (by decide) (by decide) (by decide) h5 (fun _ _ _ _ => (Or.inr (Or.inr (Or.inr (Or.inr (Or.inr (Or.inl (⟨h1, rfl, ⟨s, t2, e2, h2, h3, c1.1, h4, h6, h7, h8, h9, h10⟩, rfl, rfl, rfl, rfl, rfl, rfl⟩))))))))
  · obtain ⟨h1, t2, e1, h2, h3, h4, h5⟩ := h
    have c1 := zz_CEb h3
    exact zb_push hST hYW hXW hEN hCL hPL hLO hct hSK hEV hJ hKR hm hN ht hae he h20 h1 (by decide) (by decide) (by decide) (by decide) (by decide) h3 (fun _ _ _ _ => (Or.inr (Or.inr (Or.inr (Or.inr (Or.inr (Or.inr (Or.inr (Or.inl (⟨h1, rfl, ⟨t2, c1.1, h2, h4, h5⟩, rfl, rfl, rfl, rfl, rfl⟩))))))))))
  · obtain ⟨h1, t2, t3, e1, e2, h2, h3, h4, h5, h6, h7, h8, h9, h10⟩ := h
    have c1 := zz_CEb h4
    exact zb_push hST hYW hXW hEN hCL hPL hLO hct hSK hEV hJ hKR hm hN ht hae he h20 h1 (by decide) (by decide) (by decide) (by decide) (by decide) h4 (fun _ _ _ _ => (Or.inr (Or.inr (Or.inr (Or.inr (Or.inr (Or.inr (Or.inr (Or.inr (Or.inl (⟨h1, rfl, ⟨t2, t3, e2, c1.1, h2, h3, h5, h6, h7, h8, h9, h10⟩, rfl, rfl, rfl, rfl, rfl⟩)))))))))))
  · obtain ⟨h1, s, e1, h2, h3, h4, h5, h6, h7, h8⟩ := h
    have c1 := zz_CEb h6
    exact zb_push2 (w := 4) (q2 := e) (kp := lN s) hST hYW hXW hEN hCL hPL hLO hct hSK hEV hJ hKR hm hN ht hae he h20 h1 (by decide) (by decide) (by decide) (by decide) (by decide) h6 (zx_SG (zx_enterC (by omega) (by omega) (by omega) he h4 h5)) (fun _ _ _ _ => (Or.inr (Or.inr (Or.inr (Or.inr (Or.inr (Or.inr (Or.inr (Or.inr (Or.inr (Or.inl (⟨h1, rfl, h7, h8, ⟨s, h2, h3, rfl⟩, rfl, rfl, rfl, rfl⟩))))))))))))
  · obtain ⟨h1, t2, e1, h2, h3, h4, h5, h6, h7, h8, h9⟩ := h
    have c1 := zz_CEb h5
    have c2 := zz_CEb h9
    exact zb_push2 (w := 5) (q2 := e1 + 2) (kp := 0) hST hYW hXW hEN hCL hPL hLO hct hSK hEV hJ hKR hm hN ht hae he h20 h1 (by decide) (by decide) (by decide) (by decide) (by decide) h5 (zx_SG (zx_attempt (by omega) (by omega) (by omega) h3 h4)) (fun _ _ _ _ => (Or.inr (Or.inr (Or.inr (Or.inr (Or.inr (Or.inr (Or.inr (Or.inr (Or.inr (Or.inr (Or.inl (⟨h1, rfl, ⟨t2, c1.1, h2, h6, h7, h8, h9⟩, rfl, rfl, rfl, rfl, rfl⟩)))))))))))))
  · obtain ⟨h1, t2, e1, e2, h2, h3, h4, h5, h6, h7, h8, h9⟩ := h
    have c1 := zz_CEb h5
    have c2 := zz_CEb h7
    exact zb_push2 (w := 6) (q2 := e1 + 1) (kp := 0) hST hYW hXW hEN hCL hPL hLO hct hSK hEV hJ hKR hm hN ht hae he h20 h1 (by decide) (by decide) (by decide) (by decide) (by decide) h5 (zx_SG (zx_guard (by omega) (by omega) (by omega) h3 h4)) (fun _ _ _ _ => (Or.inr (Or.inr (Or.inr (Or.inr (Or.inr (Or.inr (Or.inr (Or.inr (Or.inr (Or.inr (Or.inr (Or.inl (⟨h1, rfl, ⟨t2, e2, c1.1, h2, h6, h7, h8, h9⟩, rfl, rfl, rfl, rfl, rfl⟩))))))))))))))
  · obtain ⟨h1, s, e1, h2, h3, h4, h5, h6, h7, h8⟩ := h
    exact zb_16 hST hYW hXW hEN hCL hPL hLO hct hSK hEV hJ hKR hm hN ht hae he h20 h1 h2 h3 h4 h5 h6 h7 h8
end
end
section
def zz_at (nx : Nat → Int32) : Nat → Int32 → Nat
  | 0 => fun e => e.toNatClampNeg
  | i + 1 => fun e => zz_at nx i (nx e.toNatClampNeg)
theorem zz_atl {s : Nat} {sy nx : Nat → Int32} : ∀ (sc : List Nat) (ne : Nat) (e : Int32) (i : Nat), ne ≤ 310 → zz_EV ne sy nx sc e → zz_ix s sc = some i → zz_at nx i e < ne := by
  intro sc
  induction sc with
  | nil => intro ne e i _ _ h; cases h
  | cons x sc ih =>
    intro ne e i hne ⟨i0, hi0, e0, hx, hsy, hE⟩ hi
    subst e0
    by_cases z : x = s
    · have ix : zz_ix s (x :: sc) = some 0 := by simp [zz_ix, z]
      rw [ix] at hi
      have hi : i = 0 := (Option.some.inj hi).symm
      subst hi
      show (nI i0).toNatClampNeg < ne
      rw [nI_clamp (by omega)]; exact hi0
    · have ix : zz_ix s (x :: sc) = (zz_ix s sc).map (· + 1) := by simp [zz_ix, z]
      rw [ix] at hi
      cases ek : zz_ix s sc with
      | none => rw [ek] at hi; cases hi
      | some k0 =>
        rw [ek] at hi
        have hi : i = k0 + 1 := (Option.some.inj hi).symm
        subst hi
        show zz_at nx k0 (nx (nI i0).toNatClampNeg) < ne
        rw [nI_clamp (by omega)]
        have := ih i0 _ k0 (by omega) hE ek
        omega
section
variable {xdrafted xspecial xdefined xhere xdepth xscoped xcells xclosures xtop xundo xpc xenv xbuffer xtaken xoutcome xrunning xclosed : Int32} {xgiven : Int64} {Xdraft XdraftValues Xop Xarg Xparameter Xwaiting Xdone Xhole Xscope Xlocals Xparent Xbodies Xbinds Xscopes Xwhat Xfirst Xsecond Xthird : Nat → Int32} {Xplace Xstack Xcell Xkept : Nat → Int64} {yenvs yclosures ywork ybuffer ysteps ymode yat yenv ykind yvalue ycode ytag yresultKind yresultValue : Int32} {Ykinds Ynumbers Yends Ylengths Yparameters Yspecial YplaceKind YplaceValue Ythere YsymbolOf YplaceOf YnextOf YclosureSymbol YclosureBody YclosureEnv YworkToken YworkPhase YworkEnv YkeptKind YkeptValue YboundPlace YoldKind YoldValue YoldBuffer : Nat → Int32}
theorem zw_lookX {s : Nat} : ∀ (sc : List Nat) (ne : Nat) (e : Int32) (i : Nat), ne ≤ 310 → (∀ i, i < ne → Xparent i = YnextOf i) → zz_EV ne YsymbolOf YnextOf sc e → zz_ix s sc = some i → ∀ (k : Nat) (Q : Int32 → Prop), k + i < 1000 → Q (nI (zz_at YnextOf i e)) → wX_nearCell_7 Q (nI (k + i)) xdrafted xspecial xdefined xhere xdepth xscoped xcells xclosures xtop xundo xpc xenv xbuffer xtaken xoutcome xrunning xgiven xclosed Xdraft XdraftValues Xop Xarg Xparameter Xwaiting Xdone Xhole Xscope Xplace Xlocals Xstack Xcell Xparent Xbodies Xbinds Xscopes Xwhat Xfirst Xsecond Xthird Xkept (i + 1) e (nI k) := by
  intro sc
  induction sc with
  | nil => intro ne e i _ _ _ h; cases h
  | cons x sc ih =>
    intro ne e i hne hpa ⟨i0, hi0, e0, hx, hsy, hE⟩ hi k Q hk HQ
    subst e0
    have ei : (nI i0).toNatClampNeg = i0 := nI_clamp (by omega)
    by_cases z : x = s
    · have ix : zz_ix s (x :: sc) = some 0 := by simp [zz_ix, z]
      rw [ix] at hi
      have hi : i = 0 := (Option.some.inj hi).symm
      subst hi
      have HQ : Q (nI (nI i0).toNatClampNeg) := HQ
      rw [ei] at HQ
      exact br_t (Int32.le_refl _) HQ
    · have ix : zz_ix s (x :: sc) = (zz_ix s sc).map (· + 1) := by simp [zz_ix, z]
      rw [ix] at hi
      cases ek : zz_ix s sc with
      | none => rw [ek] at hi; cases hi
      | some k0 =>
        rw [ek] at hi
        have hi : i = k0 + 1 := (Option.some.inj hi).symm
        subst hi
        have HQ : Q (nI (zz_at YnextOf k0 (YnextOf (nI i0).toNatClampNeg))) := HQ
        rw [ei] at HQ
        refine br_f (nI_ge (by omega) (by omega)) (And.intro (vp_in_nI (by omega) (by omega)) (nm_r (e' := YnextOf i0) (by rw [ei]; exact hpa i0 hi0) (nm_r (nI_1 k) ?_)))
        have := ih i0 _ k0 (by omega) (fun i hi => hpa i (by omega)) hE ek (k + 1) Q (by omega) HQ
        rw [show k + 1 + k0 = k + (k0 + 1) from by omega] at this
        exact this
theorem zw_lookY {s : Nat} (hs : s < 8) (hz : Yspecial s = 0) : ∀ (sc : List Nat) (ne : Nat) (e : Int32) (i : Nat), ne ≤ 310 → zz_EV ne YsymbolOf YnextOf sc e → zz_ix s sc = some i → ∀ Q : Int32 → Prop, Q (YplaceOf (zz_at YnextOf i e)) → wY_placeFor_2 Q (nI s) yenvs yclosures ywork ybuffer ysteps ymode yat yenv ykind yvalue ycode ytag yresultKind yresultValue Ykinds Ynumbers Yends Ylengths Yparameters Yspecial YplaceKind YplaceValue Ythere YsymbolOf YplaceOf YnextOf YclosureSymbol YclosureBody YclosureEnv YworkToken YworkPhase YworkEnv YkeptKind YkeptValue YboundPlace YoldKind YoldValue YoldBuffer (sc.length + 1) e := by
  have is8 : vp_in (nI s) 8 := vp_in_nI hs (by omega)
  have es : Yspecial (nI s).toNatClampNeg = 0 := by rw [nI_clamp (by omega)]; exact hz
  intro sc
  induction sc with
  | nil => intro ne e i _ _ h; cases h
  | cons x sc ih =>
    intro ne e i hne ⟨i0, hi0, e0, hx, hsy, hE⟩ hi Q HQ
    subst e0
    have ii : vp_in (nI i0) 310 := vp_in_nI (by omega) (by omega)
    have ei : (nI i0).toNatClampNeg = i0 := nI_clamp (by omega)
    have ng : ¬ nI i0 < 0 := nI_pos (by omega)
    by_cases z : x = s
    · have ix : zz_ix s (x :: sc) = some 0 := by simp [zz_ix, z]
      rw [ix] at hi
      have hi : i = 0 := (Option.some.inj hi).symm
      subst hi
      exact br_f ng (And.intro is8 (br_t es (And.intro ii (br_t (by rw [ei, hsy, z]) (And.intro ii HQ)))))
    · have ix : zz_ix s (x :: sc) = (zz_ix s sc).map (· + 1) := by simp [zz_ix, z]
      have nes : ¬ YsymbolOf (nI i0).toNatClampNeg = nI s := by rw [ei, hsy, nI_eq (by omega) (by omega)]; exact z
      rw [ix] at hi
      cases ek : zz_ix s sc with
      | none => rw [ek] at hi; cases hi
      | some k0 =>
        rw [ek] at hi
        have hi : i = k0 + 1 := (Option.some.inj hi).symm
        subst hi
        have HQ : Q (YplaceOf (zz_at YnextOf k0 (YnextOf (nI i0).toNatClampNeg))) := HQ
        rw [ei] at HQ
        exact br_f ng (And.intro is8 (br_t es (And.intro ii (br_f nes (And.intro ii (nm_r (e' := YnextOf i0) (by rw [ei]) (ih i0 _ k0 (by omega) hE ek Q HQ)))))))
theorem zz_lks {S : Nat → Int32} {s i : Nat} {sc : List Nat} (hl : zz_lk S s sc = some i) : S s = 0 ∧ zz_ix s sc = some i := by
  by_cases z : S s = 0
  · rw [zz_lk, if_pos z] at hl; exact ⟨z, hl⟩
  · rw [zz_lk, if_neg z] at hl; cases hl
theorem zw_nearl {ne s i : Nat} {sc : List Nat} {e : Int32} (hne : ne ≤ 310) (hE : zz_EV ne YsymbolOf YnextOf sc e) (hl : zz_lk Yspecial s sc = some i) : zz_at YnextOf i e < ne := zz_atl sc ne e i hne hE (zz_lks hl).2
theorem zw_nearX {ne nc s i : Nat} {sc : List Nat} {e : Int32} (hne : ne ≤ 310) (hEN : zz_EN ne nc Xparent Xcell YplaceOf YnextOf YplaceKind YplaceValue) (hE : zz_EV ne YsymbolOf YnextOf sc e) (hl : zz_lk Yspecial s sc = some i) : ∀ Q : Int32 → Prop, Q (nI (zz_at YnextOf i e)) → wpX_nearCell Q (xdrafted, xspecial, xdefined, xhere, xdepth, xscoped, xcells, xclosures, xtop, xundo, xpc, e, xbuffer, xtaken, xoutcome, xrunning, xgiven, xclosed, Xdraft, XdraftValues, Xop, Xarg, Xparameter, Xwaiting, Xdone, Xhole, Xscope, Xplace, Xlocals, Xstack, Xcell, Xparent, Xbodies, Xbinds, Xscopes, Xwhat, Xfirst, Xsecond, Xthird, Xkept) (nI i) := by
  intro Q HQ
  have hix := (zz_lks hl).2
  have l1 := zz_ixl s sc i hix
  have l2 := zz_EVl _ _ _ hE
  refine ⟨i + 1, ?_⟩
  have e0 : nI i = nI (0 + i) := by rw [Nat.zero_add]
  rw [e0]
  exact zw_lookX (s := s) sc ne e i hne (fun i hi => (hEN i hi).1) hE hix 0 Q (by omega) HQ
theorem zw_nearY {ne nc s i : Nat} {pa : Nat → Int32} {ce : Nat → Int64} {pk pv : Nat → Int32} {sc : List Nat} {e : Int32} (hs : s < 8) (hne : ne ≤ 310) (hEN : zz_EN ne nc pa ce YplaceOf YnextOf pk pv) (hE : zz_EV ne YsymbolOf YnextOf sc e) (hl : zz_lk Yspecial s sc = some i) : ∀ Q : Int32 → Prop, Q (nI (32 + zz_at YnextOf i e)) → wpY_placeFor Q (yenvs, yclosures, ywork, ybuffer, ysteps, ymode, yat, yenv, ykind, yvalue, ycode, ytag, yresultKind, yresultValue, Ykinds, Ynumbers, Yends, Ylengths, Yparameters, Yspecial, YplaceKind, YplaceValue, Ythere, YsymbolOf, YplaceOf, YnextOf, YclosureSymbol, YclosureBody, YclosureEnv, YworkToken, YworkPhase, YworkEnv, YkeptKind, YkeptValue, YboundPlace, YoldKind, YoldValue, YoldBuffer) (nI s) e := by
  intro Q HQ
  obtain ⟨z, hix⟩ := zz_lks hl
  refine ⟨sc.length + 1, zw_lookY hs z sc ne e i hne hE hix Q ?_⟩
  rw [(hEN _ (zz_atl sc ne e i hne hE hix)).2.2.1]
  exact HQ
/-- jumps -/
theorem zx_Js : ∀ (j p q : Nat), zz_J Xop Xarg j p q → zx_S (xdrafted, xspecial, xdefined, xhere, xdepth, xscoped, xcells, xclosures, xtop, xundo, nI p, xenv, xbuffer, xtaken, xoutcome, 1, xgiven, xclosed, Xdraft, XdraftValues, Xop, Xarg, Xparameter, Xwaiting, Xdone, Xhole, Xscope, Xplace, Xlocals, Xstack, Xcell, Xparent, Xbodies, Xbinds, Xscopes, Xwhat, Xfirst, Xsecond, Xthird, Xkept) (xdrafted, xspecial, xdefined, xhere, xdepth, xscoped, xcells, xclosures, xtop, xundo, nI q, xenv, xbuffer, xtaken, xoutcome, 1, xgiven, xclosed, Xdraft, XdraftValues, Xop, Xarg, Xparameter, Xwaiting, Xdone, Xhole, Xscope, Xplace, Xlocals, Xstack, Xcell, Xparent, Xbodies, Xbinds, Xscopes, Xwhat, Xfirst, Xsecond, Xthird, Xkept) := by
  intro j
  induction j with
  | zero => intro p q h; have e : p = q := h; subst e; exact zx_Sr
  | succ j ih =>
    intro p q ⟨h1, h2, r, h3, h4, h5⟩
    exact zx_St (zx_SG (zx_jump h1 h3 h2 h4)) (ih r q h5)
end
/-! a place becomes a buffer's own -/
theorem zz_LOs {lo th : Nat → Int32} {b s : Nat} (hb : b < 3) (hs : s < 8) (H : zz_LO lo th) : zz_LO (upd lo b (lo b ||| ((1 : Int32) <<< (nI s &&& 31)))) (upd th (8 + 8 * b + s) 1) := by
  intro b' s' hb' hs'
  have h := H b' s' hb' hs'
  by_cases z : b' = b
  · subst z
    rw [pk_us, zz_set (by omega) (by omega)]
    by_cases w : s' = s
    · subst w
      rw [pk_us]
      simp
    · rw [pk_un (by omega), ← h]
      simp [w]
  · rw [pk_un z, pk_un (by omega)]
    exact h
theorem zz_PLl {nc : Nat} {pl : Nat → Int64} {pk pv th : Nat → Int32} {q : Nat} {x : Int64} {k v : Int32} (hx : x = zz_en k v) (hw : zz_W nc k v) (H : zz_PL nc pl pk pv th) : zz_PL nc (vp_updL pl q x) (upd pk q k) (upd pv q v) (upd th q 1) := by
  intro p h1 h2
  by_cases z : p = q
  · subst z; rw [pk_uLs, pk_us, pk_us]; exact ⟨hx, hw⟩
  · rw [pk_un z] at h2
    rw [pk_uLn z, pk_un z, pk_un z]; exact H p h1 h2
end
section
section
variable {xdrafted xspecial xdefined xhere xdepth xscoped xcells xclosures xtop xundo xpc xenv xbuffer xtaken xoutcome xrunning xclosed : Int32} {xgiven : Int64} {Xdraft XdraftValues Xop Xarg Xparameter Xwaiting Xdone Xhole Xscope Xlocals Xparent Xbodies Xbinds Xscopes Xwhat Xfirst Xsecond Xthird : Nat → Int32} {Xplace Xstack Xcell Xkept : Nat → Int64} {yenvs yclosures ywork ybuffer ysteps ymode yat yenv ykind yvalue ycode ytag yresultKind yresultValue : Int32} {Ykinds Ynumbers Yends Ylengths Yparameters Yspecial YplaceKind YplaceValue Ythere YsymbolOf YplaceOf YnextOf YclosureSymbol YclosureBody YclosureEnv YworkToken YworkPhase YworkEnv YkeptKind YkeptValue YboundPlace YoldKind YoldValue YoldBuffer : Nat → Int32} {fs : List zz_YF} {us : List zz_XE} {st : List Int64} {b ne nc sN t e j q m pc g : Nat} {sc : List Nat} {kk kv ok ov : Int32}
theorem zg_An (hST : zz_ST xdrafted xspecial xdefined Xdraft XdraftValues Xop Xarg Xparameter Ykinds Ynumbers Yends Ylengths Yparameters Yspecial) (hYW : zz_YW YworkToken YworkPhase YworkEnv YkeptKind YkeptValue YboundPlace YoldKind YoldValue YoldBuffer ((t, 0, xenv, kk, kv, -1, ok, ov, b, g) :: fs)) (hXW : zz_XW Xwhat Xfirst Xsecond Xthird Xkept us) (hEN : zz_EN ne nc Xparent Xcell YplaceOf YnextOf YplaceKind YplaceValue) (hCL : zz_CL Xop Xarg Ykinds Ynumbers Yends Yspecial ne YsymbolOf YnextOf nc Xbodies Xbinds Xscopes YclosureSymbol YclosureBody YclosureEnv) (hPL : zz_PL nc Xplace YplaceKind YplaceValue Ythere) (hLO : zz_LO Xlocals Ythere) (hct : b < 3 ∧ ne + (g + zz_pt fs) ≤ sN ∧ fs.length + 1 ≤ sN ∧ nc ≤ sN ∧ sN ≤ 300) (hV : zz_V nc ykind yvalue) (hpc : pc < 1280) (ht : t < 240) (he : e < 1280) (hJ : zz_J Xop Xarg j e q) (hm : (301 - sN) * 1000 + 500 + fs.length ≤ m) (hSK : zz_R Xstack (fun x => x) (zz_en ykind yvalue :: st)) (hEV : zz_EV ne YsymbolOf YnextOf sc xenv) (hKR : zz_KR Xop Xarg Ykinds Ynumbers Yends Yspecial ne YsymbolOf YnextOf nc fs q us st xenv b) {s i : Nat} (hk : Ykinds t = 2) (hs : s < 8) (hn : Ynumbers t = nI s) (hRC : zz_RC Xop Xarg Yspecial 32 2 pc s sc) (ee : e = pc + 1) (hl : zz_lk Yspecial s sc = some i) : zz_O m (xdrafted, xspecial, xdefined, xhere, xdepth, xscoped, nI ne, nI nc, nI (st.length + 1), nI us.length, nI pc, xenv, nI b, nI sN, 0, 1, xgiven, xclosed, Xdraft, XdraftValues, Xop, Xarg, Xparameter, Xwaiting, Xdone, Xhole, Xscope, Xplace, Xlocals, Xstack, Xcell, Xparent, Xbodies, Xbinds, Xscopes, Xwhat, Xfirst, Xsecond, Xthird, Xkept) (nI ne, nI nc, nI (fs.length + 1), nI b, nI sN, 0, yat, yenv, ykind, yvalue, ycode, ytag, yresultKind, yresultValue, Ykinds, Ynumbers, Yends, Ylengths, Yparameters, Yspecial, YplaceKind, YplaceValue, Ythere, YsymbolOf, YplaceOf, YnextOf, YclosureSymbol, YclosureBody, YclosureEnv, YworkToken, YworkPhase, YworkEnv, YkeptKind, YkeptValue, YboundPlace, YoldKind, YoldValue, YoldBuffer) := by
  obtain ⟨y1, y2, y3, y4, y5, y6, y7, y8, y9⟩ := zz_YWh hYW
  have y1 : YworkToken fs.length = nI t := y1
  have y2 : YworkPhase fs.length = nI 0 := y2
  have y3 : YworkEnv fs.length = xenv := y3
  have y4 : YkeptKind fs.length = kk := y4
  have y5 : YkeptValue fs.length = kv := y5
  have y6 : YboundPlace fs.length = -1 := y6
  have y7 : YoldKind fs.length = ok := y7
  have y8 : YoldValue fs.length = ov := y8
  have y9 : YoldBuffer fs.length = nI b := y9
  have hYW0 := zz_YWt hYW
  have lu := zz_KRl _ _ _ _ _ _ hKR
  have hsk : Xstack st.length = zz_en ykind yvalue := hSK.1
  have hb := hct.1
  obtain ⟨h1, h2⟩ := zz_rcs hRC hl
  have hc := zw_nearl (by omega) hEV hl
  have hX : zx_S (xdrafted, xspecial, xdefined, xhere, xdepth, xscoped, nI ne, nI nc, nI (st.length + 1), nI us.length, nI pc, xenv, nI b, nI sN, 0, 1, xgiven, xclosed, Xdraft, XdraftValues, Xop, Xarg, Xparameter, Xwaiting, Xdone, Xhole, Xscope, Xplace, Xlocals, Xstack, Xcell, Xparent, Xbodies, Xbinds, Xscopes, Xwhat, Xfirst, Xsecond, Xthird, Xkept) (xdrafted, xspecial, xdefined, xhere, xdepth, xscoped, nI ne, nI nc, nI (st.length + 1), nI us.length, nI (pc + 1), xenv, nI b, nI sN, 0, 1, xgiven, xclosed, Xdraft, XdraftValues, Xop, Xarg, Xparameter, Xwaiting, Xdone, Xhole, Xscope, Xplace, Xlocals, Xstack, vp_updL Xcell (zz_at YnextOf i xenv) (Xstack st.length), Xparent, Xbodies, Xbinds, Xscopes, Xwhat, Xfirst, Xsecond, Xthird, Xkept) := zx_SG (zx_nearset hpc (by omega) (by omega) h1 (by rw [h2]; exact zw_nearX (by omega) hEN hEV hl))
  have hY : zy_S (nI ne, nI nc, nI (fs.length + 1), nI b, nI sN, 0, yat, yenv, ykind, yvalue, ycode, ytag, yresultKind, yresultValue, Ykinds, Ynumbers, Yends, Ylengths, Yparameters, Yspecial, YplaceKind, YplaceValue, Ythere, YsymbolOf, YplaceOf, YnextOf, YclosureSymbol, YclosureBody, YclosureEnv, YworkToken, YworkPhase, YworkEnv, YkeptKind, YkeptValue, YboundPlace, YoldKind, YoldValue, YoldBuffer) (nI ne, nI nc, nI fs.length, YoldBuffer fs.length, nI sN, 0, yat, yenv, ykind, yvalue, ycode, ytag, yresultKind, yresultValue, Ykinds, Ynumbers, Yends, Ylengths, Yparameters, Yspecial, upd YplaceKind (32 + zz_at YnextOf i xenv) ykind, upd YplaceValue (32 + zz_at YnextOf i xenv) yvalue, Ythere, YsymbolOf, YplaceOf, YnextOf, YclosureSymbol, YclosureBody, YclosureEnv, YworkToken, upd YworkPhase fs.length (nI 1), YworkEnv, YkeptKind, YkeptValue, YboundPlace, YoldKind, YoldValue, YoldBuffer) := zy_SG (by omega) (zy_done_a (t := t) (k := 2) (by omega) ht y1 hk y2 (by decide) (fun Q HQ => zy_gb0 (by omega) y6 HQ) (fun Q HQ => zy_dset (by omega) (by omega) (by rw [hn, y3]; exact zw_nearY hs (by omega) hEN hEV hl) HQ))
  rw [y9] at hY
  subst ee
  exact ⟨_, _, hX, hY, Or.inr (Or.inl (zz_SGi (fs := fs) (us := us) (st := st) hST (zz_YWg (Nat.le_refl _) hYW0) hXW (zz_ENs hsk hV hEN) hCL (zz_PLh (by omega) hPL) hLO ⟨hb, by omega, by omega, by omega, by omega⟩ hSK hV hJ hKR hm))⟩
theorem zg_Af (hST : zz_ST xdrafted xspecial xdefined Xdraft XdraftValues Xop Xarg Xparameter Ykinds Ynumbers Yends Ylengths Yparameters Yspecial) (hYW : zz_YW YworkToken YworkPhase YworkEnv YkeptKind YkeptValue YboundPlace YoldKind YoldValue YoldBuffer ((t, 0, xenv, kk, kv, -1, ok, ov, b, g) :: fs)) (hXW : zz_XW Xwhat Xfirst Xsecond Xthird Xkept us) (hEN : zz_EN ne nc Xparent Xcell YplaceOf YnextOf YplaceKind YplaceValue) (hCL : zz_CL Xop Xarg Ykinds Ynumbers Yends Yspecial ne YsymbolOf YnextOf nc Xbodies Xbinds Xscopes YclosureSymbol YclosureBody YclosureEnv) (hPL : zz_PL nc Xplace YplaceKind YplaceValue Ythere) (hLO : zz_LO Xlocals Ythere) (hct : b < 3 ∧ ne + (g + zz_pt fs) ≤ sN ∧ fs.length + 1 ≤ sN ∧ nc ≤ sN ∧ sN ≤ 300) (hV : zz_V nc ykind yvalue) (hpc : pc < 1280) (ht : t < 240) (he : e < 1280) (hJ : zz_J Xop Xarg j e q) (hm : (301 - sN) * 1000 + 500 + fs.length ≤ m) (hSK : zz_R Xstack (fun x => x) (zz_en ykind yvalue :: st)) (hEV : zz_EV ne YsymbolOf YnextOf sc xenv) (hKR : zz_KR Xop Xarg Ykinds Ynumbers Yends Yspecial ne YsymbolOf YnextOf nc fs q us st xenv b) {s : Nat} (hk : Ykinds t = 2) (hs : s < 8) (hn : Ynumbers t = nI s) (hRC : zz_RC Xop Xarg Yspecial 32 2 pc s sc) (ee : e = pc + 1) (hl : zz_lk Yspecial s sc = none) : zz_O m (xdrafted, xspecial, xdefined, xhere, xdepth, xscoped, nI ne, nI nc, nI (st.length + 1), nI us.length, nI pc, xenv, nI b, nI sN, 0, 1, xgiven, xclosed, Xdraft, XdraftValues, Xop, Xarg, Xparameter, Xwaiting, Xdone, Xhole, Xscope, Xplace, Xlocals, Xstack, Xcell, Xparent, Xbodies, Xbinds, Xscopes, Xwhat, Xfirst, Xsecond, Xthird, Xkept) (nI ne, nI nc, nI (fs.length + 1), nI b, nI sN, 0, yat, yenv, ykind, yvalue, ycode, ytag, yresultKind, yresultValue, Ykinds, Ynumbers, Yends, Ylengths, Yparameters, Yspecial, YplaceKind, YplaceValue, Ythere, YsymbolOf, YplaceOf, YnextOf, YclosureSymbol, YclosureBody, YclosureEnv, YworkToken, YworkPhase, YworkEnv, YkeptKind, YkeptValue, YboundPlace, YoldKind, YoldValue, YoldBuffer) := by
  obtain ⟨y1, y2, y3, y4, y5, y6, y7, y8, y9⟩ := zz_YWh hYW
  have y1 : YworkToken fs.length = nI t := y1
  have y2 : YworkPhase fs.length = nI 0 := y2
  have y3 : YworkEnv fs.length = xenv := y3
  have y4 : YkeptKind fs.length = kk := y4
  have y5 : YkeptValue fs.length = kv := y5
  have y6 : YboundPlace fs.length = -1 := y6
  have y7 : YoldKind fs.length = ok := y7
  have y8 : YoldValue fs.length = ov := y8
  have y9 : YoldBuffer fs.length = nI b := y9
  have hYW0 := zz_YWt hYW
  have lu := zz_KRl _ _ _ _ _ _ hKR
  have hsk : Xstack st.length = zz_en ykind yvalue := hSK.1
  have hb := hct.1
  obtain ⟨h1, h2⟩ := zz_rcn hRC hl
  have h32 := zz_pr32 (L := Xlocals) hb hs
  have hX : zx_S (xdrafted, xspecial, xdefined, xhere, xdepth, xscoped, nI ne, nI nc, nI (st.length + 1), nI us.length, nI pc, xenv, nI b, nI sN, 0, 1, xgiven, xclosed, Xdraft, XdraftValues, Xop, Xarg, Xparameter, Xwaiting, Xdone, Xhole, Xscope, Xplace, Xlocals, Xstack, Xcell, Xparent, Xbodies, Xbinds, Xscopes, Xwhat, Xfirst, Xsecond, Xthird, Xkept) (xdrafted, xspecial, xdefined, xhere, xdepth, xscoped, nI ne, nI nc, nI (st.length + 1), nI us.length, nI (pc + 1), xenv, nI b, nI sN, 0, 1, xgiven, xclosed, Xdraft, XdraftValues, Xop, Xarg, Xparameter, Xwaiting, Xdone, Xhole, Xscope, vp_updL Xplace (zz_pr Xlocals b s) (Xstack st.length), Xlocals, Xstack, Xcell, Xparent, Xbodies, Xbinds, Xscopes, Xwhat, Xfirst, Xsecond, Xthird, Xkept) := zx_SG (zx_set hpc hb hs (by omega) h1 h2)
  have hY : zy_S (nI ne, nI nc, nI (fs.length + 1), nI b, nI sN, 0, yat, yenv, ykind, yvalue, ycode, ytag, yresultKind, yresultValue, Ykinds, Ynumbers, Yends, Ylengths, Yparameters, Yspecial, YplaceKind, YplaceValue, Ythere, YsymbolOf, YplaceOf, YnextOf, YclosureSymbol, YclosureBody, YclosureEnv, YworkToken, YworkPhase, YworkEnv, YkeptKind, YkeptValue, YboundPlace, YoldKind, YoldValue, YoldBuffer) (nI ne, nI nc, nI fs.length, YoldBuffer fs.length, nI sN, 0, yat, yenv, ykind, yvalue, ycode, ytag, yresultKind, yresultValue, Ykinds, Ynumbers, Yends, Ylengths, Yparameters, Yspecial, upd YplaceKind (zz_pr Xlocals b s) ykind, upd YplaceValue (zz_pr Xlocals b s) yvalue, Ythere, YsymbolOf, YplaceOf, YnextOf, YclosureSymbol, YclosureBody, YclosureEnv, YworkToken, upd YworkPhase fs.length (nI 1), YworkEnv, YkeptKind, YkeptValue, YboundPlace, YoldKind, YoldValue, YoldBuffer) := zy_SG (by omega) (zy_done_a (t := t) (k := 2) (by omega) ht y1 hk y2 (by decide) (fun Q HQ => zy_gb0 (by omega) y6 HQ) (fun Q HQ => zy_dset (by omega) (by omega) (by rw [hn, y3, y9]; exact zw_far hs hb (by omega) hEV hLO hl) HQ))
  rw [y9] at hY
  subst ee
  exact ⟨_, _, hX, hY, Or.inr (Or.inl (zz_SGi (fs := fs) (us := us) (st := st) hST (zz_YWg (Nat.le_refl _) hYW0) hXW (zz_ENl h32 hEN) hCL (zz_PLu hsk (Or.inl hV) hPL) hLO ⟨hb, by omega, by omega, by omega, by omega⟩ hSK hV hJ hKR hm))⟩
theorem zg_B17 (hST : zz_ST xdrafted xspecial xdefined Xdraft XdraftValues Xop Xarg Xparameter Ykinds Ynumbers Yends Ylengths Yparameters Yspecial) (hYW : zz_YW YworkToken YworkPhase YworkEnv YkeptKind YkeptValue YboundPlace YoldKind YoldValue YoldBuffer ((t, 0, xenv, kk, kv, -1, ok, ov, b, g) :: fs)) (hXW : zz_XW Xwhat Xfirst Xsecond Xthird Xkept us) (hEN : zz_EN ne nc Xparent Xcell YplaceOf YnextOf YplaceKind YplaceValue) (hCL : zz_CL Xop Xarg Ykinds Ynumbers Yends Yspecial ne YsymbolOf YnextOf nc Xbodies Xbinds Xscopes YclosureSymbol YclosureBody YclosureEnv) (hPL : zz_PL nc Xplace YplaceKind YplaceValue Ythere) (hLO : zz_LO Xlocals Ythere) (hct : b < 3 ∧ ne + (g + zz_pt fs) ≤ sN ∧ fs.length + 1 ≤ sN ∧ nc ≤ sN ∧ sN ≤ 300) (hV : zz_V nc ykind yvalue) (hpc : pc < 1280) (ht : t < 240) (he : e < 1280) (hJ : zz_J Xop Xarg j e q) (hm : (301 - sN) * 1000 + 500 + fs.length ≤ m) (hSK : zz_R Xstack (fun x => x) (zz_en ykind yvalue :: st)) (hEV : zz_EV ne YsymbolOf YnextOf sc xenv) (hKR : zz_KR Xop Xarg Ykinds Ynumbers Yends Yspecial ne YsymbolOf YnextOf nc fs q us st xenv b) {s : Nat} (hk : Ykinds t = 17) (hs : s < 8) (hn : Ynumbers t = nI s) (h1 : Xop pc = 17) (h2 : Xarg pc = nI s) (ee : e = pc + 1) : zz_O m (xdrafted, xspecial, xdefined, xhere, xdepth, xscoped, nI ne, nI nc, nI (st.length + 1), nI us.length, nI pc, xenv, nI b, nI sN, 0, 1, xgiven, xclosed, Xdraft, XdraftValues, Xop, Xarg, Xparameter, Xwaiting, Xdone, Xhole, Xscope, Xplace, Xlocals, Xstack, Xcell, Xparent, Xbodies, Xbinds, Xscopes, Xwhat, Xfirst, Xsecond, Xthird, Xkept) (nI ne, nI nc, nI (fs.length + 1), nI b, nI sN, 0, yat, yenv, ykind, yvalue, ycode, ytag, yresultKind, yresultValue, Ykinds, Ynumbers, Yends, Ylengths, Yparameters, Yspecial, YplaceKind, YplaceValue, Ythere, YsymbolOf, YplaceOf, YnextOf, YclosureSymbol, YclosureBody, YclosureEnv, YworkToken, YworkPhase, YworkEnv, YkeptKind, YkeptValue, YboundPlace, YoldKind, YoldValue, YoldBuffer) := by
  obtain ⟨y1, y2, y3, y4, y5, y6, y7, y8, y9⟩ := zz_YWh hYW
  have y1 : YworkToken fs.length = nI t := y1
  have y2 : YworkPhase fs.length = nI 0 := y2
  have y3 : YworkEnv fs.length = xenv := y3
  have y4 : YkeptKind fs.length = kk := y4
  have y5 : YkeptValue fs.length = kv := y5
  have y6 : YboundPlace fs.length = -1 := y6
  have y7 : YoldKind fs.length = ok := y7
  have y8 : YoldValue fs.length = ov := y8
  have y9 : YoldBuffer fs.length = nI b := y9
  have hYW0 := zz_YWt hYW
  have lu := zz_KRl _ _ _ _ _ _ hKR
  have hsk : Xstack st.length = zz_en ykind yvalue := hSK.1
  have hb := hct.1
  have hX : zx_S (xdrafted, xspecial, xdefined, xhere, xdepth, xscoped, nI ne, nI nc, nI (st.length + 1), nI us.length, nI pc, xenv, nI b, nI sN, 0, 1, xgiven, xclosed, Xdraft, XdraftValues, Xop, Xarg, Xparameter, Xwaiting, Xdone, Xhole, Xscope, Xplace, Xlocals, Xstack, Xcell, Xparent, Xbodies, Xbinds, Xscopes, Xwhat, Xfirst, Xsecond, Xthird, Xkept) (xdrafted, xspecial, xdefined, xhere, xdepth, xscoped, nI ne, nI nc, nI (st.length + 1), nI us.length, nI (pc + 1), xenv, nI b, nI sN, 0, 1, xgiven, xclosed, Xdraft, XdraftValues, Xop, Xarg, Xparameter, Xwaiting, Xdone, Xhole, Xscope, vp_updL Xplace (8 + 8 * b + s) (Xstack st.length), upd Xlocals b ((Xlocals b) ||| ((1 : Int32) <<< (nI s &&& 31))), Xstack, Xcell, Xparent, Xbodies, Xbinds, Xscopes, Xwhat, Xfirst, Xsecond, Xthird, Xkept) := zx_SG (zx_local hpc hb hs (by omega) h1 h2)
  have hY : zy_S (nI ne, nI nc, nI (fs.length + 1), nI b, nI sN, 0, yat, yenv, ykind, yvalue, ycode, ytag, yresultKind, yresultValue, Ykinds, Ynumbers, Yends, Ylengths, Yparameters, Yspecial, YplaceKind, YplaceValue, Ythere, YsymbolOf, YplaceOf, YnextOf, YclosureSymbol, YclosureBody, YclosureEnv, YworkToken, YworkPhase, YworkEnv, YkeptKind, YkeptValue, YboundPlace, YoldKind, YoldValue, YoldBuffer) (nI ne, nI nc, nI fs.length, nI b, nI sN, 0, yat, yenv, ykind, yvalue, ycode, ytag, yresultKind, yresultValue, Ykinds, Ynumbers, Yends, Ylengths, Yparameters, Yspecial, upd YplaceKind (8 + 8 * b + s) ykind, upd YplaceValue (8 + 8 * b + s) yvalue, upd Ythere (8 + 8 * b + s) 1, YsymbolOf, YplaceOf, YnextOf, YclosureSymbol, YclosureBody, YclosureEnv, YworkToken, upd YworkPhase fs.length (nI 1), YworkEnv, YkeptKind, YkeptValue, YboundPlace, YoldKind, YoldValue, YoldBuffer) := zy_SG (by omega) (zy_done_a (t := t) (k := 17) (by omega) ht y1 hk y2 (by decide) (fun Q HQ => zy_gb0 (by omega) y6 HQ) (fun Q HQ => by rw [hn, y9]; exact zy_dlocal hb hs HQ))
  subst ee
  exact ⟨_, _, hX, hY, Or.inr (Or.inl (zz_SGi (fs := fs) (us := us) (st := st) hST (zz_YWg (Nat.le_refl _) hYW0) hXW (zz_ENl (by omega) hEN) hCL (zz_PLl hsk (Or.inl hV) hPL) (zz_LOs hb hs hLO) ⟨hb, by omega, by omega, by omega, by omega⟩ hSK hV hJ hKR hm))⟩
theorem zg_B6M (hST : zz_ST xdrafted xspecial xdefined Xdraft XdraftValues Xop Xarg Xparameter Ykinds Ynumbers Yends Ylengths Yparameters Yspecial) (hYW : zz_YW YworkToken YworkPhase YworkEnv YkeptKind YkeptValue YboundPlace YoldKind YoldValue YoldBuffer ((t, 0, xenv, kk, kv, -1, ok, ov, b, g) :: fs)) (hXW : zz_XW Xwhat Xfirst Xsecond Xthird Xkept us) (hEN : zz_EN ne nc Xparent Xcell YplaceOf YnextOf YplaceKind YplaceValue) (hCL : zz_CL Xop Xarg Ykinds Ynumbers Yends Yspecial ne YsymbolOf YnextOf nc Xbodies Xbinds Xscopes YclosureSymbol YclosureBody YclosureEnv) (hPL : zz_PL nc Xplace YplaceKind YplaceValue Ythere) (hLO : zz_LO Xlocals Ythere) (hct : b < 3 ∧ ne + (g + zz_pt fs) ≤ sN ∧ fs.length + 1 ≤ sN ∧ nc ≤ sN ∧ sN ≤ 300) (hV : zz_V nc ykind yvalue) (hpc : pc < 1280) (ht : t < 240) (he : e < 1280) (hJ : zz_J Xop Xarg j e q) (hm : (301 - sN) * 1000 + 500 + fs.length ≤ m) (hSK : zz_R Xstack (fun x => x) (zz_en ykind yvalue :: st)) (hEV : zz_EV ne YsymbolOf YnextOf sc xenv) (hKR : zz_KR Xop Xarg Ykinds Ynumbers Yends Yspecial ne YsymbolOf YnextOf nc fs q us st xenv b) {s : Nat} (hk : Ykinds t = 6) (hs : s < 4) (hn : Ynumbers t = nI s) (h1 : Xop pc = 6) (h2 : Xarg pc = nI s) (ee : e = pc + 1) (hL : Ylengths s = 0) : zz_O m (xdrafted, xspecial, xdefined, xhere, xdepth, xscoped, nI ne, nI nc, nI (st.length + 1), nI us.length, nI pc, xenv, nI b, nI sN, 0, 1, xgiven, xclosed, Xdraft, XdraftValues, Xop, Xarg, Xparameter, Xwaiting, Xdone, Xhole, Xscope, Xplace, Xlocals, Xstack, Xcell, Xparent, Xbodies, Xbinds, Xscopes, Xwhat, Xfirst, Xsecond, Xthird, Xkept) (nI ne, nI nc, nI (fs.length + 1), nI b, nI sN, 0, yat, yenv, ykind, yvalue, ycode, ytag, yresultKind, yresultValue, Ykinds, Ynumbers, Yends, Ylengths, Yparameters, Yspecial, YplaceKind, YplaceValue, Ythere, YsymbolOf, YplaceOf, YnextOf, YclosureSymbol, YclosureBody, YclosureEnv, YworkToken, YworkPhase, YworkEnv, YkeptKind, YkeptValue, YboundPlace, YoldKind, YoldValue, YoldBuffer) := by
  obtain ⟨y1, y2, y3, y4, y5, y6, y7, y8, y9⟩ := zz_YWh hYW
  have y1 : YworkToken fs.length = nI t := y1
  have y2 : YworkPhase fs.length = nI 0 := y2
  have y3 : YworkEnv fs.length = xenv := y3
  have y4 : YkeptKind fs.length = kk := y4
  have y5 : YkeptValue fs.length = kv := y5
  have y6 : YboundPlace fs.length = -1 := y6
  have y7 : YoldKind fs.length = ok := y7
  have y8 : YoldValue fs.length = ov := y8
  have y9 : YoldBuffer fs.length = nI b := y9
  have hYW0 := zz_YWt hYW
  have lu := zz_KRl _ _ _ _ _ _ hKR
  have hsk : Xstack st.length = zz_en ykind yvalue := hSK.1
  have hb := hct.1
  have hd : bt xdefined s = false := by
    cases hc : bt xdefined s with
    | false => rfl
    | true => exact absurd hL ((hST.2.2 s hs).1.mp hc)
  have hY : zy_S (nI ne, nI nc, nI (fs.length + 1), nI b, nI sN, 0, yat, yenv, ykind, yvalue, ycode, ytag, yresultKind, yresultValue, Ykinds, Ynumbers, Yends, Ylengths, Yparameters, Yspecial, YplaceKind, YplaceValue, Ythere, YsymbolOf, YplaceOf, YnextOf, YclosureSymbol, YclosureBody, YclosureEnv, YworkToken, YworkPhase, YworkEnv, YkeptKind, YkeptValue, YboundPlace, YoldKind, YoldValue, YoldBuffer) (nI ne, nI nc, nI fs.length, nI b, nI sN, 2, yat, yenv, ykind, yvalue, 3, -1, yresultKind, yresultValue, Ykinds, Ynumbers, Yends, Ylengths, Yparameters, Yspecial, YplaceKind, YplaceValue, Ythere, YsymbolOf, YplaceOf, YnextOf, YclosureSymbol, YclosureBody, YclosureEnv, YworkToken, upd YworkPhase fs.length (nI 1), YworkEnv, YkeptKind, YkeptValue, YboundPlace, YoldKind, YoldValue, YoldBuffer) := zy_SG (by omega) (zy_gnamed (by omega) ht y1 hk y2 hn (fun Q HQ => zy_namedM hs hL HQ))
  obtain ⟨u1, w1, g1, g2, g3⟩ := zw_end (hw := 2) (x := 3) (v := 0) (m := m) (sN := sN) (xtop := nI (st.length + 1)) (xpc := nI (pc + 1)) (xenv := xenv) (ytag := -1) (ycode := 3) (YworkPhase := upd YworkPhase fs.length (nI 1)) hST hCL hLO (by omega) (by omega) fs us st q b xenv Xplace YplaceKind YplaceValue YboundPlace (zz_YWg (Nat.le_refl _) hYW0) hXW hSK.2 hEN hPL hKR (Or.inl ⟨rfl, rfl, rfl, by decide⟩) hb (by omega) (by omega) hm
  have hX : zx_S (xdrafted, xspecial, xdefined, xhere, xdepth, xscoped, nI ne, nI nc, nI (st.length + 1), nI us.length, nI pc, xenv, nI b, nI sN, 0, 1, xgiven, xclosed, Xdraft, XdraftValues, Xop, Xarg, Xparameter, Xwaiting, Xdone, Xhole, Xscope, Xplace, Xlocals, Xstack, Xcell, Xparent, Xbodies, Xbinds, Xscopes, Xwhat, Xfirst, Xsecond, Xthird, Xkept) u1 := zx_SG (zx_namedE hpc hb hs h1 h2 hd (zx_LU g1))
  exact ⟨u1, w1, hX, zy_St hY g2, g3⟩
/-- a value is kept, and the next expression begins -/
theorem zg_C (hST : zz_ST xdrafted xspecial xdefined Xdraft XdraftValues Xop Xarg Xparameter Ykinds Ynumbers Yends Ylengths Yparameters Yspecial) (hYW : zz_YW YworkToken YworkPhase YworkEnv YkeptKind YkeptValue YboundPlace YoldKind YoldValue YoldBuffer ((t, 0, xenv, kk, kv, -1, ok, ov, b, g) :: fs)) (hXW : zz_XW Xwhat Xfirst Xsecond Xthird Xkept us) (hEN : zz_EN ne nc Xparent Xcell YplaceOf YnextOf YplaceKind YplaceValue) (hCL : zz_CL Xop Xarg Ykinds Ynumbers Yends Yspecial ne YsymbolOf YnextOf nc Xbodies Xbinds Xscopes YclosureSymbol YclosureBody YclosureEnv) (hPL : zz_PL nc Xplace YplaceKind YplaceValue Ythere) (hLO : zz_LO Xlocals Ythere) (hct : b < 3 ∧ ne + (g + zz_pt fs) ≤ sN ∧ fs.length + 1 ≤ sN ∧ nc ≤ sN ∧ sN ≤ 300) (hV : zz_V nc ykind yvalue) (hpc : pc < 1280) (ht : t < 240) (he : e < 1280) (hJ : zz_J Xop Xarg j e q) (hm : (301 - sN) * 1000 + 500 + fs.length ≤ m) (hSK : zz_R Xstack (fun x => x) (zz_en ykind yvalue :: st)) (hEV : zz_EV ne YsymbolOf YnextOf sc xenv) (hKR : zz_KR Xop Xarg Ykinds Ynumbers Yends Yspecial ne YsymbolOf YnextOf nc fs q us st xenv b) {t2 e2 : Nat} (hk : Ykinds t = 5 ∨ Ykinds t = 9 ∨ Ykinds t = 10 ∨ Ykinds t = 11) (ht1 : t + 1 < 240) (hE : Yends (t + 1) = nI t2) (hC : zz_CE Xop Xarg Ykinds Ynumbers Yends Yspecial t2 pc e2 sc) (ho : Xop e2 = Ykinds t) (ee : e = e2 + 1) (hg : g = 1) : zz_O m (xdrafted, xspecial, xdefined, xhere, xdepth, xscoped, nI ne, nI nc, nI (st.length + 1), nI us.length, nI pc, xenv, nI b, nI sN, 0, 1, xgiven, xclosed, Xdraft, XdraftValues, Xop, Xarg, Xparameter, Xwaiting, Xdone, Xhole, Xscope, Xplace, Xlocals, Xstack, Xcell, Xparent, Xbodies, Xbinds, Xscopes, Xwhat, Xfirst, Xsecond, Xthird, Xkept) (nI ne, nI nc, nI (fs.length + 1), nI b, nI sN, 0, yat, yenv, ykind, yvalue, ycode, ytag, yresultKind, yresultValue, Ykinds, Ynumbers, Yends, Ylengths, Yparameters, Yspecial, YplaceKind, YplaceValue, Ythere, YsymbolOf, YplaceOf, YnextOf, YclosureSymbol, YclosureBody, YclosureEnv, YworkToken, YworkPhase, YworkEnv, YkeptKind, YkeptValue, YboundPlace, YoldKind, YoldValue, YoldBuffer) := by
  obtain ⟨y1, y2, y3, y4, y5, y6, y7, y8, y9⟩ := zz_YWh hYW
  have y1 : YworkToken fs.length = nI t := y1
  have y2 : YworkPhase fs.length = nI 0 := y2
  have y3 : YworkEnv fs.length = xenv := y3
  have y4 : YkeptKind fs.length = kk := y4
  have y5 : YkeptValue fs.length = kv := y5
  have y6 : YboundPlace fs.length = -1 := y6
  have y7 : YoldKind fs.length = ok := y7
  have y8 : YoldValue fs.length = ov := y8
  have y9 : YoldBuffer fs.length = nI b := y9
  have hYW0 := zz_YWt hYW
  have lu := zz_KRl _ _ _ _ _ _ hKR
  have hsk : Xstack st.length = zz_en ykind yvalue := hSK.1
  have hb := hct.1
  have ce := zz_CEb hC
  have hY : zy_S (nI ne, nI nc, nI (fs.length + 1), nI b, nI sN, 0, yat, yenv, ykind, yvalue, ycode, ytag, yresultKind, yresultValue, Ykinds, Ynumbers, Yends, Ylengths, Yparameters, Yspecial, YplaceKind, YplaceValue, Ythere, YsymbolOf, YplaceOf, YnextOf, YclosureSymbol, YclosureBody, YclosureEnv, YworkToken, YworkPhase, YworkEnv, YkeptKind, YkeptValue, YboundPlace, YoldKind, YoldValue, YoldBuffer) (nI ne, nI nc, nI (fs.length + 1), nI b, nI sN, 1, nI t2, YworkEnv fs.length, ykind, yvalue, ycode, ytag, yresultKind, yresultValue, Ykinds, Ynumbers, Yends, Ylengths, Yparameters, Yspecial, YplaceKind, YplaceValue, Ythere, YsymbolOf, YplaceOf, YnextOf, YclosureSymbol, YclosureBody, YclosureEnv, YworkToken, upd YworkPhase fs.length (nI 1), YworkEnv, upd YkeptKind fs.length ykind, upd YkeptValue fs.length yvalue, YboundPlace, YoldKind, YoldValue, YoldBuffer) := zy_SG (by omega) (zy_gkeep (k := Ykinds t) (by omega) ht1 y1 rfl y2 (by rcases hk with h | h | h | h <;> rw [h] <;> decide) hE)
  rw [y3] at hY
  refine ⟨_, _, zx_Sr, hY, Or.inl (zz_SBi (j := 0) (q := e2) (fs := (t, 1, xenv, ykind, yvalue, -1, ok, ov, b, g) :: fs) (us := us) (st := zz_en ykind yvalue :: st) hST (zz_YWk 1 ykind yvalue hYW) hXW hEN hCL hPL hLO hct hSK hC hEV rfl ?_ (by omega))⟩
  exact ⟨by omega, ht, hb, sc, e, j, q, us, st, he, hEV, hJ, hKR, (Or.inr (Or.inr (Or.inr (Or.inl (⟨hk, rfl, ho, ee, rfl, rfl, hV, rfl, rfl, rfl, hg⟩)))))⟩
theorem zg_I (hST : zz_ST xdrafted xspecial xdefined Xdraft XdraftValues Xop Xarg Xparameter Ykinds Ynumbers Yends Ylengths Yparameters Yspecial) (hYW : zz_YW YworkToken YworkPhase YworkEnv YkeptKind YkeptValue YboundPlace YoldKind YoldValue YoldBuffer ((t, 0, xenv, kk, kv, -1, ok, ov, b, g) :: fs)) (hXW : zz_XW Xwhat Xfirst Xsecond Xthird Xkept us) (hEN : zz_EN ne nc Xparent Xcell YplaceOf YnextOf YplaceKind YplaceValue) (hCL : zz_CL Xop Xarg Ykinds Ynumbers Yends Yspecial ne YsymbolOf YnextOf nc Xbodies Xbinds Xscopes YclosureSymbol YclosureBody YclosureEnv) (hPL : zz_PL nc Xplace YplaceKind YplaceValue Ythere) (hLO : zz_LO Xlocals Ythere) (hct : b < 3 ∧ ne + (g + zz_pt fs) ≤ sN ∧ fs.length + 1 ≤ sN ∧ nc ≤ sN ∧ sN ≤ 300) (hV : zz_V nc ykind yvalue) (hpc : pc < 1280) (ht : t < 240) (he : e < 1280) (hJ : zz_J Xop Xarg j e q) (hm : (301 - sN) * 1000 + 500 + fs.length ≤ m) (hSK : zz_R Xstack (fun x => x) (zz_en ykind yvalue :: st)) (hEV : zz_EV ne YsymbolOf YnextOf sc xenv) (hKR : zz_KR Xop Xarg Ykinds Ynumbers Yends Yspecial ne YsymbolOf YnextOf nc fs q us st xenv b) {t2 : Nat} (hk : Ykinds t = 7) (ht1 : t + 1 < 240) (hE : Yends (t + 1) = nI t2) (ho : Xop pc = 30) (hC : zz_CE Xop Xarg Ykinds Ynumbers Yends Yspecial t2 (pc + 1) e sc) : zz_O m (xdrafted, xspecial, xdefined, xhere, xdepth, xscoped, nI ne, nI nc, nI (st.length + 1), nI us.length, nI pc, xenv, nI b, nI sN, 0, 1, xgiven, xclosed, Xdraft, XdraftValues, Xop, Xarg, Xparameter, Xwaiting, Xdone, Xhole, Xscope, Xplace, Xlocals, Xstack, Xcell, Xparent, Xbodies, Xbinds, Xscopes, Xwhat, Xfirst, Xsecond, Xthird, Xkept) (nI ne, nI nc, nI (fs.length + 1), nI b, nI sN, 0, yat, yenv, ykind, yvalue, ycode, ytag, yresultKind, yresultValue, Ykinds, Ynumbers, Yends, Ylengths, Yparameters, Yspecial, YplaceKind, YplaceValue, Ythere, YsymbolOf, YplaceOf, YnextOf, YclosureSymbol, YclosureBody, YclosureEnv, YworkToken, YworkPhase, YworkEnv, YkeptKind, YkeptValue, YboundPlace, YoldKind, YoldValue, YoldBuffer) := by
  obtain ⟨y1, y2, y3, y4, y5, y6, y7, y8, y9⟩ := zz_YWh hYW
  have y1 : YworkToken fs.length = nI t := y1
  have y2 : YworkPhase fs.length = nI 0 := y2
  have y3 : YworkEnv fs.length = xenv := y3
  have y4 : YkeptKind fs.length = kk := y4
  have y5 : YkeptValue fs.length = kv := y5
  have y6 : YboundPlace fs.length = -1 := y6
  have y7 : YoldKind fs.length = ok := y7
  have y8 : YoldValue fs.length = ov := y8
  have y9 : YoldBuffer fs.length = nI b := y9
  have hYW0 := zz_YWt hYW
  have lu := zz_KRl _ _ _ _ _ _ hKR
  have hsk : Xstack st.length = zz_en ykind yvalue := hSK.1
  have hb := hct.1
  have hX : zx_S (xdrafted, xspecial, xdefined, xhere, xdepth, xscoped, nI ne, nI nc, nI (st.length + 1), nI us.length, nI pc, xenv, nI b, nI sN, 0, 1, xgiven, xclosed, Xdraft, XdraftValues, Xop, Xarg, Xparameter, Xwaiting, Xdone, Xhole, Xscope, Xplace, Xlocals, Xstack, Xcell, Xparent, Xbodies, Xbinds, Xscopes, Xwhat, Xfirst, Xsecond, Xthird, Xkept) (xdrafted, xspecial, xdefined, xhere, xdepth, xscoped, nI ne, nI nc, nI st.length, nI us.length, nI (pc + 1), xenv, nI b, nI sN, 0, 1, xgiven, xclosed, Xdraft, XdraftValues, Xop, Xarg, Xparameter, Xwaiting, Xdone, Xhole, Xscope, Xplace, Xlocals, Xstack, Xcell, Xparent, Xbodies, Xbinds, Xscopes, Xwhat, Xfirst, Xsecond, Xthird, Xkept) := zx_SG (zx_drop hpc ho)
  have hY : zy_S (nI ne, nI nc, nI (fs.length + 1), nI b, nI sN, 0, yat, yenv, ykind, yvalue, ycode, ytag, yresultKind, yresultValue, Ykinds, Ynumbers, Yends, Ylengths, Yparameters, Yspecial, YplaceKind, YplaceValue, Ythere, YsymbolOf, YplaceOf, YnextOf, YclosureSymbol, YclosureBody, YclosureEnv, YworkToken, YworkPhase, YworkEnv, YkeptKind, YkeptValue, YboundPlace, YoldKind, YoldValue, YoldBuffer) (nI ne, nI nc, nI fs.length, nI b, nI sN, 1, nI t2, YworkEnv fs.length, ykind, yvalue, ycode, ytag, yresultKind, yresultValue, Ykinds, Ynumbers, Yends, Ylengths, Yparameters, Yspecial, YplaceKind, YplaceValue, Ythere, YsymbolOf, YplaceOf, YnextOf, YclosureSymbol, YclosureBody, YclosureEnv, YworkToken, upd YworkPhase fs.length (nI 1), YworkEnv, YkeptKind, YkeptValue, YboundPlace, YoldKind, YoldValue, YoldBuffer) := zy_SG (by omega) (zy_gseq (by omega) ht1 y1 hk y2 hE)
  rw [y3] at hY
  exact ⟨_, _, hX, hY, Or.inl (zz_SBi (fs := fs) (us := us) (st := st) hST (zz_YWg (Nat.le_refl _) hYW0) hXW hEN hCL hPL hLO ⟨hb, by omega, by omega, by omega, by omega⟩ hSK.2 hC hEV hJ hKR (by omega))⟩
theorem zg_J (hST : zz_ST xdrafted xspecial xdefined Xdraft XdraftValues Xop Xarg Xparameter Ykinds Ynumbers Yends Ylengths Yparameters Yspecial) (hYW : zz_YW YworkToken YworkPhase YworkEnv YkeptKind YkeptValue YboundPlace YoldKind YoldValue YoldBuffer ((t, 0, xenv, kk, kv, -1, ok, ov, b, g) :: fs)) (hXW : zz_XW Xwhat Xfirst Xsecond Xthird Xkept us) (hEN : zz_EN ne nc Xparent Xcell YplaceOf YnextOf YplaceKind YplaceValue) (hCL : zz_CL Xop Xarg Ykinds Ynumbers Yends Yspecial ne YsymbolOf YnextOf nc Xbodies Xbinds Xscopes YclosureSymbol YclosureBody YclosureEnv) (hPL : zz_PL nc Xplace YplaceKind YplaceValue Ythere) (hLO : zz_LO Xlocals Ythere) (hct : b < 3 ∧ ne + (g + zz_pt fs) ≤ sN ∧ fs.length + 1 ≤ sN ∧ nc ≤ sN ∧ sN ≤ 300) (hV : zz_V nc ykind yvalue) (hpc : pc < 1280) (ht : t < 240) (he : e < 1280) (hJ : zz_J Xop Xarg j e q) (hm : (301 - sN) * 1000 + 500 + fs.length ≤ m) (hSK : zz_R Xstack (fun x => x) (zz_en ykind yvalue :: st)) (hEV : zz_EV ne YsymbolOf YnextOf sc xenv) (hKR : zz_KR Xop Xarg Ykinds Ynumbers Yends Yspecial ne YsymbolOf YnextOf nc fs q us st xenv b) {t2 t3 e2 : Nat} (hk : Ykinds t = 8) (ht1 : t + 1 < 240) (hE : Yends (t + 1) = nI t2) (hE2 : Yends t2 = nI t3) (ho : Xop pc = 8) (ha : Xarg pc = nI ((e2 + 1) * 65536)) (hC : zz_CE Xop Xarg Ykinds Ynumbers Yends Yspecial t2 (pc + 1) e2 sc) (h23 : Xop e2 = 23) (h24 : Xarg e2 = nI (e * 65536)) (hC3 : zz_CE Xop Xarg Ykinds Ynumbers Yends Yspecial t3 (e2 + 1) e sc) : zz_O m (xdrafted, xspecial, xdefined, xhere, xdepth, xscoped, nI ne, nI nc, nI (st.length + 1), nI us.length, nI pc, xenv, nI b, nI sN, 0, 1, xgiven, xclosed, Xdraft, XdraftValues, Xop, Xarg, Xparameter, Xwaiting, Xdone, Xhole, Xscope, Xplace, Xlocals, Xstack, Xcell, Xparent, Xbodies, Xbinds, Xscopes, Xwhat, Xfirst, Xsecond, Xthird, Xkept) (nI ne, nI nc, nI (fs.length + 1), nI b, nI sN, 0, yat, yenv, ykind, yvalue, ycode, ytag, yresultKind, yresultValue, Ykinds, Ynumbers, Yends, Ylengths, Yparameters, Yspecial, YplaceKind, YplaceValue, Ythere, YsymbolOf, YplaceOf, YnextOf, YclosureSymbol, YclosureBody, YclosureEnv, YworkToken, YworkPhase, YworkEnv, YkeptKind, YkeptValue, YboundPlace, YoldKind, YoldValue, YoldBuffer) := by
  obtain ⟨y1, y2, y3, y4, y5, y6, y7, y8, y9⟩ := zz_YWh hYW
  have y1 : YworkToken fs.length = nI t := y1
  have y2 : YworkPhase fs.length = nI 0 := y2
  have y3 : YworkEnv fs.length = xenv := y3
  have y4 : YkeptKind fs.length = kk := y4
  have y5 : YkeptValue fs.length = kv := y5
  have y6 : YboundPlace fs.length = -1 := y6
  have y7 : YoldKind fs.length = ok := y7
  have y8 : YoldValue fs.length = ov := y8
  have y9 : YoldBuffer fs.length = nI b := y9
  have hYW0 := zz_YWt hYW
  have lu := zz_KRl _ _ _ _ _ _ hKR
  have hsk : Xstack st.length = zz_en ykind yvalue := hSK.1
  have hb := hct.1
  have c2 := zz_CEb hC
  have c3 := zz_CEb hC3
  by_cases z : ykind = 0 ∧ yvalue = 0
  · have hX : zx_S (xdrafted, xspecial, xdefined, xhere, xdepth, xscoped, nI ne, nI nc, nI (st.length + 1), nI us.length, nI pc, xenv, nI b, nI sN, 0, 1, xgiven, xclosed, Xdraft, XdraftValues, Xop, Xarg, Xparameter, Xwaiting, Xdone, Xhole, Xscope, Xplace, Xlocals, Xstack, Xcell, Xparent, Xbodies, Xbinds, Xscopes, Xwhat, Xfirst, Xsecond, Xthird, Xkept) (xdrafted, xspecial, xdefined, xhere, xdepth, xscoped, nI ne, nI nc, nI st.length, nI us.length, nI (e2 + 1), xenv, nI b, nI sN, 0, 1, xgiven, xclosed, Xdraft, XdraftValues, Xop, Xarg, Xparameter, Xwaiting, Xdone, Xhole, Xscope, Xplace, Xlocals, Xstack, Xcell, Xparent, Xbodies, Xbinds, Xscopes, Xwhat, Xfirst, Xsecond, Xthird, Xkept) := zx_SG (zx_if0 hpc hb (by omega) (by omega) ho ha (by rw [hsk]; exact (zz_eq0 (by omega) hV).mpr z))
    have hY : zy_S (nI ne, nI nc, nI (fs.length + 1), nI b, nI sN, 0, yat, yenv, ykind, yvalue, ycode, ytag, yresultKind, yresultValue, Ykinds, Ynumbers, Yends, Ylengths, Yparameters, Yspecial, YplaceKind, YplaceValue, Ythere, YsymbolOf, YplaceOf, YnextOf, YclosureSymbol, YclosureBody, YclosureEnv, YworkToken, YworkPhase, YworkEnv, YkeptKind, YkeptValue, YboundPlace, YoldKind, YoldValue, YoldBuffer) (nI ne, nI nc, nI fs.length, nI b, nI sN, 1, nI t3, YworkEnv fs.length, ykind, yvalue, ycode, ytag, yresultKind, yresultValue, Ykinds, Ynumbers, Yends, Ylengths, Yparameters, Yspecial, YplaceKind, YplaceValue, Ythere, YsymbolOf, YplaceOf, YnextOf, YclosureSymbol, YclosureBody, YclosureEnv, YworkToken, upd YworkPhase fs.length (nI 1), YworkEnv, YkeptKind, YkeptValue, YboundPlace, YoldKind, YoldValue, YoldBuffer) := zy_SG (by omega) (zy_gif2 (by omega) ht1 c2.1 y1 hk y2 hE hE2 z)
    rw [y3] at hY
    exact ⟨_, _, hX, hY, Or.inl (zz_SBi (fs := fs) (us := us) (st := st) hST (zz_YWg (Nat.le_refl _) hYW0) hXW hEN hCL hPL hLO ⟨hb, by omega, by omega, by omega, by omega⟩ hSK.2 hC3 hEV hJ hKR (by omega))⟩
  · have hX : zx_S (xdrafted, xspecial, xdefined, xhere, xdepth, xscoped, nI ne, nI nc, nI (st.length + 1), nI us.length, nI pc, xenv, nI b, nI sN, 0, 1, xgiven, xclosed, Xdraft, XdraftValues, Xop, Xarg, Xparameter, Xwaiting, Xdone, Xhole, Xscope, Xplace, Xlocals, Xstack, Xcell, Xparent, Xbodies, Xbinds, Xscopes, Xwhat, Xfirst, Xsecond, Xthird, Xkept) (xdrafted, xspecial, xdefined, xhere, xdepth, xscoped, nI ne, nI nc, nI st.length, nI us.length, nI (pc + 1), xenv, nI b, nI sN, 0, 1, xgiven, xclosed, Xdraft, XdraftValues, Xop, Xarg, Xparameter, Xwaiting, Xdone, Xhole, Xscope, Xplace, Xlocals, Xstack, Xcell, Xparent, Xbodies, Xbinds, Xscopes, Xwhat, Xfirst, Xsecond, Xthird, Xkept) := zx_SG (zx_if1 hpc hb (by omega) ho (by rw [hsk]; exact fun w => z ((zz_eq0 (by omega) hV).mp w)))
    have hY : zy_S (nI ne, nI nc, nI (fs.length + 1), nI b, nI sN, 0, yat, yenv, ykind, yvalue, ycode, ytag, yresultKind, yresultValue, Ykinds, Ynumbers, Yends, Ylengths, Yparameters, Yspecial, YplaceKind, YplaceValue, Ythere, YsymbolOf, YplaceOf, YnextOf, YclosureSymbol, YclosureBody, YclosureEnv, YworkToken, YworkPhase, YworkEnv, YkeptKind, YkeptValue, YboundPlace, YoldKind, YoldValue, YoldBuffer) (nI ne, nI nc, nI fs.length, nI b, nI sN, 1, nI t2, YworkEnv fs.length, ykind, yvalue, ycode, ytag, yresultKind, yresultValue, Ykinds, Ynumbers, Yends, Ylengths, Yparameters, Yspecial, YplaceKind, YplaceValue, Ythere, YsymbolOf, YplaceOf, YnextOf, YclosureSymbol, YclosureBody, YclosureEnv, YworkToken, upd YworkPhase fs.length (nI 1), YworkEnv, YkeptKind, YkeptValue, YboundPlace, YoldKind, YoldValue, YoldBuffer) := zy_SG (by omega) (zy_gif1 (by omega) ht1 y1 hk y2 hE z)
    rw [y3] at hY
    exact ⟨_, _, hX, hY, Or.inl (zz_SBi (j := j + 1) (fs := fs) (us := us) (st := st) hST (zz_YWg (Nat.le_refl _) hYW0) hXW hEN hCL hPL hLO ⟨hb, by omega, by omega, by omega, by omega⟩ hSK.2 hC hEV ⟨by omega, h23, e, he, h24, hJ⟩ hKR (by omega))⟩
end
end
section
theorem zz_Rm {α β : Type} {a : Nat → α} {g : β → α} : ∀ {l : List β}, zz_R a g l → ∀ i, i < l.length → ∃ x, x ∈ l ∧ a i = g x
  | [], _, i, h => absurd h (Nat.not_lt_zero i)
  | x :: l, H, i, h => by
    by_cases z : i = l.length
    · subst z; exact ⟨x, List.mem_cons_self, H.1⟩
    · obtain ⟨y, h1, h2⟩ := zz_Rm H.2 i (by simp only [List.length_cons] at h; omega)
      exact ⟨y, List.mem_cons_of_mem _ h1, h2⟩
theorem zz_Rn {α β : Type} {a : Nat → α} {g : β → α} : ∀ {l : List β}, zz_R a g l → ∀ x, x ∈ l → ∃ i, i < l.length ∧ a i = g x
  | [], _, x, h => by cases h
  | y :: l, H, x, h => by
    rcases List.mem_cons.mp h with e | e
    · subst e; exact ⟨l.length, Nat.lt_succ_self _, H.1⟩
    · obtain ⟨i, h1, h2⟩ := zz_Rn H.2 x e
      exact ⟨i, Nat.lt_succ_of_lt h1, h2⟩
theorem zz_KRf {op ar K N E S : Nat → Int32} {ne : Nat} {sy nx : Nat → Int32} {nc : Nat} : ∀ (fs : List zz_YF) (pc : Nat) (us : List zz_XE) (st : List Int64) (env : Int32) (b : Nat), zz_KR op ar K N E S ne sy nx nc fs pc us st env b → ∀ f, f ∈ fs → f.1 < 240 := by
  intro fs
  induction fs with
  | nil => intro pc us st env b _ f h; cases h
  | cons f fs ih =>
    intro pc us st env b ⟨_, h2, _, sc, e, j, q, us0, st0, _, _, _, h7, _⟩ f' hf
    rcases List.mem_cons.mp hf with e | e
    · subst e; exact h2
    · exact ih _ _ _ _ _ h7 f' e
theorem zz_mtc {s : Nat} {y : zz_XE} {l : List zz_XE} (h : ¬ y.1 = 4) : zz_mt s (y :: l) ↔ zz_mt s l := by
  constructor
  · intro ⟨z, hz, h1, h2⟩
    rcases List.mem_cons.mp hz with e | e
    · subst e; exact absurd h1 h
    · exact ⟨z, e, h1, h2⟩
  · intro ⟨z, hz, h1, h2⟩
    exact ⟨z, List.mem_cons_of_mem _ hz, h1, h2⟩
theorem zz_ctc {K N : Nat → Int32} {s : Nat} {f : zz_YF} {l : List zz_YF} (h : ¬ (K f.1 = 12 ∧ N f.1 = nI s)) : zz_CT K N s (f :: l) ↔ zz_CT K N s l := by
  constructor
  · intro ⟨z, hz, h1, h2⟩
    rcases List.mem_cons.mp hz with e | e
    · subst e; exact absurd ⟨h1, h2⟩ h
    · exact ⟨z, e, h1, h2⟩
  · intro ⟨z, hz, h1, h2⟩
    exact ⟨z, List.mem_cons_of_mem _ hz, h1, h2⟩
/-- who takes a throw, on both sides -/
theorem zz_KRc {op ar K N E S : Nat → Int32} {ne : Nat} {sy nx : Nat → Int32} {nc s : Nat} (hs : s < 4) : ∀ (fs : List zz_YF) (pc : Nat) (us : List zz_XE) (st : List Int64) (env : Int32) (b : Nat), zz_KR op ar K N E S ne sy nx nc fs pc us st env b → (zz_mt s us ↔ zz_CT K N s fs) := by
  intro fs
  induction fs with
  | nil =>
    intro pc us st env b ⟨_, _, h1, _⟩
    subst h1
    exact ⟨fun ⟨_, h, _⟩ => (by cases h), fun ⟨_, h, _⟩ => (by cases h)⟩
  | cons f fs ih =>
    intro pc us st env b ⟨_, _, _, sc, e, j, q, us0, st0, _, _, _, hKR, hFR⟩
    have hi := ih _ _ _ _ _ hKR
    obtain ⟨_, hc⟩ := zz_FRe hFR
    rcases hc with ⟨c12, _, _, _, _, hU⟩ | ⟨c12, _, _, _, s', hs', hN, hu⟩ | ⟨c14, _, _, _, t2, _, _, _, hu⟩ | ⟨c15, _, _, _, t2, e2, _, _, _, _, _, hu⟩ | ⟨c16, _, _, hu⟩
    · rw [zz_ctc (fun h => c12 h.1), ← hi]
      rcases hU with ⟨hu, _⟩ | ⟨y, hu, hy, _⟩ | ⟨y, hu, hk⟩ | ⟨y, z, hu, hz, hk⟩
      · rw [hu]
      · rw [hu, zz_mtc (by rcases hy with h | h <;> rw [h] <;> decide)]
      · rw [hu, zz_mtc (by rw [hk.1]; decide)]
      · rw [hu, zz_mtc (by rcases hk with h | h <;> rw [h.1] <;> decide), zz_mtc (by rw [hz]; decide)]
    · rw [hu]
      by_cases z : s' = s
      · subst z
        exact ⟨fun _ => ⟨f, List.mem_cons_self, c12, hN⟩, fun _ => ⟨_, List.mem_cons_self, rfl, rfl⟩⟩
      · rw [zz_ctc (fun h => z (by rw [hN, nI_eq (by omega) (by omega)] at h; exact h.2)), ← hi]
        constructor
        · intro ⟨y, hy, h1, h2⟩
          rcases List.mem_cons.mp hy with e | e
          · subst e
            have h2 : lN s' = lN s := h2
            rw [lN_eq (by omega) (by omega)] at h2
            exact absurd h2 z
          · exact ⟨y, e, h1, h2⟩
        · intro ⟨y, hy, h1, h2⟩
          exact ⟨y, List.mem_cons_of_mem _ hy, h1, h2⟩
    · rw [zz_ctc (fun h => absurd (c14.symm.trans h.1) (by decide)), ← hi, hu, zz_mtc (show ¬ (5 : Int32) = 4 by decide)]
    · rw [zz_ctc (fun h => absurd (c15.symm.trans h.1) (by decide)), ← hi, hu, zz_mtc (show ¬ (6 : Int32) = 4 by decide)]
    · rw [zz_ctc (fun h => absurd (c16.symm.trans h.1) (by decide)), ← hi, hu, zz_mtc (show ¬ (3 : Int32) = 4 by decide)]
theorem zz_MTc {tok K N : Nat → Int32} {s : Nat} {fs : List zz_YF} (hf : ∀ f, f ∈ fs → f.1 < 240) (H : zz_R tok (fun f => nI f.1) fs) : zy_MT tok K N s fs.length ↔ zz_CT K N s fs := by
  constructor
  · intro ⟨i, hi, h1, h2⟩
    obtain ⟨f, h3, h4⟩ := zz_Rm H i hi
    have h5 := hf f h3
    have e : (tok i).toNatClampNeg = f.1 := by rw [h4]; exact nI_clamp (by omega)
    rw [e] at h1 h2
    exact ⟨f, h3, h1, h2⟩
  · intro ⟨f, h3, h1, h2⟩
    obtain ⟨i, hi, h4⟩ := zz_Rn H f h3
    have h5 := hf f h3
    have e : (tok i).toNatClampNeg = f.1 := by rw [h4]; exact nI_clamp (by omega)
    exact ⟨i, hi, by rw [e]; exact h1, by rw [e]; exact h2⟩
section
variable {xdrafted xspecial xdefined xhere xdepth xscoped xcells xclosures xtop xundo xpc xenv xbuffer xtaken xoutcome xrunning xclosed : Int32} {xgiven : Int64} {Xdraft XdraftValues Xop Xarg Xparameter Xwaiting Xdone Xhole Xscope Xlocals Xparent Xbodies Xbinds Xscopes Xwhat Xfirst Xsecond Xthird : Nat → Int32} {Xplace Xstack Xcell Xkept : Nat → Int64} {yenvs yclosures ywork ybuffer ysteps ymode yat yenv ykind yvalue ycode ytag yresultKind yresultValue : Int32} {Ykinds Ynumbers Yends Ylengths Yparameters Yspecial YplaceKind YplaceValue Ythere YsymbolOf YplaceOf YnextOf YclosureSymbol YclosureBody YclosureEnv YworkToken YworkPhase YworkEnv YkeptKind YkeptValue YboundPlace YoldKind YoldValue YoldBuffer : Nat → Int32} {fs : List zz_YF} {us : List zz_XE} {st : List Int64} {b ne nc sN t e j q m pc g : Nat} {sc : List Nat} {kk kv ok ov : Int32}
theorem zg_B13 (hST : zz_ST xdrafted xspecial xdefined Xdraft XdraftValues Xop Xarg Xparameter Ykinds Ynumbers Yends Ylengths Yparameters Yspecial) (hYW : zz_YW YworkToken YworkPhase YworkEnv YkeptKind YkeptValue YboundPlace YoldKind YoldValue YoldBuffer ((t, 0, xenv, kk, kv, -1, ok, ov, b, g) :: fs)) (hXW : zz_XW Xwhat Xfirst Xsecond Xthird Xkept us) (hEN : zz_EN ne nc Xparent Xcell YplaceOf YnextOf YplaceKind YplaceValue) (hCL : zz_CL Xop Xarg Ykinds Ynumbers Yends Yspecial ne YsymbolOf YnextOf nc Xbodies Xbinds Xscopes YclosureSymbol YclosureBody YclosureEnv) (hPL : zz_PL nc Xplace YplaceKind YplaceValue Ythere) (hLO : zz_LO Xlocals Ythere) (hct : b < 3 ∧ ne + (g + zz_pt fs) ≤ sN ∧ fs.length + 1 ≤ sN ∧ nc ≤ sN ∧ sN ≤ 300) (hV : zz_V nc ykind yvalue) (hpc : pc < 1280) (ht : t < 240) (he : e < 1280) (hJ : zz_J Xop Xarg j e q) (hm : (301 - sN) * 1000 + 500 + fs.length ≤ m) (hSK : zz_R Xstack (fun x => x) (zz_en ykind yvalue :: st)) (hEV : zz_EV ne YsymbolOf YnextOf sc xenv) (hKR : zz_KR Xop Xarg Ykinds Ynumbers Yends Yspecial ne YsymbolOf YnextOf nc fs q us st xenv b) {s : Nat} (hk : Ykinds t = 13) (hs : s < 4) (hn : Ynumbers t = nI s) (h1 : Xop pc = 13) (h2 : Xarg pc = nI s) (ee : e = pc + 1) : zz_O m (xdrafted, xspecial, xdefined, xhere, xdepth, xscoped, nI ne, nI nc, nI (st.length + 1), nI us.length, nI pc, xenv, nI b, nI sN, 0, 1, xgiven, xclosed, Xdraft, XdraftValues, Xop, Xarg, Xparameter, Xwaiting, Xdone, Xhole, Xscope, Xplace, Xlocals, Xstack, Xcell, Xparent, Xbodies, Xbinds, Xscopes, Xwhat, Xfirst, Xsecond, Xthird, Xkept) (nI ne, nI nc, nI (fs.length + 1), nI b, nI sN, 0, yat, yenv, ykind, yvalue, ycode, ytag, yresultKind, yresultValue, Ykinds, Ynumbers, Yends, Ylengths, Yparameters, Yspecial, YplaceKind, YplaceValue, Ythere, YsymbolOf, YplaceOf, YnextOf, YclosureSymbol, YclosureBody, YclosureEnv, YworkToken, YworkPhase, YworkEnv, YkeptKind, YkeptValue, YboundPlace, YoldKind, YoldValue, YoldBuffer) := by
  obtain ⟨y1, y2, y3, y4, y5, y6, y7, y8, y9⟩ := zz_YWh hYW
  have y1 : YworkToken fs.length = nI t := y1
  have y2 : YworkPhase fs.length = nI 0 := y2
  have y3 : YworkEnv fs.length = xenv := y3
  have y4 : YkeptKind fs.length = kk := y4
  have y5 : YkeptValue fs.length = kv := y5
  have y6 : YboundPlace fs.length = -1 := y6
  have y7 : YoldKind fs.length = ok := y7
  have y8 : YoldValue fs.length = ov := y8
  have y9 : YoldBuffer fs.length = nI b := y9
  have hYW0 := zz_YWt hYW
  have lu := zz_KRl _ _ _ _ _ _ hKR
  have hsk : Xstack st.length = zz_en ykind yvalue := hSK.1
  have hb := hct.1
  have hf := zz_KRf _ _ _ _ _ _ hKR
  have hmc := zz_KRc hs _ _ _ _ _ _ hKR
  have hMT := zz_MTc (K := Ykinds) (N := Ynumbers) (s := s) hf hYW0.1
  have hT : ∀ i, i < fs.length → vp_in (YworkToken i) 240 := by
    intro i hi
    obtain ⟨f, h3, h4⟩ := zz_Rm hYW0.1 i hi
    rw [h4]
    exact vp_in_nI (hf f h3) (by omega)
  by_cases hCT : zz_CT Ykinds Ynumbers s fs
  · have hY : zy_S (nI ne, nI nc, nI (fs.length + 1), nI b, nI sN, 0, yat, yenv, ykind, yvalue, ycode, ytag, yresultKind, yresultValue, Ykinds, Ynumbers, Yends, Ylengths, Yparameters, Yspecial, YplaceKind, YplaceValue, Ythere, YsymbolOf, YplaceOf, YnextOf, YclosureSymbol, YclosureBody, YclosureEnv, YworkToken, YworkPhase, YworkEnv, YkeptKind, YkeptValue, YboundPlace, YoldKind, YoldValue, YoldBuffer) (nI ne, nI nc, nI fs.length, YoldBuffer fs.length, nI sN, 2, yat, yenv, ykind, yvalue, 0, nI s, yresultKind, yresultValue, Ykinds, Ynumbers, Yends, Ylengths, Yparameters, Yspecial, YplaceKind, YplaceValue, Ythere, YsymbolOf, YplaceOf, YnextOf, YclosureSymbol, YclosureBody, YclosureEnv, YworkToken, upd YworkPhase fs.length (nI 1), YworkEnv, YkeptKind, YkeptValue, YboundPlace, YoldKind, YoldValue, YoldBuffer) := zy_SG (by omega) (zy_done_a (t := t) (k := 13) (by omega) ht y1 hk y2 (by decide) (fun Q HQ => zy_gb0 (by omega) y6 HQ) (fun Q HQ => by rw [hn]; exact zy_dhurl (by omega) hT (fun _ => HQ) (fun h => absurd (hMT.mpr hCT) h)))
    rw [y9] at hY
    obtain ⟨u1, w1, g1, g2, g3⟩ := zw_end (hw := 1) (x := nI s) (v := Xstack st.length) (m := m) (sN := sN) (xtop := nI (st.length + 1)) (xpc := nI (pc + 1)) (xenv := xenv) (ytag := nI s) (ycode := 0) (YworkPhase := upd YworkPhase fs.length (nI 1)) hST hCL hLO (by omega) (by omega) fs us st q b xenv Xplace YplaceKind YplaceValue YboundPlace (zz_YWg (Nat.le_refl _) hYW0) hXW hSK.2 hEN hPL hKR (Or.inr ⟨rfl, s, hs, rfl, rfl, hsk, hV, hCT⟩) hb (by omega) (by omega) hm
    have hX : zx_S (xdrafted, xspecial, xdefined, xhere, xdepth, xscoped, nI ne, nI nc, nI (st.length + 1), nI us.length, nI pc, xenv, nI b, nI sN, 0, 1, xgiven, xclosed, Xdraft, XdraftValues, Xop, Xarg, Xparameter, Xwaiting, Xdone, Xhole, Xscope, Xplace, Xlocals, Xstack, Xcell, Xparent, Xbodies, Xbinds, Xscopes, Xwhat, Xfirst, Xsecond, Xthird, Xkept) u1 := zx_SG (zx_toss hpc hb hs (by omega) (by omega) hXW.1 hXW.2.2.2.2 h1 h2 (fun _ => zx_LU g1) (fun h => absurd (hmc.mpr hCT) h))
    exact ⟨u1, w1, hX, zy_St hY g2, g3⟩
  · have hY : zy_S (nI ne, nI nc, nI (fs.length + 1), nI b, nI sN, 0, yat, yenv, ykind, yvalue, ycode, ytag, yresultKind, yresultValue, Ykinds, Ynumbers, Yends, Ylengths, Yparameters, Yspecial, YplaceKind, YplaceValue, Ythere, YsymbolOf, YplaceOf, YnextOf, YclosureSymbol, YclosureBody, YclosureEnv, YworkToken, YworkPhase, YworkEnv, YkeptKind, YkeptValue, YboundPlace, YoldKind, YoldValue, YoldBuffer) (nI ne, nI nc, nI fs.length, YoldBuffer fs.length, nI sN, 2, yat, yenv, ykind, yvalue, 3, -1, yresultKind, yresultValue, Ykinds, Ynumbers, Yends, Ylengths, Yparameters, Yspecial, YplaceKind, YplaceValue, Ythere, YsymbolOf, YplaceOf, YnextOf, YclosureSymbol, YclosureBody, YclosureEnv, YworkToken, upd YworkPhase fs.length (nI 1), YworkEnv, YkeptKind, YkeptValue, YboundPlace, YoldKind, YoldValue, YoldBuffer) := zy_SG (by omega) (zy_done_a (t := t) (k := 13) (by omega) ht y1 hk y2 (by decide) (fun Q HQ => zy_gb0 (by omega) y6 HQ) (fun Q HQ => by rw [hn]; exact zy_dhurl (by omega) hT (fun h => absurd (hMT.mp h) hCT) (fun _ => HQ)))
    rw [y9] at hY
    obtain ⟨u1, w1, g1, g2, g3⟩ := zw_end (hw := 2) (x := 3) (v := 0) (m := m) (sN := sN) (xtop := nI (st.length + 1)) (xpc := nI (pc + 1)) (xenv := xenv) (ytag := -1) (ycode := 3) (YworkPhase := upd YworkPhase fs.length (nI 1)) hST hCL hLO (by omega) (by omega) fs us st q b xenv Xplace YplaceKind YplaceValue YboundPlace (zz_YWg (Nat.le_refl _) hYW0) hXW hSK.2 hEN hPL hKR (Or.inl ⟨rfl, rfl, rfl, by decide⟩) hb (by omega) (by omega) hm
    have hX : zx_S (xdrafted, xspecial, xdefined, xhere, xdepth, xscoped, nI ne, nI nc, nI (st.length + 1), nI us.length, nI pc, xenv, nI b, nI sN, 0, 1, xgiven, xclosed, Xdraft, XdraftValues, Xop, Xarg, Xparameter, Xwaiting, Xdone, Xhole, Xscope, Xplace, Xlocals, Xstack, Xcell, Xparent, Xbodies, Xbinds, Xscopes, Xwhat, Xfirst, Xsecond, Xthird, Xkept) u1 := zx_SG (zx_toss hpc hb hs (by omega) (by omega) hXW.1 hXW.2.2.2.2 h1 h2 (fun h => absurd (hmc.mp h) hCT) (fun _ => zx_LU g1))
    exact ⟨u1, w1, hX, zy_St hY g2, g3⟩
/-! two values -/
theorem zg_Dadd (hST : zz_ST xdrafted xspecial xdefined Xdraft XdraftValues Xop Xarg Xparameter Ykinds Ynumbers Yends Ylengths Yparameters Yspecial) (hYW : zz_YW YworkToken YworkPhase YworkEnv YkeptKind YkeptValue YboundPlace YoldKind YoldValue YoldBuffer ((t, 1, xenv, kk, kv, -1, ok, ov, b, g) :: fs)) (hXW : zz_XW Xwhat Xfirst Xsecond Xthird Xkept us) (hEN : zz_EN ne nc Xparent Xcell YplaceOf YnextOf YplaceKind YplaceValue) (hCL : zz_CL Xop Xarg Ykinds Ynumbers Yends Yspecial ne YsymbolOf YnextOf nc Xbodies Xbinds Xscopes YclosureSymbol YclosureBody YclosureEnv) (hPL : zz_PL nc Xplace YplaceKind YplaceValue Ythere) (hLO : zz_LO Xlocals Ythere) (hct : b < 3 ∧ ne + (g + zz_pt fs) ≤ sN ∧ fs.length + 1 ≤ sN ∧ nc ≤ sN ∧ sN ≤ 300) (hV : zz_V nc ykind yvalue) (hpc : pc < 1280) (ht : t < 240) (he : e < 1280) (hJ : zz_J Xop Xarg j e q) (hm : (301 - sN) * 1000 + 500 + fs.length ≤ m) (hSK : zz_R Xstack (fun x => x) (zz_en ykind yvalue :: zz_en kk kv :: st)) (hEV : zz_EV ne YsymbolOf YnextOf sc xenv) (hKR : zz_KR Xop Xarg Ykinds Ynumbers Yends Yspecial ne YsymbolOf YnextOf nc fs q us st xenv b) (hVk : zz_V nc kk kv) (hk : Ykinds t = 9) (ho : Xop pc = 9) (ee : e = pc + 1) (hk0 : kk = 0) (hy0 : ykind = 0) : zz_O m (xdrafted, xspecial, xdefined, xhere, xdepth, xscoped, nI ne, nI nc, nI (st.length + 1 + 1), nI us.length, nI pc, xenv, nI b, nI sN, 0, 1, xgiven, xclosed, Xdraft, XdraftValues, Xop, Xarg, Xparameter, Xwaiting, Xdone, Xhole, Xscope, Xplace, Xlocals, Xstack, Xcell, Xparent, Xbodies, Xbinds, Xscopes, Xwhat, Xfirst, Xsecond, Xthird, Xkept) (nI ne, nI nc, nI (fs.length + 1), nI b, nI sN, 0, yat, yenv, ykind, yvalue, ycode, ytag, yresultKind, yresultValue, Ykinds, Ynumbers, Yends, Ylengths, Yparameters, Yspecial, YplaceKind, YplaceValue, Ythere, YsymbolOf, YplaceOf, YnextOf, YclosureSymbol, YclosureBody, YclosureEnv, YworkToken, YworkPhase, YworkEnv, YkeptKind, YkeptValue, YboundPlace, YoldKind, YoldValue, YoldBuffer) := by
  obtain ⟨y1, y2, y3, y4, y5, y6, y7, y8, y9⟩ := zz_YWh hYW
  have y1 : YworkToken fs.length = nI t := y1
  have y2 : YworkPhase fs.length = nI 1 := y2
  have y3 : YworkEnv fs.length = xenv := y3
  have y4 : YkeptKind fs.length = kk := y4
  have y5 : YkeptValue fs.length = kv := y5
  have y6 : YboundPlace fs.length = -1 := y6
  have y9 : YoldBuffer fs.length = nI b := y9
  have hYW0 := zz_YWt hYW
  have lu := zz_KRl _ _ _ _ _ _ hKR
  have hs1 : Xstack (st.length + 1) = zz_en ykind yvalue := hSK.1
  have hs2 : Xstack st.length = zz_en kk kv := hSK.2.1
  have hb := hct.1
  subst hk0 hy0
  have hX : zx_S (xdrafted, xspecial, xdefined, xhere, xdepth, xscoped, nI ne, nI nc, nI (st.length + 1 + 1), nI us.length, nI pc, xenv, nI b, nI sN, 0, 1, xgiven, xclosed, Xdraft, XdraftValues, Xop, Xarg, Xparameter, Xwaiting, Xdone, Xhole, Xscope, Xplace, Xlocals, Xstack, Xcell, Xparent, Xbodies, Xbinds, Xscopes, Xwhat, Xfirst, Xsecond, Xthird, Xkept) (xdrafted, xspecial, xdefined, xhere, xdepth, xscoped, nI ne, nI nc, nI (st.length + 1), nI us.length, nI (pc + 1), xenv, nI b, nI sN, 0, 1, xgiven, xclosed, Xdraft, XdraftValues, Xop, Xarg, Xparameter, Xwaiting, Xdone, Xhole, Xscope, Xplace, Xlocals, vp_updL Xstack st.length (zz_en 0 (kv + yvalue)), Xcell, Xparent, Xbodies, Xbinds, Xscopes, Xwhat, Xfirst, Xsecond, Xthird, Xkept) := zx_SG (zx_add hpc (by omega) ho hs2 hs1)
  have hY : zy_S (nI ne, nI nc, nI (fs.length + 1), nI b, nI sN, 0, yat, yenv, 0, yvalue, ycode, ytag, yresultKind, yresultValue, Ykinds, Ynumbers, Yends, Ylengths, Yparameters, Yspecial, YplaceKind, YplaceValue, Ythere, YsymbolOf, YplaceOf, YnextOf, YclosureSymbol, YclosureBody, YclosureEnv, YworkToken, YworkPhase, YworkEnv, YkeptKind, YkeptValue, YboundPlace, YoldKind, YoldValue, YoldBuffer) (nI ne, nI nc, nI fs.length, YoldBuffer fs.length, nI sN, 0, yat, yenv, 0, kv + yvalue, ycode, ytag, yresultKind, yresultValue, Ykinds, Ynumbers, Yends, Ylengths, Yparameters, Yspecial, YplaceKind, YplaceValue, Ythere, YsymbolOf, YplaceOf, YnextOf, YclosureSymbol, YclosureBody, YclosureEnv, YworkToken, upd YworkPhase fs.length (nI 2), YworkEnv, YkeptKind, YkeptValue, YboundPlace, YoldKind, YoldValue, YoldBuffer) := zy_SG (by omega) (zy_done_b (t := t) (k := 9) (by omega) ht y1 hk y2 (by decide) (fun Q HQ => zy_gb0 (by omega) y6 HQ) (fun Q HQ => zy_dadd (by omega) y4 y5 rfl HQ))
  rw [y9] at hY
  subst ee
  exact ⟨_, _, hX, hY, Or.inr (Or.inl (zz_SGi (fs := fs) (us := us) (st := st) hST (zz_YWg (Nat.le_refl _) hYW0) hXW hEN hCL hPL hLO ⟨hb, by omega, by omega, by omega, by omega⟩ (zz_RpL rfl hSK.2.2) (Or.inl rfl) hJ hKR hm))⟩
theorem zg_Dsub (hST : zz_ST xdrafted xspecial xdefined Xdraft XdraftValues Xop Xarg Xparameter Ykinds Ynumbers Yends Ylengths Yparameters Yspecial) (hYW : zz_YW YworkToken YworkPhase YworkEnv YkeptKind YkeptValue YboundPlace YoldKind YoldValue YoldBuffer ((t, 1, xenv, kk, kv, -1, ok, ov, b, g) :: fs)) (hXW : zz_XW Xwhat Xfirst Xsecond Xthird Xkept us) (hEN : zz_EN ne nc Xparent Xcell YplaceOf YnextOf YplaceKind YplaceValue) (hCL : zz_CL Xop Xarg Ykinds Ynumbers Yends Yspecial ne YsymbolOf YnextOf nc Xbodies Xbinds Xscopes YclosureSymbol YclosureBody YclosureEnv) (hPL : zz_PL nc Xplace YplaceKind YplaceValue Ythere) (hLO : zz_LO Xlocals Ythere) (hct : b < 3 ∧ ne + (g + zz_pt fs) ≤ sN ∧ fs.length + 1 ≤ sN ∧ nc ≤ sN ∧ sN ≤ 300) (hV : zz_V nc ykind yvalue) (hpc : pc < 1280) (ht : t < 240) (he : e < 1280) (hJ : zz_J Xop Xarg j e q) (hm : (301 - sN) * 1000 + 500 + fs.length ≤ m) (hSK : zz_R Xstack (fun x => x) (zz_en ykind yvalue :: zz_en kk kv :: st)) (hEV : zz_EV ne YsymbolOf YnextOf sc xenv) (hKR : zz_KR Xop Xarg Ykinds Ynumbers Yends Yspecial ne YsymbolOf YnextOf nc fs q us st xenv b) (hVk : zz_V nc kk kv) (hk : Ykinds t = 10) (ho : Xop pc = 10) (ee : e = pc + 1) (hk0 : kk = 0) (hy0 : ykind = 0) : zz_O m (xdrafted, xspecial, xdefined, xhere, xdepth, xscoped, nI ne, nI nc, nI (st.length + 1 + 1), nI us.length, nI pc, xenv, nI b, nI sN, 0, 1, xgiven, xclosed, Xdraft, XdraftValues, Xop, Xarg, Xparameter, Xwaiting, Xdone, Xhole, Xscope, Xplace, Xlocals, Xstack, Xcell, Xparent, Xbodies, Xbinds, Xscopes, Xwhat, Xfirst, Xsecond, Xthird, Xkept) (nI ne, nI nc, nI (fs.length + 1), nI b, nI sN, 0, yat, yenv, ykind, yvalue, ycode, ytag, yresultKind, yresultValue, Ykinds, Ynumbers, Yends, Ylengths, Yparameters, Yspecial, YplaceKind, YplaceValue, Ythere, YsymbolOf, YplaceOf, YnextOf, YclosureSymbol, YclosureBody, YclosureEnv, YworkToken, YworkPhase, YworkEnv, YkeptKind, YkeptValue, YboundPlace, YoldKind, YoldValue, YoldBuffer) := by
  obtain ⟨y1, y2, y3, y4, y5, y6, y7, y8, y9⟩ := zz_YWh hYW
  have y1 : YworkToken fs.length = nI t := y1
  have y2 : YworkPhase fs.length = nI 1 := y2
  have y3 : YworkEnv fs.length = xenv := y3
  have y4 : YkeptKind fs.length = kk := y4
  have y5 : YkeptValue fs.length = kv := y5
  have y6 : YboundPlace fs.length = -1 := y6
  have y9 : YoldBuffer fs.length = nI b := y9
  have hYW0 := zz_YWt hYW
  have lu := zz_KRl _ _ _ _ _ _ hKR
  have hs1 : Xstack (st.length + 1) = zz_en ykind yvalue := hSK.1
  have hs2 : Xstack st.length = zz_en kk kv := hSK.2.1
  have hb := hct.1
  subst hk0 hy0
  have hX : zx_S (xdrafted, xspecial, xdefined, xhere, xdepth, xscoped, nI ne, nI nc, nI (st.length + 1 + 1), nI us.length, nI pc, xenv, nI b, nI sN, 0, 1, xgiven, xclosed, Xdraft, XdraftValues, Xop, Xarg, Xparameter, Xwaiting, Xdone, Xhole, Xscope, Xplace, Xlocals, Xstack, Xcell, Xparent, Xbodies, Xbinds, Xscopes, Xwhat, Xfirst, Xsecond, Xthird, Xkept) (xdrafted, xspecial, xdefined, xhere, xdepth, xscoped, nI ne, nI nc, nI (st.length + 1), nI us.length, nI (pc + 1), xenv, nI b, nI sN, 0, 1, xgiven, xclosed, Xdraft, XdraftValues, Xop, Xarg, Xparameter, Xwaiting, Xdone, Xhole, Xscope, Xplace, Xlocals, vp_updL Xstack st.length (zz_en 0 (kv - yvalue)), Xcell, Xparent, Xbodies, Xbinds, Xscopes, Xwhat, Xfirst, Xsecond, Xthird, Xkept) := zx_SG (zx_sub hpc (by omega) ho hs2 hs1)
  have hY : zy_S (nI ne, nI nc, nI (fs.length + 1), nI b, nI sN, 0, yat, yenv, 0, yvalue, ycode, ytag, yresultKind, yresultValue, Ykinds, Ynumbers, Yends, Ylengths, Yparameters, Yspecial, YplaceKind, YplaceValue, Ythere, YsymbolOf, YplaceOf, YnextOf, YclosureSymbol, YclosureBody, YclosureEnv, YworkToken, YworkPhase, YworkEnv, YkeptKind, YkeptValue, YboundPlace, YoldKind, YoldValue, YoldBuffer) (nI ne, nI nc, nI fs.length, YoldBuffer fs.length, nI sN, 0, yat, yenv, 0, kv - yvalue, ycode, ytag, yresultKind, yresultValue, Ykinds, Ynumbers, Yends, Ylengths, Yparameters, Yspecial, YplaceKind, YplaceValue, Ythere, YsymbolOf, YplaceOf, YnextOf, YclosureSymbol, YclosureBody, YclosureEnv, YworkToken, upd YworkPhase fs.length (nI 2), YworkEnv, YkeptKind, YkeptValue, YboundPlace, YoldKind, YoldValue, YoldBuffer) := zy_SG (by omega) (zy_done_b (t := t) (k := 10) (by omega) ht y1 hk y2 (by decide) (fun Q HQ => zy_gb0 (by omega) y6 HQ) (fun Q HQ => zy_dsub (by omega) y4 y5 rfl HQ))
  rw [y9] at hY
  subst ee
  exact ⟨_, _, hX, hY, Or.inr (Or.inl (zz_SGi (fs := fs) (us := us) (st := st) hST (zz_YWg (Nat.le_refl _) hYW0) hXW hEN hCL hPL hLO ⟨hb, by omega, by omega, by omega, by omega⟩ (zz_RpL rfl hSK.2.2) (Or.inl rfl) hJ hKR hm))⟩
theorem zg_Dless (hST : zz_ST xdrafted xspecial xdefined Xdraft XdraftValues Xop Xarg Xparameter Ykinds Ynumbers Yends Ylengths Yparameters Yspecial) (hYW : zz_YW YworkToken YworkPhase YworkEnv YkeptKind YkeptValue YboundPlace YoldKind YoldValue YoldBuffer ((t, 1, xenv, kk, kv, -1, ok, ov, b, g) :: fs)) (hXW : zz_XW Xwhat Xfirst Xsecond Xthird Xkept us) (hEN : zz_EN ne nc Xparent Xcell YplaceOf YnextOf YplaceKind YplaceValue) (hCL : zz_CL Xop Xarg Ykinds Ynumbers Yends Yspecial ne YsymbolOf YnextOf nc Xbodies Xbinds Xscopes YclosureSymbol YclosureBody YclosureEnv) (hPL : zz_PL nc Xplace YplaceKind YplaceValue Ythere) (hLO : zz_LO Xlocals Ythere) (hct : b < 3 ∧ ne + (g + zz_pt fs) ≤ sN ∧ fs.length + 1 ≤ sN ∧ nc ≤ sN ∧ sN ≤ 300) (hV : zz_V nc ykind yvalue) (hpc : pc < 1280) (ht : t < 240) (he : e < 1280) (hJ : zz_J Xop Xarg j e q) (hm : (301 - sN) * 1000 + 500 + fs.length ≤ m) (hSK : zz_R Xstack (fun x => x) (zz_en ykind yvalue :: zz_en kk kv :: st)) (hEV : zz_EV ne YsymbolOf YnextOf sc xenv) (hKR : zz_KR Xop Xarg Ykinds Ynumbers Yends Yspecial ne YsymbolOf YnextOf nc fs q us st xenv b) (hVk : zz_V nc kk kv) (hk : Ykinds t = 11) (ho : Xop pc = 11) (ee : e = pc + 1) (hk0 : kk = 0) (hy0 : ykind = 0) : zz_O m (xdrafted, xspecial, xdefined, xhere, xdepth, xscoped, nI ne, nI nc, nI (st.length + 1 + 1), nI us.length, nI pc, xenv, nI b, nI sN, 0, 1, xgiven, xclosed, Xdraft, XdraftValues, Xop, Xarg, Xparameter, Xwaiting, Xdone, Xhole, Xscope, Xplace, Xlocals, Xstack, Xcell, Xparent, Xbodies, Xbinds, Xscopes, Xwhat, Xfirst, Xsecond, Xthird, Xkept) (nI ne, nI nc, nI (fs.length + 1), nI b, nI sN, 0, yat, yenv, ykind, yvalue, ycode, ytag, yresultKind, yresultValue, Ykinds, Ynumbers, Yends, Ylengths, Yparameters, Yspecial, YplaceKind, YplaceValue, Ythere, YsymbolOf, YplaceOf, YnextOf, YclosureSymbol, YclosureBody, YclosureEnv, YworkToken, YworkPhase, YworkEnv, YkeptKind, YkeptValue, YboundPlace, YoldKind, YoldValue, YoldBuffer) := by
  obtain ⟨y1, y2, y3, y4, y5, y6, y7, y8, y9⟩ := zz_YWh hYW
  have y1 : YworkToken fs.length = nI t := y1
  have y2 : YworkPhase fs.length = nI 1 := y2
  have y3 : YworkEnv fs.length = xenv := y3
  have y4 : YkeptKind fs.length = kk := y4
  have y5 : YkeptValue fs.length = kv := y5
  have y6 : YboundPlace fs.length = -1 := y6
  have y9 : YoldBuffer fs.length = nI b := y9
  have hYW0 := zz_YWt hYW
  have lu := zz_KRl _ _ _ _ _ _ hKR
  have hs1 : Xstack (st.length + 1) = zz_en ykind yvalue := hSK.1
  have hs2 : Xstack st.length = zz_en kk kv := hSK.2.1
  have hb := hct.1
  subst hk0 hy0
  have hX : zx_S (xdrafted, xspecial, xdefined, xhere, xdepth, xscoped, nI ne, nI nc, nI (st.length + 1 + 1), nI us.length, nI pc, xenv, nI b, nI sN, 0, 1, xgiven, xclosed, Xdraft, XdraftValues, Xop, Xarg, Xparameter, Xwaiting, Xdone, Xhole, Xscope, Xplace, Xlocals, Xstack, Xcell, Xparent, Xbodies, Xbinds, Xscopes, Xwhat, Xfirst, Xsecond, Xthird, Xkept) (xdrafted, xspecial, xdefined, xhere, xdepth, xscoped, nI ne, nI nc, nI (st.length + 1), nI us.length, nI (pc + 1), xenv, nI b, nI sN, 0, 1, xgiven, xclosed, Xdraft, XdraftValues, Xop, Xarg, Xparameter, Xwaiting, Xdone, Xhole, Xscope, Xplace, Xlocals, vp_updL Xstack st.length (zz_en 0 (if yvalue ≤ kv then 0 else 1)), Xcell, Xparent, Xbodies, Xbinds, Xscopes, Xwhat, Xfirst, Xsecond, Xthird, Xkept) := zx_SG (zx_less hpc (by omega) ho hs2 hs1)
  have hY : zy_S (nI ne, nI nc, nI (fs.length + 1), nI b, nI sN, 0, yat, yenv, 0, yvalue, ycode, ytag, yresultKind, yresultValue, Ykinds, Ynumbers, Yends, Ylengths, Yparameters, Yspecial, YplaceKind, YplaceValue, Ythere, YsymbolOf, YplaceOf, YnextOf, YclosureSymbol, YclosureBody, YclosureEnv, YworkToken, YworkPhase, YworkEnv, YkeptKind, YkeptValue, YboundPlace, YoldKind, YoldValue, YoldBuffer) (nI ne, nI nc, nI fs.length, YoldBuffer fs.length, nI sN, 0, yat, yenv, 0, if yvalue ≤ kv then 0 else 1, ycode, ytag, yresultKind, yresultValue, Ykinds, Ynumbers, Yends, Ylengths, Yparameters, Yspecial, YplaceKind, YplaceValue, Ythere, YsymbolOf, YplaceOf, YnextOf, YclosureSymbol, YclosureBody, YclosureEnv, YworkToken, upd YworkPhase fs.length (nI 2), YworkEnv, YkeptKind, YkeptValue, YboundPlace, YoldKind, YoldValue, YoldBuffer) := zy_SG (by omega) (zy_done_b (t := t) (k := 11) (by omega) ht y1 hk y2 (by decide) (fun Q HQ => zy_gb0 (by omega) y6 HQ) (fun Q HQ => zy_dless (by omega) y4 y5 rfl HQ))
  rw [y9] at hY
  subst ee
  exact ⟨_, _, hX, hY, Or.inr (Or.inl (zz_SGi (fs := fs) (us := us) (st := st) hST (zz_YWg (Nat.le_refl _) hYW0) hXW hEN hCL hPL hLO ⟨hb, by omega, by omega, by omega, by omega⟩ (zz_RpL rfl hSK.2.2) (Or.inl rfl) hJ hKR hm))⟩
theorem zg_DarE (hST : zz_ST xdrafted xspecial xdefined Xdraft XdraftValues Xop Xarg Xparameter Ykinds Ynumbers Yends Ylengths Yparameters Yspecial) (hYW : zz_YW YworkToken YworkPhase YworkEnv YkeptKind YkeptValue YboundPlace YoldKind YoldValue YoldBuffer ((t, 1, xenv, kk, kv, -1, ok, ov, b, g) :: fs)) (hXW : zz_XW Xwhat Xfirst Xsecond Xthird Xkept us) (hEN : zz_EN ne nc Xparent Xcell YplaceOf YnextOf YplaceKind YplaceValue) (hCL : zz_CL Xop Xarg Ykinds Ynumbers Yends Yspecial ne YsymbolOf YnextOf nc Xbodies Xbinds Xscopes YclosureSymbol YclosureBody YclosureEnv) (hPL : zz_PL nc Xplace YplaceKind YplaceValue Ythere) (hLO : zz_LO Xlocals Ythere) (hct : b < 3 ∧ ne + (g + zz_pt fs) ≤ sN ∧ fs.length + 1 ≤ sN ∧ nc ≤ sN ∧ sN ≤ 300) (hV : zz_V nc ykind yvalue) (hpc : pc < 1280) (ht : t < 240) (he : e < 1280) (hJ : zz_J Xop Xarg j e q) (hm : (301 - sN) * 1000 + 500 + fs.length ≤ m) (hSK : zz_R Xstack (fun x => x) (zz_en ykind yvalue :: zz_en kk kv :: st)) (hEV : zz_EV ne YsymbolOf YnextOf sc xenv) (hKR : zz_KR Xop Xarg Ykinds Ynumbers Yends Yspecial ne YsymbolOf YnextOf nc fs q us st xenv b) (hVk : zz_V nc kk kv) {k : Nat} (hkk : k = 9 ∨ k = 10 ∨ k = 11) (hk : Ykinds t = nI k) (ho : Xop pc = nI k) (ee : e = pc + 1) (hx : ¬ (kk = 0 ∧ ykind = 0)) : zz_O m (xdrafted, xspecial, xdefined, xhere, xdepth, xscoped, nI ne, nI nc, nI (st.length + 1 + 1), nI us.length, nI pc, xenv, nI b, nI sN, 0, 1, xgiven, xclosed, Xdraft, XdraftValues, Xop, Xarg, Xparameter, Xwaiting, Xdone, Xhole, Xscope, Xplace, Xlocals, Xstack, Xcell, Xparent, Xbodies, Xbinds, Xscopes, Xwhat, Xfirst, Xsecond, Xthird, Xkept) (nI ne, nI nc, nI (fs.length + 1), nI b, nI sN, 0, yat, yenv, ykind, yvalue, ycode, ytag, yresultKind, yresultValue, Ykinds, Ynumbers, Yends, Ylengths, Yparameters, Yspecial, YplaceKind, YplaceValue, Ythere, YsymbolOf, YplaceOf, YnextOf, YclosureSymbol, YclosureBody, YclosureEnv, YworkToken, YworkPhase, YworkEnv, YkeptKind, YkeptValue, YboundPlace, YoldKind, YoldValue, YoldBuffer) := by
  obtain ⟨y1, y2, y3, y4, y5, y6, y7, y8, y9⟩ := zz_YWh hYW
  have y1 : YworkToken fs.length = nI t := y1
  have y2 : YworkPhase fs.length = nI 1 := y2
  have y3 : YworkEnv fs.length = xenv := y3
  have y4 : YkeptKind fs.length = kk := y4
  have y5 : YkeptValue fs.length = kv := y5
  have y6 : YboundPlace fs.length = -1 := y6
  have y9 : YoldBuffer fs.length = nI b := y9
  have hYW0 := zz_YWt hYW
  have lu := zz_KRl _ _ _ _ _ _ hKR
  have hs1 : Xstack (st.length + 1) = zz_en ykind yvalue := hSK.1
  have hs2 : Xstack st.length = zz_en kk kv := hSK.2.1
  have hb := hct.1
  have hk3 : nI k = 9 ∨ nI k = 10 ∨ nI k = 11 := by rcases hkk with h | h | h <;> rw [h] <;> decide
  have hx2 : ¬ YkeptKind fs.length = 0 ∨ (YkeptKind fs.length = 0 ∧ ¬ ykind = 0) := by
    rw [y4]
    by_cases z : kk = 0
    · exact Or.inr ⟨z, fun w => hx ⟨z, w⟩⟩
    · exact Or.inl z
  have hf : 30000000000 ≤ Xstack st.length ∨ (¬ 30000000000 ≤ Xstack st.length ∧ ¬ Xstack (st.length + 1) < 30000000000) := by
    rw [hs1, hs2, zz_ge (by omega) (Or.inl hVk), zz_lt (by omega) (Or.inl hV)]
    by_cases z : kk = 1
    · exact Or.inl z
    · refine Or.inr ⟨z, fun w => ?_⟩
      have k0 : kk = 0 := by
        rcases hVk with h | ⟨h, _⟩
        · exact h
        · exact absurd h z
      rcases hV with h | ⟨h, _⟩
      · exact hx ⟨k0, h⟩
      · exact w h
  have hY : zy_S (nI ne, nI nc, nI (fs.length + 1), nI b, nI sN, 0, yat, yenv, ykind, yvalue, ycode, ytag, yresultKind, yresultValue, Ykinds, Ynumbers, Yends, Ylengths, Yparameters, Yspecial, YplaceKind, YplaceValue, Ythere, YsymbolOf, YplaceOf, YnextOf, YclosureSymbol, YclosureBody, YclosureEnv, YworkToken, YworkPhase, YworkEnv, YkeptKind, YkeptValue, YboundPlace, YoldKind, YoldValue, YoldBuffer) (nI ne, nI nc, nI fs.length, YoldBuffer fs.length, nI sN, 2, yat, yenv, ykind, yvalue, 2, -1, yresultKind, yresultValue, Ykinds, Ynumbers, Yends, Ylengths, Yparameters, Yspecial, YplaceKind, YplaceValue, Ythere, YsymbolOf, YplaceOf, YnextOf, YclosureSymbol, YclosureBody, YclosureEnv, YworkToken, upd YworkPhase fs.length (nI 2), YworkEnv, YkeptKind, YkeptValue, YboundPlace, YoldKind, YoldValue, YoldBuffer) := zy_SG (by omega) (zy_done_b (t := t) (k := nI k) (by omega) ht y1 hk y2 hk3 (fun Q HQ => zy_gb0 (by omega) y6 HQ) (fun Q HQ => zy_darE (by omega) hk3 hx2 HQ))
  rw [y9] at hY
  obtain ⟨u1, w1, g1, g2, g3⟩ := zw_end (hw := 2) (x := 2) (v := 0) (m := m) (sN := sN) (xtop := nI (st.length + 1 + 1)) (xpc := nI (pc + 1)) (xenv := xenv) (ytag := -1) (ycode := 2) (YworkPhase := upd YworkPhase fs.length (nI 2)) hST hCL hLO (by omega) (by omega) fs us st q b xenv Xplace YplaceKind YplaceValue YboundPlace (zz_YWg (Nat.le_refl _) hYW0) hXW hSK.2.2 hEN hPL hKR (Or.inl ⟨rfl, rfl, rfl, by decide⟩) hb (by omega) (by omega) hm
  have hX : zx_S (xdrafted, xspecial, xdefined, xhere, xdepth, xscoped, nI ne, nI nc, nI (st.length + 1 + 1), nI us.length, nI pc, xenv, nI b, nI sN, 0, 1, xgiven, xclosed, Xdraft, XdraftValues, Xop, Xarg, Xparameter, Xwaiting, Xdone, Xhole, Xscope, Xplace, Xlocals, Xstack, Xcell, Xparent, Xbodies, Xbinds, Xscopes, Xwhat, Xfirst, Xsecond, Xthird, Xkept) u1 := zx_SG (zx_reckE hpc (by omega) hkk ho hf (zx_LU g1))
  exact ⟨u1, w1, hX, zy_St hY g2, g3⟩
theorem zg_DcallE (hST : zz_ST xdrafted xspecial xdefined Xdraft XdraftValues Xop Xarg Xparameter Ykinds Ynumbers Yends Ylengths Yparameters Yspecial) (hYW : zz_YW YworkToken YworkPhase YworkEnv YkeptKind YkeptValue YboundPlace YoldKind YoldValue YoldBuffer ((t, 1, xenv, kk, kv, -1, ok, ov, b, g) :: fs)) (hXW : zz_XW Xwhat Xfirst Xsecond Xthird Xkept us) (hEN : zz_EN ne nc Xparent Xcell YplaceOf YnextOf YplaceKind YplaceValue) (hCL : zz_CL Xop Xarg Ykinds Ynumbers Yends Yspecial ne YsymbolOf YnextOf nc Xbodies Xbinds Xscopes YclosureSymbol YclosureBody YclosureEnv) (hPL : zz_PL nc Xplace YplaceKind YplaceValue Ythere) (hLO : zz_LO Xlocals Ythere) (hct : b < 3 ∧ ne + (g + zz_pt fs) ≤ sN ∧ fs.length + 1 ≤ sN ∧ nc ≤ sN ∧ sN ≤ 300) (hV : zz_V nc ykind yvalue) (hpc : pc < 1280) (ht : t < 240) (he : e < 1280) (hJ : zz_J Xop Xarg j e q) (hm : (301 - sN) * 1000 + 500 + fs.length ≤ m) (hSK : zz_R Xstack (fun x => x) (zz_en ykind yvalue :: zz_en kk kv :: st)) (hEV : zz_EV ne YsymbolOf YnextOf sc xenv) (hKR : zz_KR Xop Xarg Ykinds Ynumbers Yends Yspecial ne YsymbolOf YnextOf nc fs q us st xenv b) (hVk : zz_V nc kk kv) (hk : Ykinds t = 5) (ho : Xop pc = 5) (ee : e = pc + 1) (hx : ¬ kk = 1) : zz_O m (xdrafted, xspecial, xdefined, xhere, xdepth, xscoped, nI ne, nI nc, nI (st.length + 1 + 1), nI us.length, nI pc, xenv, nI b, nI sN, 0, 1, xgiven, xclosed, Xdraft, XdraftValues, Xop, Xarg, Xparameter, Xwaiting, Xdone, Xhole, Xscope, Xplace, Xlocals, Xstack, Xcell, Xparent, Xbodies, Xbinds, Xscopes, Xwhat, Xfirst, Xsecond, Xthird, Xkept) (nI ne, nI nc, nI (fs.length + 1), nI b, nI sN, 0, yat, yenv, ykind, yvalue, ycode, ytag, yresultKind, yresultValue, Ykinds, Ynumbers, Yends, Ylengths, Yparameters, Yspecial, YplaceKind, YplaceValue, Ythere, YsymbolOf, YplaceOf, YnextOf, YclosureSymbol, YclosureBody, YclosureEnv, YworkToken, YworkPhase, YworkEnv, YkeptKind, YkeptValue, YboundPlace, YoldKind, YoldValue, YoldBuffer) := by
  obtain ⟨y1, y2, y3, y4, y5, y6, y7, y8, y9⟩ := zz_YWh hYW
  have y1 : YworkToken fs.length = nI t := y1
  have y2 : YworkPhase fs.length = nI 1 := y2
  have y3 : YworkEnv fs.length = xenv := y3
  have y4 : YkeptKind fs.length = kk := y4
  have y5 : YkeptValue fs.length = kv := y5
  have y6 : YboundPlace fs.length = -1 := y6
  have y9 : YoldBuffer fs.length = nI b := y9
  have hYW0 := zz_YWt hYW
  have lu := zz_KRl _ _ _ _ _ _ hKR
  have hs1 : Xstack (st.length + 1) = zz_en ykind yvalue := hSK.1
  have hs2 : Xstack st.length = zz_en kk kv := hSK.2.1
  have hb := hct.1
  have hY : zy_S (nI ne, nI nc, nI (fs.length + 1), nI b, nI sN, 0, yat, yenv, ykind, yvalue, ycode, ytag, yresultKind, yresultValue, Ykinds, Ynumbers, Yends, Ylengths, Yparameters, Yspecial, YplaceKind, YplaceValue, Ythere, YsymbolOf, YplaceOf, YnextOf, YclosureSymbol, YclosureBody, YclosureEnv, YworkToken, YworkPhase, YworkEnv, YkeptKind, YkeptValue, YboundPlace, YoldKind, YoldValue, YoldBuffer) (nI ne, nI nc, nI fs.length, nI b, nI sN, 2, yat, yenv, ykind, yvalue, 2, -1, yresultKind, yresultValue, Ykinds, Ynumbers, Yends, Ylengths, Yparameters, Yspecial, YplaceKind, YplaceValue, Ythere, YsymbolOf, YplaceOf, YnextOf, YclosureSymbol, YclosureBody, YclosureEnv, YworkToken, upd YworkPhase fs.length (nI 2), YworkEnv, YkeptKind, YkeptValue, YboundPlace, YoldKind, YoldValue, YoldBuffer) := zy_SG (by omega) (zy_gcallE (by omega) ht y1 hk y2 (by rw [y4]; exact hx))
  obtain ⟨u1, w1, g1, g2, g3⟩ := zw_end (hw := 2) (x := 2) (v := 0) (m := m) (sN := sN) (xtop := nI (st.length + 1 + 1)) (xpc := nI (pc + 1)) (xenv := xenv) (ytag := -1) (ycode := 2) (YworkPhase := upd YworkPhase fs.length (nI 2)) hST hCL hLO (by omega) (by omega) fs us st q b xenv Xplace YplaceKind YplaceValue YboundPlace (zz_YWg (Nat.le_refl _) hYW0) hXW hSK.2.2 hEN hPL hKR (Or.inl ⟨rfl, rfl, rfl, by decide⟩) hb (by omega) (by omega) hm
  have hX : zx_S (xdrafted, xspecial, xdefined, xhere, xdepth, xscoped, nI ne, nI nc, nI (st.length + 1 + 1), nI us.length, nI pc, xenv, nI b, nI sN, 0, 1, xgiven, xclosed, Xdraft, XdraftValues, Xop, Xarg, Xparameter, Xwaiting, Xdone, Xhole, Xscope, Xplace, Xlocals, Xstack, Xcell, Xparent, Xbodies, Xbinds, Xscopes, Xwhat, Xfirst, Xsecond, Xthird, Xkept) u1 := zx_SG (zx_callE hpc hb (by omega) ho (by rw [hs2, zz_ge (by omega) (Or.inl hVk)]; exact hx) (zx_LU g1))
  exact ⟨u1, w1, hX, zy_St hY g2, g3⟩
end
end
section
section
variable {xdrafted xspecial xdefined xhere xdepth xscoped xcells xclosures xtop xundo xpc xenv xbuffer xtaken xoutcome xrunning xclosed : Int32} {xgiven : Int64} {Xdraft XdraftValues Xop Xarg Xparameter Xwaiting Xdone Xhole Xscope Xlocals Xparent Xbodies Xbinds Xscopes Xwhat Xfirst Xsecond Xthird : Nat → Int32} {Xplace Xstack Xcell Xkept : Nat → Int64} {yenvs yclosures ywork ybuffer ysteps ymode yat yenv ykind yvalue ycode ytag yresultKind yresultValue : Int32} {Ykinds Ynumbers Yends Ylengths Yparameters Yspecial YplaceKind YplaceValue Ythere YsymbolOf YplaceOf YnextOf YclosureSymbol YclosureBody YclosureEnv YworkToken YworkPhase YworkEnv YkeptKind YkeptValue YboundPlace YoldKind YoldValue YoldBuffer : Nat → Int32} {fs : List zz_YF} {us : List zz_XE} {st : List Int64} {b ne nc sN t e j q m pc g ph ob : Nat} {sc : List Nat} {kk kv ok ov we bp : Int32} {y : zz_XE}
/-- a body is done -/
theorem zg_F (hST : zz_ST xdrafted xspecial xdefined Xdraft XdraftValues Xop Xarg Xparameter Ykinds Ynumbers Yends Ylengths Yparameters Yspecial) (hYW : zz_YW YworkToken YworkPhase YworkEnv YkeptKind YkeptValue YboundPlace YoldKind YoldValue YoldBuffer ((t, ph, we, kk, kv, bp, ok, ov, b, g) :: fs)) (hXW : zz_XW Xwhat Xfirst Xsecond Xthird Xkept (y :: (0, nI e, we, 0, 0) :: us)) (hEN : zz_EN ne nc Xparent Xcell YplaceOf YnextOf YplaceKind YplaceValue) (hCL : zz_CL Xop Xarg Ykinds Ynumbers Yends Yspecial ne YsymbolOf YnextOf nc Xbodies Xbinds Xscopes YclosureSymbol YclosureBody YclosureEnv) (hPL : zz_PL nc Xplace YplaceKind YplaceValue Ythere) (hLO : zz_LO Xlocals Ythere) (hct : b < 3 ∧ ne + (g + zz_pt fs) ≤ sN ∧ fs.length + 1 ≤ sN ∧ nc ≤ sN ∧ sN ≤ 300) (hV : zz_V nc ykind yvalue) (hpc : pc < 1280) (ht : t < 240) (he : e < 1280) (hJ : zz_J Xop Xarg j e q) (hm : (301 - sN) * 1000 + 500 + fs.length ≤ m) (hSK : zz_R Xstack (fun x => x) (zz_en ykind yvalue :: st)) (hEV : zz_EV ne YsymbolOf YnextOf sc we) (hKR : zz_KR Xop Xarg Ykinds Ynumbers Yends Yspecial ne YsymbolOf YnextOf nc fs q us st we b) (hk : (Ykinds t = 5 ∧ ph = 2) ∨ (Ykinds t = 6 ∧ ph = 1)) (ho : Xop pc = 24) (hBN : zz_BN nc bp ok ov y) : zz_O m (xdrafted, xspecial, xdefined, xhere, xdepth, xscoped, nI ne, nI nc, nI (st.length + 1), nI (us.length + 1 + 1), nI pc, xenv, nI b, nI sN, 0, 1, xgiven, xclosed, Xdraft, XdraftValues, Xop, Xarg, Xparameter, Xwaiting, Xdone, Xhole, Xscope, Xplace, Xlocals, Xstack, Xcell, Xparent, Xbodies, Xbinds, Xscopes, Xwhat, Xfirst, Xsecond, Xthird, Xkept) (nI ne, nI nc, nI (fs.length + 1), nI b, nI sN, 0, yat, yenv, ykind, yvalue, ycode, ytag, yresultKind, yresultValue, Ykinds, Ynumbers, Yends, Ylengths, Yparameters, Yspecial, YplaceKind, YplaceValue, Ythere, YsymbolOf, YplaceOf, YnextOf, YclosureSymbol, YclosureBody, YclosureEnv, YworkToken, YworkPhase, YworkEnv, YkeptKind, YkeptValue, YboundPlace, YoldKind, YoldValue, YoldBuffer) := by
  obtain ⟨y1, y2, y3, y4, y5, y6, y7, y8, y9⟩ := zz_YWh hYW
  have y1 : YworkToken fs.length = nI t := y1
  have y2 : YworkPhase fs.length = nI ph := y2
  have y3 : YworkEnv fs.length = we := y3
  have y4 : YkeptKind fs.length = kk := y4
  have y5 : YkeptValue fs.length = kv := y5
  have y6 : YboundPlace fs.length = bp := y6
  have y7 : YoldKind fs.length = ok := y7
  have y8 : YoldValue fs.length = ov := y8
  have y9 : YoldBuffer fs.length = nI b := y9
  have hYW0 := zz_YWt hYW
  have lu := zz_KRl _ _ _ _ _ _ hKR
  have hsk : Xstack st.length = zz_en ykind yvalue := hSK.1
  have hb := hct.1
  have hc : ((ph = 1 ∧ (Ykinds t = 3 ∨ Ykinds t = 6 ∨ Ykinds t = 15)) ∨ (ph = 2 ∧ (Ykinds t = 5 ∨ Ykinds t = 15))) := by
    rcases hk with ⟨h1, h2⟩ | ⟨h1, h2⟩
    · exact Or.inr ⟨h2, Or.inl h1⟩
    · exact Or.inl ⟨h2, Or.inr (Or.inl h1)⟩
  have hd : Ykinds t = 3 ∨ Ykinds t = 5 ∨ Ykinds t = 6 ∨ Ykinds t = 12 ∨ Ykinds t = 14 ∨ Ykinds t = 16 := by
    rcases hk with ⟨h1, h2⟩ | ⟨h1, h2⟩
    · exact Or.inr (Or.inl h1)
    · exact Or.inr (Or.inr (Or.inl h1))
  obtain ⟨x1, x2, _, _, x5⟩ := zz_XWh hXW
  have x1 : Xwhat (us.length + 1) = y.1 := x1
  have x2 : Xfirst (us.length + 1) = y.2.1 := x2
  have x5 : Xkept (us.length + 1) = y.2.2.2.2 := x5
  have hXW1 := zz_XWt hXW
  obtain ⟨_, z2, z3, _⟩ := zz_XWh hXW1
  have z2 : Xfirst us.length = nI e := z2
  have z3 : Xsecond us.length = we := z3
  rcases hBN with ⟨b1, p, hp, hbp, hf, hkp, hW⟩ | ⟨b1, hbp⟩
  · have hX : zx_S (xdrafted, xspecial, xdefined, xhere, xdepth, xscoped, nI ne, nI nc, nI (st.length + 1), nI (us.length + 1 + 1), nI pc, xenv, nI b, nI sN, 0, 1, xgiven, xclosed, Xdraft, XdraftValues, Xop, Xarg, Xparameter, Xwaiting, Xdone, Xhole, Xscope, Xplace, Xlocals, Xstack, Xcell, Xparent, Xbodies, Xbinds, Xscopes, Xwhat, Xfirst, Xsecond, Xthird, Xkept) (xdrafted, xspecial, xdefined, xhere, xdepth, xscoped, nI ne, nI nc, nI (st.length + 1), nI us.length, Xfirst us.length, Xsecond us.length, nI b, nI sN, 0, 1, xgiven, xclosed, Xdraft, XdraftValues, Xop, Xarg, Xparameter, Xwaiting, Xdone, Xhole, Xscope, vp_updL Xplace p (Xkept (us.length + 1)), Xlocals, Xstack, Xcell, Xparent, Xbodies, Xbinds, Xscopes, Xwhat, Xfirst, Xsecond, Xthird, Xkept) := zx_SG (zx_retK (n := us.length) (q := p) hpc (by omega) hp ho (x1.trans b1) (x2.trans hf))
    have hY : zy_S (nI ne, nI nc, nI (fs.length + 1), nI b, nI sN, 0, yat, yenv, ykind, yvalue, ycode, ytag, yresultKind, yresultValue, Ykinds, Ynumbers, Yends, Ylengths, Yparameters, Yspecial, YplaceKind, YplaceValue, Ythere, YsymbolOf, YplaceOf, YnextOf, YclosureSymbol, YclosureBody, YclosureEnv, YworkToken, YworkPhase, YworkEnv, YkeptKind, YkeptValue, YboundPlace, YoldKind, YoldValue, YoldBuffer) (nI ne, nI nc, nI fs.length, YoldBuffer fs.length, nI sN, 0, yat, yenv, ykind, yvalue, ycode, ytag, yresultKind, yresultValue, Ykinds, Ynumbers, Yends, Ylengths, Yparameters, Yspecial, upd YplaceKind p (YoldKind fs.length), upd YplaceValue p (YoldValue fs.length), Ythere, YsymbolOf, YplaceOf, YnextOf, YclosureSymbol, YclosureBody, YclosureEnv, YworkToken, upd YworkPhase fs.length (nI (ph + 1)), YworkEnv, YkeptKind, YkeptValue, upd YboundPlace fs.length (-1), YoldKind, YoldValue, YoldBuffer) := zy_SG (by omega) (zy_done_c (t := t) (ph := ph) (k := Ykinds t) (by omega) ht y1 rfl y2 hc (fun Q HQ => zy_gbK (q := p) (by omega) (by omega) (y6.trans hbp) HQ) (fun Q HQ => zy_d0 hd HQ))
    rw [z2, z3, x5] at hX
    rw [y9, y7, y8] at hY
    exact ⟨_, _, hX, hY, Or.inr (Or.inl (zz_SGi (fs := fs) (us := us) (st := st) hST (zz_YWd (Nat.le_refl _) (zz_YWg (Nat.le_refl _) hYW0)) (zz_XWt hXW1) (zz_ENl hp hEN) hCL (zz_PLu hkp hW hPL) hLO ⟨hb, by omega, by omega, by omega, by omega⟩ hSK hV hJ hKR hm))⟩
  · have hX : zx_S (xdrafted, xspecial, xdefined, xhere, xdepth, xscoped, nI ne, nI nc, nI (st.length + 1), nI (us.length + 1 + 1), nI pc, xenv, nI b, nI sN, 0, 1, xgiven, xclosed, Xdraft, XdraftValues, Xop, Xarg, Xparameter, Xwaiting, Xdone, Xhole, Xscope, Xplace, Xlocals, Xstack, Xcell, Xparent, Xbodies, Xbinds, Xscopes, Xwhat, Xfirst, Xsecond, Xthird, Xkept) (xdrafted, xspecial, xdefined, xhere, xdepth, xscoped, nI ne, nI nc, nI (st.length + 1), nI us.length, Xfirst us.length, Xsecond us.length, nI b, nI sN, 0, 1, xgiven, xclosed, Xdraft, XdraftValues, Xop, Xarg, Xparameter, Xwaiting, Xdone, Xhole, Xscope, Xplace, Xlocals, Xstack, Xcell, Xparent, Xbodies, Xbinds, Xscopes, Xwhat, Xfirst, Xsecond, Xthird, Xkept) := zx_SG (zx_retL (n := us.length) hpc (by omega) ho (by rw [x1, b1]; decide))
    have hY : zy_S (nI ne, nI nc, nI (fs.length + 1), nI b, nI sN, 0, yat, yenv, ykind, yvalue, ycode, ytag, yresultKind, yresultValue, Ykinds, Ynumbers, Yends, Ylengths, Yparameters, Yspecial, YplaceKind, YplaceValue, Ythere, YsymbolOf, YplaceOf, YnextOf, YclosureSymbol, YclosureBody, YclosureEnv, YworkToken, YworkPhase, YworkEnv, YkeptKind, YkeptValue, YboundPlace, YoldKind, YoldValue, YoldBuffer) (nI ne, nI nc, nI fs.length, YoldBuffer fs.length, nI sN, 0, yat, yenv, ykind, yvalue, ycode, ytag, yresultKind, yresultValue, Ykinds, Ynumbers, Yends, Ylengths, Yparameters, Yspecial, YplaceKind, YplaceValue, Ythere, YsymbolOf, YplaceOf, YnextOf, YclosureSymbol, YclosureBody, YclosureEnv, YworkToken, upd YworkPhase fs.length (nI (ph + 1)), YworkEnv, YkeptKind, YkeptValue, YboundPlace, YoldKind, YoldValue, YoldBuffer) := zy_SG (by omega) (zy_done_c (t := t) (ph := ph) (k := Ykinds t) (by omega) ht y1 rfl y2 hc (fun Q HQ => zy_gb0 (by omega) (y6.trans hbp) HQ) (fun Q HQ => zy_d0 hd HQ))
    rw [z2, z3] at hX
    rw [y9] at hY
    exact ⟨_, _, hX, hY, Or.inr (Or.inl (zz_SGi (fs := fs) (us := us) (st := st) hST (zz_YWg (Nat.le_refl _) hYW0) (zz_XWt hXW1) hEN hCL hPL hLO ⟨hb, by omega, by omega, by omega, by omega⟩ hSK hV hJ hKR hm))⟩
/-- LET is done -/
theorem zg_H (hST : zz_ST xdrafted xspecial xdefined Xdraft XdraftValues Xop Xarg Xparameter Ykinds Ynumbers Yends Ylengths Yparameters Yspecial) (hYW : zz_YW YworkToken YworkPhase YworkEnv YkeptKind YkeptValue YboundPlace YoldKind YoldValue YoldBuffer ((t, 1, we, kk, kv, bp, ok, ov, b, g) :: fs)) (hXW : zz_XW Xwhat Xfirst Xsecond Xthird Xkept (y :: us)) (hEN : zz_EN ne nc Xparent Xcell YplaceOf YnextOf YplaceKind YplaceValue) (hCL : zz_CL Xop Xarg Ykinds Ynumbers Yends Yspecial ne YsymbolOf YnextOf nc Xbodies Xbinds Xscopes YclosureSymbol YclosureBody YclosureEnv) (hPL : zz_PL nc Xplace YplaceKind YplaceValue Ythere) (hLO : zz_LO Xlocals Ythere) (hct : b < 3 ∧ ne + (g + zz_pt fs) ≤ sN ∧ fs.length + 1 ≤ sN ∧ nc ≤ sN ∧ sN ≤ 300) (hV : zz_V nc ykind yvalue) (hpc : pc < 1280) (ht : t < 240) (he : e < 1280) (hJ : zz_J Xop Xarg j e q) (hm : (301 - sN) * 1000 + 500 + fs.length ≤ m) (hSK : zz_R Xstack (fun x => x) (zz_en ykind yvalue :: st)) (hEV : zz_EV ne YsymbolOf YnextOf sc we) (hKR : zz_KR Xop Xarg Ykinds Ynumbers Yends Yspecial ne YsymbolOf YnextOf nc fs q us st we b) (hk : Ykinds t = 3) (ho : Xop pc = 22) (ee : e = pc + 1) (hBN : zz_BN nc bp ok ov y) (hy : (y.1 = 1 ∧ xenv = we) ∨ (y.1 = 2 ∧ y.2.1 = we)) : zz_O m (xdrafted, xspecial, xdefined, xhere, xdepth, xscoped, nI ne, nI nc, nI (st.length + 1), nI (us.length + 1), nI pc, xenv, nI b, nI sN, 0, 1, xgiven, xclosed, Xdraft, XdraftValues, Xop, Xarg, Xparameter, Xwaiting, Xdone, Xhole, Xscope, Xplace, Xlocals, Xstack, Xcell, Xparent, Xbodies, Xbinds, Xscopes, Xwhat, Xfirst, Xsecond, Xthird, Xkept) (nI ne, nI nc, nI (fs.length + 1), nI b, nI sN, 0, yat, yenv, ykind, yvalue, ycode, ytag, yresultKind, yresultValue, Ykinds, Ynumbers, Yends, Ylengths, Yparameters, Yspecial, YplaceKind, YplaceValue, Ythere, YsymbolOf, YplaceOf, YnextOf, YclosureSymbol, YclosureBody, YclosureEnv, YworkToken, YworkPhase, YworkEnv, YkeptKind, YkeptValue, YboundPlace, YoldKind, YoldValue, YoldBuffer) := by
  obtain ⟨y1, y2, y3, y4, y5, y6, y7, y8, y9⟩ := zz_YWh hYW
  have y1 : YworkToken fs.length = nI t := y1
  have y2 : YworkPhase fs.length = nI 1 := y2
  have y3 : YworkEnv fs.length = we := y3
  have y4 : YkeptKind fs.length = kk := y4
  have y5 : YkeptValue fs.length = kv := y5
  have y6 : YboundPlace fs.length = bp := y6
  have y7 : YoldKind fs.length = ok := y7
  have y8 : YoldValue fs.length = ov := y8
  have y9 : YoldBuffer fs.length = nI b := y9
  have hYW0 := zz_YWt hYW
  have lu := zz_KRl _ _ _ _ _ _ hKR
  have hsk : Xstack st.length = zz_en ykind yvalue := hSK.1
  have hb := hct.1
  obtain ⟨x1, x2, _, _, x5⟩ := zz_XWh hXW
  subst ee
  rcases hBN with ⟨b1, p, hp, hbp, hf, hkp, hW⟩ | ⟨b1, hbp⟩
  · have hxe : xenv = we := by
      rcases hy with h | h
      · exact h.2
      · exact absurd (b1.symm.trans h.1) (by decide)
    subst hxe
    have hX : zx_S (xdrafted, xspecial, xdefined, xhere, xdepth, xscoped, nI ne, nI nc, nI (st.length + 1), nI (us.length + 1), nI pc, xenv, nI b, nI sN, 0, 1, xgiven, xclosed, Xdraft, XdraftValues, Xop, Xarg, Xparameter, Xwaiting, Xdone, Xhole, Xscope, Xplace, Xlocals, Xstack, Xcell, Xparent, Xbodies, Xbinds, Xscopes, Xwhat, Xfirst, Xsecond, Xthird, Xkept) (xdrafted, xspecial, xdefined, xhere, xdepth, xscoped, nI ne, nI nc, nI (st.length + 1), nI us.length, nI (pc + 1), xenv, nI b, nI sN, 0, 1, xgiven, xclosed, Xdraft, XdraftValues, Xop, Xarg, Xparameter, Xwaiting, Xdone, Xhole, Xscope, vp_updL Xplace p (Xkept us.length), Xlocals, Xstack, Xcell, Xparent, Xbodies, Xbinds, Xscopes, Xwhat, Xfirst, Xsecond, Xthird, Xkept) := zx_SG (zx_free22K (q := p) hpc (by omega) hp ho (x1.trans b1) (x2.trans hf))
    have hY : zy_S (nI ne, nI nc, nI (fs.length + 1), nI b, nI sN, 0, yat, yenv, ykind, yvalue, ycode, ytag, yresultKind, yresultValue, Ykinds, Ynumbers, Yends, Ylengths, Yparameters, Yspecial, YplaceKind, YplaceValue, Ythere, YsymbolOf, YplaceOf, YnextOf, YclosureSymbol, YclosureBody, YclosureEnv, YworkToken, YworkPhase, YworkEnv, YkeptKind, YkeptValue, YboundPlace, YoldKind, YoldValue, YoldBuffer) (nI ne, nI nc, nI fs.length, YoldBuffer fs.length, nI sN, 0, yat, yenv, ykind, yvalue, ycode, ytag, yresultKind, yresultValue, Ykinds, Ynumbers, Yends, Ylengths, Yparameters, Yspecial, upd YplaceKind p (YoldKind fs.length), upd YplaceValue p (YoldValue fs.length), Ythere, YsymbolOf, YplaceOf, YnextOf, YclosureSymbol, YclosureBody, YclosureEnv, YworkToken, upd YworkPhase fs.length (nI 2), YworkEnv, YkeptKind, YkeptValue, upd YboundPlace fs.length (-1), YoldKind, YoldValue, YoldBuffer) := zy_SG (by omega) (zy_done_c (t := t) (ph := 1) (k := 3) (by omega) ht y1 hk y2 (by decide) (fun Q HQ => zy_gbK (q := p) (by omega) (by omega) (y6.trans hbp) HQ) (fun Q HQ => zy_d0 (by decide) HQ))
    rw [x5] at hX
    rw [y9, y7, y8] at hY
    exact ⟨_, _, hX, hY, Or.inr (Or.inl (zz_SGi (fs := fs) (us := us) (st := st) hST (zz_YWd (Nat.le_refl _) (zz_YWg (Nat.le_refl _) hYW0)) (zz_XWt hXW) (zz_ENl hp hEN) hCL (zz_PLu hkp hW hPL) hLO ⟨hb, by omega, by omega, by omega, by omega⟩ hSK hV hJ hKR hm))⟩
  · have hfe : y.2.1 = we := by
      rcases hy with h | h
      · exact absurd (b1.symm.trans h.1) (by decide)
      · exact h.2
    have hX : zx_S (xdrafted, xspecial, xdefined, xhere, xdepth, xscoped, nI ne, nI nc, nI (st.length + 1), nI (us.length + 1), nI pc, xenv, nI b, nI sN, 0, 1, xgiven, xclosed, Xdraft, XdraftValues, Xop, Xarg, Xparameter, Xwaiting, Xdone, Xhole, Xscope, Xplace, Xlocals, Xstack, Xcell, Xparent, Xbodies, Xbinds, Xscopes, Xwhat, Xfirst, Xsecond, Xthird, Xkept) (xdrafted, xspecial, xdefined, xhere, xdepth, xscoped, nI ne, nI nc, nI (st.length + 1), nI us.length, nI (pc + 1), Xfirst us.length, nI b, nI sN, 0, 1, xgiven, xclosed, Xdraft, XdraftValues, Xop, Xarg, Xparameter, Xwaiting, Xdone, Xhole, Xscope, Xplace, Xlocals, Xstack, Xcell, Xparent, Xbodies, Xbinds, Xscopes, Xwhat, Xfirst, Xsecond, Xthird, Xkept) := zx_SG (zx_free22L hpc (by omega) ho (by rw [x1, b1]; decide))
    have hY : zy_S (nI ne, nI nc, nI (fs.length + 1), nI b, nI sN, 0, yat, yenv, ykind, yvalue, ycode, ytag, yresultKind, yresultValue, Ykinds, Ynumbers, Yends, Ylengths, Yparameters, Yspecial, YplaceKind, YplaceValue, Ythere, YsymbolOf, YplaceOf, YnextOf, YclosureSymbol, YclosureBody, YclosureEnv, YworkToken, YworkPhase, YworkEnv, YkeptKind, YkeptValue, YboundPlace, YoldKind, YoldValue, YoldBuffer) (nI ne, nI nc, nI fs.length, YoldBuffer fs.length, nI sN, 0, yat, yenv, ykind, yvalue, ycode, ytag, yresultKind, yresultValue, Ykinds, Ynumbers, Yends, Ylengths, Yparameters, Yspecial, YplaceKind, YplaceValue, Ythere, YsymbolOf, YplaceOf, YnextOf, YclosureSymbol, YclosureBody, YclosureEnv, YworkToken, upd YworkPhase fs.length (nI 2), YworkEnv, YkeptKind, YkeptValue, YboundPlace, YoldKind, YoldValue, YoldBuffer) := zy_SG (by omega) (zy_done_c (t := t) (ph := 1) (k := 3) (by omega) ht y1 hk y2 (by decide) (fun Q HQ => zy_gb0 (by omega) (y6.trans hbp) HQ) (fun Q HQ => zy_d0 (by decide) HQ))
    rw [x2, hfe] at hX
    rw [y9] at hY
    exact ⟨_, _, hX, hY, Or.inr (Or.inl (zz_SGi (fs := fs) (us := us) (st := st) hST (zz_YWg (Nat.le_refl _) hYW0) (zz_XWt hXW) hEN hCL hPL hLO ⟨hb, by omega, by omega, by omega, by omega⟩ hSK hV hJ hKR hm))⟩
theorem zg_L (hST : zz_ST xdrafted xspecial xdefined Xdraft XdraftValues Xop Xarg Xparameter Ykinds Ynumbers Yends Ylengths Yparameters Yspecial) (hYW : zz_YW YworkToken YworkPhase YworkEnv YkeptKind YkeptValue YboundPlace YoldKind YoldValue YoldBuffer ((t, 0, xenv, kk, kv, -1, ok, ov, b, g) :: fs)) (hXW : zz_XW Xwhat Xfirst Xsecond Xthird Xkept (y :: us)) (hEN : zz_EN ne nc Xparent Xcell YplaceOf YnextOf YplaceKind YplaceValue) (hCL : zz_CL Xop Xarg Ykinds Ynumbers Yends Yspecial ne YsymbolOf YnextOf nc Xbodies Xbinds Xscopes YclosureSymbol YclosureBody YclosureEnv) (hPL : zz_PL nc Xplace YplaceKind YplaceValue Ythere) (hLO : zz_LO Xlocals Ythere) (hct : b < 3 ∧ ne + (g + zz_pt fs) ≤ sN ∧ fs.length + 1 ≤ sN ∧ nc ≤ sN ∧ sN ≤ 300) (hV : zz_V nc ykind yvalue) (hpc : pc < 1280) (ht : t < 240) (he : e < 1280) (hJ : zz_J Xop Xarg j e q) (hm : (301 - sN) * 1000 + 500 + fs.length ≤ m) (hSK : zz_R Xstack (fun x => x) (zz_en ykind yvalue :: st)) (hEV : zz_EV ne YsymbolOf YnextOf sc xenv) (hKR : zz_KR Xop Xarg Ykinds Ynumbers Yends Yspecial ne YsymbolOf YnextOf nc fs q us st xenv b) (hk : Ykinds t = 12) (ho : Xop pc = 26) (ee : e = pc + 1) : zz_O m (xdrafted, xspecial, xdefined, xhere, xdepth, xscoped, nI ne, nI nc, nI (st.length + 1), nI (us.length + 1), nI pc, xenv, nI b, nI sN, 0, 1, xgiven, xclosed, Xdraft, XdraftValues, Xop, Xarg, Xparameter, Xwaiting, Xdone, Xhole, Xscope, Xplace, Xlocals, Xstack, Xcell, Xparent, Xbodies, Xbinds, Xscopes, Xwhat, Xfirst, Xsecond, Xthird, Xkept) (nI ne, nI nc, nI (fs.length + 1), nI b, nI sN, 0, yat, yenv, ykind, yvalue, ycode, ytag, yresultKind, yresultValue, Ykinds, Ynumbers, Yends, Ylengths, Yparameters, Yspecial, YplaceKind, YplaceValue, Ythere, YsymbolOf, YplaceOf, YnextOf, YclosureSymbol, YclosureBody, YclosureEnv, YworkToken, YworkPhase, YworkEnv, YkeptKind, YkeptValue, YboundPlace, YoldKind, YoldValue, YoldBuffer) := by
  obtain ⟨y1, y2, y3, y4, y5, y6, y7, y8, y9⟩ := zz_YWh hYW
  have y1 : YworkToken fs.length = nI t := y1
  have y2 : YworkPhase fs.length = nI 0 := y2
  have y3 : YworkEnv fs.length = xenv := y3
  have y4 : YkeptKind fs.length = kk := y4
  have y5 : YkeptValue fs.length = kv := y5
  have y6 : YboundPlace fs.length = -1 := y6
  have y7 : YoldKind fs.length = ok := y7
  have y8 : YoldValue fs.length = ov := y8
  have y9 : YoldBuffer fs.length = nI b := y9
  have hYW0 := zz_YWt hYW
  have lu := zz_KRl _ _ _ _ _ _ hKR
  have hsk : Xstack st.length = zz_en ykind yvalue := hSK.1
  have hb := hct.1
  subst ee
  have hX : zx_S (xdrafted, xspecial, xdefined, xhere, xdepth, xscoped, nI ne, nI nc, nI (st.length + 1), nI (us.length + 1), nI pc, xenv, nI b, nI sN, 0, 1, xgiven, xclosed, Xdraft, XdraftValues, Xop, Xarg, Xparameter, Xwaiting, Xdone, Xhole, Xscope, Xplace, Xlocals, Xstack, Xcell, Xparent, Xbodies, Xbinds, Xscopes, Xwhat, Xfirst, Xsecond, Xthird, Xkept) (xdrafted, xspecial, xdefined, xhere, xdepth, xscoped, nI ne, nI nc, nI (st.length + 1), nI us.length, nI (pc + 1), xenv, nI b, nI sN, 0, 1, xgiven, xclosed, Xdraft, XdraftValues, Xop, Xarg, Xparameter, Xwaiting, Xdone, Xhole, Xscope, Xplace, Xlocals, Xstack, Xcell, Xparent, Xbodies, Xbinds, Xscopes, Xwhat, Xfirst, Xsecond, Xthird, Xkept) := zx_SG (zx_leave hpc ho)
  have hY : zy_S (nI ne, nI nc, nI (fs.length + 1), nI b, nI sN, 0, yat, yenv, ykind, yvalue, ycode, ytag, yresultKind, yresultValue, Ykinds, Ynumbers, Yends, Ylengths, Yparameters, Yspecial, YplaceKind, YplaceValue, Ythere, YsymbolOf, YplaceOf, YnextOf, YclosureSymbol, YclosureBody, YclosureEnv, YworkToken, YworkPhase, YworkEnv, YkeptKind, YkeptValue, YboundPlace, YoldKind, YoldValue, YoldBuffer) (nI ne, nI nc, nI fs.length, YoldBuffer fs.length, nI sN, 0, yat, yenv, ykind, yvalue, ycode, ytag, yresultKind, yresultValue, Ykinds, Ynumbers, Yends, Ylengths, Yparameters, Yspecial, YplaceKind, YplaceValue, Ythere, YsymbolOf, YplaceOf, YnextOf, YclosureSymbol, YclosureBody, YclosureEnv, YworkToken, upd YworkPhase fs.length (nI 1), YworkEnv, YkeptKind, YkeptValue, YboundPlace, YoldKind, YoldValue, YoldBuffer) := zy_SG (by omega) (zy_done_a (t := t) (k := 12) (by omega) ht y1 hk y2 (by decide) (fun Q HQ => zy_gb0 (by omega) y6 HQ) (fun Q HQ => zy_d0 (by decide) HQ))
  rw [y9] at hY
  exact ⟨_, _, hX, hY, Or.inr (Or.inl (zz_SGi (fs := fs) (us := us) (st := st) hST (zz_YWg (Nat.le_refl _) hYW0) (zz_XWt hXW) hEN hCL hPL hLO ⟨hb, by omega, by omega, by omega, by omega⟩ hSK hV hJ hKR hm))⟩
theorem zg_M (hST : zz_ST xdrafted xspecial xdefined Xdraft XdraftValues Xop Xarg Xparameter Ykinds Ynumbers Yends Ylengths Yparameters Yspecial) (hYW : zz_YW YworkToken YworkPhase YworkEnv YkeptKind YkeptValue YboundPlace YoldKind YoldValue YoldBuffer ((t, 0, xenv, kk, kv, -1, ok, ov, b, g) :: fs)) (hXW : zz_XW Xwhat Xfirst Xsecond Xthird Xkept (y :: us)) (hEN : zz_EN ne nc Xparent Xcell YplaceOf YnextOf YplaceKind YplaceValue) (hCL : zz_CL Xop Xarg Ykinds Ynumbers Yends Yspecial ne YsymbolOf YnextOf nc Xbodies Xbinds Xscopes YclosureSymbol YclosureBody YclosureEnv) (hPL : zz_PL nc Xplace YplaceKind YplaceValue Ythere) (hLO : zz_LO Xlocals Ythere) (hct : b < 3 ∧ ne + (g + zz_pt fs) ≤ sN ∧ fs.length + 1 ≤ sN ∧ nc ≤ sN ∧ sN ≤ 300) (hV : zz_V nc ykind yvalue) (hpc : pc < 1280) (ht : t < 240) (he : e < 1280) (hJ : zz_J Xop Xarg j e q) (hm : (301 - sN) * 1000 + 500 + fs.length ≤ m) (hSK : zz_R Xstack (fun x => x) (zz_en ykind yvalue :: st)) (hEV : zz_EV ne YsymbolOf YnextOf sc xenv) (hKR : zz_KR Xop Xarg Ykinds Ynumbers Yends Yspecial ne YsymbolOf YnextOf nc fs q us st xenv b) (hk : Ykinds t = 14) (ho : Xop pc = 26) (h23 : Xop (pc + 1) = 23) (h24 : Xarg (pc + 1) = nI (e * 65536)) (hp1 : pc + 1 < 1280) : zz_O m (xdrafted, xspecial, xdefined, xhere, xdepth, xscoped, nI ne, nI nc, nI (st.length + 1), nI (us.length + 1), nI pc, xenv, nI b, nI sN, 0, 1, xgiven, xclosed, Xdraft, XdraftValues, Xop, Xarg, Xparameter, Xwaiting, Xdone, Xhole, Xscope, Xplace, Xlocals, Xstack, Xcell, Xparent, Xbodies, Xbinds, Xscopes, Xwhat, Xfirst, Xsecond, Xthird, Xkept) (nI ne, nI nc, nI (fs.length + 1), nI b, nI sN, 0, yat, yenv, ykind, yvalue, ycode, ytag, yresultKind, yresultValue, Ykinds, Ynumbers, Yends, Ylengths, Yparameters, Yspecial, YplaceKind, YplaceValue, Ythere, YsymbolOf, YplaceOf, YnextOf, YclosureSymbol, YclosureBody, YclosureEnv, YworkToken, YworkPhase, YworkEnv, YkeptKind, YkeptValue, YboundPlace, YoldKind, YoldValue, YoldBuffer) := by
  obtain ⟨y1, y2, y3, y4, y5, y6, y7, y8, y9⟩ := zz_YWh hYW
  have y1 : YworkToken fs.length = nI t := y1
  have y2 : YworkPhase fs.length = nI 0 := y2
  have y3 : YworkEnv fs.length = xenv := y3
  have y4 : YkeptKind fs.length = kk := y4
  have y5 : YkeptValue fs.length = kv := y5
  have y6 : YboundPlace fs.length = -1 := y6
  have y7 : YoldKind fs.length = ok := y7
  have y8 : YoldValue fs.length = ov := y8
  have y9 : YoldBuffer fs.length = nI b := y9
  have hYW0 := zz_YWt hYW
  have lu := zz_KRl _ _ _ _ _ _ hKR
  have hsk : Xstack st.length = zz_en ykind yvalue := hSK.1
  have hb := hct.1
  have hX : zx_S (xdrafted, xspecial, xdefined, xhere, xdepth, xscoped, nI ne, nI nc, nI (st.length + 1), nI (us.length + 1), nI pc, xenv, nI b, nI sN, 0, 1, xgiven, xclosed, Xdraft, XdraftValues, Xop, Xarg, Xparameter, Xwaiting, Xdone, Xhole, Xscope, Xplace, Xlocals, Xstack, Xcell, Xparent, Xbodies, Xbinds, Xscopes, Xwhat, Xfirst, Xsecond, Xthird, Xkept) (xdrafted, xspecial, xdefined, xhere, xdepth, xscoped, nI ne, nI nc, nI (st.length + 1), nI us.length, nI (pc + 1), xenv, nI b, nI sN, 0, 1, xgiven, xclosed, Xdraft, XdraftValues, Xop, Xarg, Xparameter, Xwaiting, Xdone, Xhole, Xscope, Xplace, Xlocals, Xstack, Xcell, Xparent, Xbodies, Xbinds, Xscopes, Xwhat, Xfirst, Xsecond, Xthird, Xkept) := zx_SG (zx_leave hpc ho)
  have hX2 : zx_S (xdrafted, xspecial, xdefined, xhere, xdepth, xscoped, nI ne, nI nc, nI (st.length + 1), nI us.length, nI (pc + 1), xenv, nI b, nI sN, 0, 1, xgiven, xclosed, Xdraft, XdraftValues, Xop, Xarg, Xparameter, Xwaiting, Xdone, Xhole, Xscope, Xplace, Xlocals, Xstack, Xcell, Xparent, Xbodies, Xbinds, Xscopes, Xwhat, Xfirst, Xsecond, Xthird, Xkept) (xdrafted, xspecial, xdefined, xhere, xdepth, xscoped, nI ne, nI nc, nI (st.length + 1), nI us.length, nI e, xenv, nI b, nI sN, 0, 1, xgiven, xclosed, Xdraft, XdraftValues, Xop, Xarg, Xparameter, Xwaiting, Xdone, Xhole, Xscope, Xplace, Xlocals, Xstack, Xcell, Xparent, Xbodies, Xbinds, Xscopes, Xwhat, Xfirst, Xsecond, Xthird, Xkept) := zx_SG (zx_jump hp1 he h23 h24)
  have hY : zy_S (nI ne, nI nc, nI (fs.length + 1), nI b, nI sN, 0, yat, yenv, ykind, yvalue, ycode, ytag, yresultKind, yresultValue, Ykinds, Ynumbers, Yends, Ylengths, Yparameters, Yspecial, YplaceKind, YplaceValue, Ythere, YsymbolOf, YplaceOf, YnextOf, YclosureSymbol, YclosureBody, YclosureEnv, YworkToken, YworkPhase, YworkEnv, YkeptKind, YkeptValue, YboundPlace, YoldKind, YoldValue, YoldBuffer) (nI ne, nI nc, nI fs.length, YoldBuffer fs.length, nI sN, 0, yat, yenv, ykind, yvalue, ycode, ytag, yresultKind, yresultValue, Ykinds, Ynumbers, Yends, Ylengths, Yparameters, Yspecial, YplaceKind, YplaceValue, Ythere, YsymbolOf, YplaceOf, YnextOf, YclosureSymbol, YclosureBody, YclosureEnv, YworkToken, upd YworkPhase fs.length (nI 1), YworkEnv, YkeptKind, YkeptValue, YboundPlace, YoldKind, YoldValue, YoldBuffer) := zy_SG (by omega) (zy_done_a (t := t) (k := 14) (by omega) ht y1 hk y2 (by decide) (fun Q HQ => zy_gb0 (by omega) y6 HQ) (fun Q HQ => zy_d0 (by decide) HQ))
  rw [y9] at hY
  exact ⟨_, _, zx_St hX hX2, hY, Or.inr (Or.inl (zz_SGi (fs := fs) (us := us) (st := st) hST (zz_YWg (Nat.le_refl _) hYW0) (zz_XWt hXW) hEN hCL hPL hLO ⟨hb, by omega, by omega, by omega, by omega⟩ hSK hV hJ hKR hm))⟩
theorem zg_N (hST : zz_ST xdrafted xspecial xdefined Xdraft XdraftValues Xop Xarg Xparameter Ykinds Ynumbers Yends Ylengths Yparameters Yspecial) (hYW : zz_YW YworkToken YworkPhase YworkEnv YkeptKind YkeptValue YboundPlace YoldKind YoldValue YoldBuffer ((t, 0, xenv, kk, kv, -1, ok, ov, b, g) :: fs)) (hXW : zz_XW Xwhat Xfirst Xsecond Xthird Xkept (y :: us)) (hEN : zz_EN ne nc Xparent Xcell YplaceOf YnextOf YplaceKind YplaceValue) (hCL : zz_CL Xop Xarg Ykinds Ynumbers Yends Yspecial ne YsymbolOf YnextOf nc Xbodies Xbinds Xscopes YclosureSymbol YclosureBody YclosureEnv) (hPL : zz_PL nc Xplace YplaceKind YplaceValue Ythere) (hLO : zz_LO Xlocals Ythere) (hct : b < 3 ∧ ne + (g + zz_pt fs) ≤ sN ∧ fs.length + 1 ≤ sN ∧ nc ≤ sN ∧ sN ≤ 300) (hV : zz_V nc ykind yvalue) (hpc : pc < 1280) (ht : t < 240) (he : e < 1280) (hJ : zz_J Xop Xarg j e q) (hm : (301 - sN) * 1000 + 500 + fs.length ≤ m) (hSK : zz_R Xstack (fun x => x) (zz_en ykind yvalue :: st)) (hEV : zz_EV ne YsymbolOf YnextOf sc xenv) (hKR : zz_KR Xop Xarg Ykinds Ynumbers Yends Yspecial ne YsymbolOf YnextOf nc fs q us st xenv b) {t2 e2 : Nat} (hk : Ykinds t = 15) (ht1 : t + 1 < 240) (hE : Yends (t + 1) = nI t2) (ho : Xop pc = 28) (hC : zz_CE Xop Xarg Ykinds Ynumbers Yends Yspecial t2 (pc + 1) e2 sc) (ho2 : Xop e2 = 29) (ee : e = e2 + 1) : zz_O m (xdrafted, xspecial, xdefined, xhere, xdepth, xscoped, nI ne, nI nc, nI (st.length + 1), nI (us.length + 1), nI pc, xenv, nI b, nI sN, 0, 1, xgiven, xclosed, Xdraft, XdraftValues, Xop, Xarg, Xparameter, Xwaiting, Xdone, Xhole, Xscope, Xplace, Xlocals, Xstack, Xcell, Xparent, Xbodies, Xbinds, Xscopes, Xwhat, Xfirst, Xsecond, Xthird, Xkept) (nI ne, nI nc, nI (fs.length + 1), nI b, nI sN, 0, yat, yenv, ykind, yvalue, ycode, ytag, yresultKind, yresultValue, Ykinds, Ynumbers, Yends, Ylengths, Yparameters, Yspecial, YplaceKind, YplaceValue, Ythere, YsymbolOf, YplaceOf, YnextOf, YclosureSymbol, YclosureBody, YclosureEnv, YworkToken, YworkPhase, YworkEnv, YkeptKind, YkeptValue, YboundPlace, YoldKind, YoldValue, YoldBuffer) := by
  obtain ⟨y1, y2, y3, y4, y5, y6, y7, y8, y9⟩ := zz_YWh hYW
  have y1 : YworkToken fs.length = nI t := y1
  have y2 : YworkPhase fs.length = nI 0 := y2
  have y3 : YworkEnv fs.length = xenv := y3
  have y4 : YkeptKind fs.length = kk := y4
  have y5 : YkeptValue fs.length = kv := y5
  have y6 : YboundPlace fs.length = -1 := y6
  have y7 : YoldKind fs.length = ok := y7
  have y8 : YoldValue fs.length = ov := y8
  have y9 : YoldBuffer fs.length = nI b := y9
  have hYW0 := zz_YWt hYW
  have lu := zz_KRl _ _ _ _ _ _ hKR
  have hsk : Xstack st.length = zz_en ykind yvalue := hSK.1
  have hb := hct.1
  have ce := zz_CEb hC
  have hX : zx_S (xdrafted, xspecial, xdefined, xhere, xdepth, xscoped, nI ne, nI nc, nI (st.length + 1), nI (us.length + 1), nI pc, xenv, nI b, nI sN, 0, 1, xgiven, xclosed, Xdraft, XdraftValues, Xop, Xarg, Xparameter, Xwaiting, Xdone, Xhole, Xscope, Xplace, Xlocals, Xstack, Xcell, Xparent, Xbodies, Xbinds, Xscopes, Xwhat, Xfirst, Xsecond, Xthird, Xkept) (xdrafted, xspecial, xdefined, xhere, xdepth, xscoped, nI ne, nI nc, nI (st.length + 1), nI (us.length + 1), nI (pc + 1), xenv, nI b, nI sN, 0, 1, xgiven, xclosed, Xdraft, XdraftValues, Xop, Xarg, Xparameter, Xwaiting, Xdone, Xhole, Xscope, Xplace, Xlocals, Xstack, Xcell, Xparent, Xbodies, Xbinds, Xscopes, upd Xwhat us.length (nI 7), upd Xfirst us.length 0, upd Xsecond us.length 0, upd Xthird us.length 0, vp_updL Xkept us.length 0) := zx_SG (zx_clean hpc (by omega) ho)
  have hY : zy_S (nI ne, nI nc, nI (fs.length + 1), nI b, nI sN, 0, yat, yenv, ykind, yvalue, ycode, ytag, yresultKind, yresultValue, Ykinds, Ynumbers, Yends, Ylengths, Yparameters, Yspecial, YplaceKind, YplaceValue, Ythere, YsymbolOf, YplaceOf, YnextOf, YclosureSymbol, YclosureBody, YclosureEnv, YworkToken, YworkPhase, YworkEnv, YkeptKind, YkeptValue, YboundPlace, YoldKind, YoldValue, YoldBuffer) (nI ne, nI nc, nI (fs.length + 1), nI b, nI sN, 1, nI t2, YworkEnv fs.length, ykind, yvalue, ycode, ytag, yresultKind, yresultValue, Ykinds, Ynumbers, Yends, Ylengths, Yparameters, Yspecial, YplaceKind, YplaceValue, Ythere, YsymbolOf, YplaceOf, YnextOf, YclosureSymbol, YclosureBody, YclosureEnv, YworkToken, upd YworkPhase fs.length (nI 1), YworkEnv, upd YkeptKind fs.length ykind, upd YkeptValue fs.length yvalue, YboundPlace, YoldKind, YoldValue, YoldBuffer) := zy_SG (by omega) (zy_gkeep (k := 15) (by omega) ht1 y1 hk y2 (by decide) hE)
  rw [y3] at hY
  refine ⟨_, _, hX, hY, Or.inl (zz_SBi (j := 0) (q := e2) (fs := (t, 1, xenv, ykind, yvalue, -1, ok, ov, b, g) :: fs) (us := (7, 0, 0, 0, 0) :: us) (st := zz_en ykind yvalue :: st) hST (zz_YWk 1 ykind yvalue hYW) (zz_XWp 7 0 0 0 0 (zz_XWt hXW)) hEN hCL hPL hLO hct hSK hC hEV rfl ?_ (by omega))⟩
  exact ⟨by omega, ht, hb, sc, e, j, q, us, st, he, hEV, hJ, hKR, (Or.inr (Or.inr (Or.inr (Or.inr (Or.inr (Or.inr (Or.inr (Or.inr (Or.inr (Or.inr (Or.inr (Or.inr (Or.inl (⟨hk, rfl, ho2, ee, rfl, rfl, hV, rfl, rfl, rfl⟩))))))))))))))⟩
theorem zg_O (hST : zz_ST xdrafted xspecial xdefined Xdraft XdraftValues Xop Xarg Xparameter Ykinds Ynumbers Yends Ylengths Yparameters Yspecial) (hYW : zz_YW YworkToken YworkPhase YworkEnv YkeptKind YkeptValue YboundPlace YoldKind YoldValue YoldBuffer ((t, 1, xenv, kk, kv, -1, ok, ov, b, g) :: fs)) (hXW : zz_XW Xwhat Xfirst Xsecond Xthird Xkept ((7, 0, 0, 0, 0) :: us)) (hEN : zz_EN ne nc Xparent Xcell YplaceOf YnextOf YplaceKind YplaceValue) (hCL : zz_CL Xop Xarg Ykinds Ynumbers Yends Yspecial ne YsymbolOf YnextOf nc Xbodies Xbinds Xscopes YclosureSymbol YclosureBody YclosureEnv) (hPL : zz_PL nc Xplace YplaceKind YplaceValue Ythere) (hLO : zz_LO Xlocals Ythere) (hct : b < 3 ∧ ne + (g + zz_pt fs) ≤ sN ∧ fs.length + 1 ≤ sN ∧ nc ≤ sN ∧ sN ≤ 300) (hV : zz_V nc ykind yvalue) (hpc : pc < 1280) (ht : t < 240) (he : e < 1280) (hJ : zz_J Xop Xarg j e q) (hm : (301 - sN) * 1000 + 500 + fs.length ≤ m) (hSK : zz_R Xstack (fun x => x) (zz_en ykind yvalue :: zz_en kk kv :: st)) (hEV : zz_EV ne YsymbolOf YnextOf sc xenv) (hKR : zz_KR Xop Xarg Ykinds Ynumbers Yends Yspecial ne YsymbolOf YnextOf nc fs q us st xenv b) (hVk : zz_V nc kk kv) (hk : Ykinds t = 15) (ho : Xop pc = 29) (ee : e = pc + 1) : zz_O m (xdrafted, xspecial, xdefined, xhere, xdepth, xscoped, nI ne, nI nc, nI (st.length + 1 + 1), nI (us.length + 1), nI pc, xenv, nI b, nI sN, 0, 1, xgiven, xclosed, Xdraft, XdraftValues, Xop, Xarg, Xparameter, Xwaiting, Xdone, Xhole, Xscope, Xplace, Xlocals, Xstack, Xcell, Xparent, Xbodies, Xbinds, Xscopes, Xwhat, Xfirst, Xsecond, Xthird, Xkept) (nI ne, nI nc, nI (fs.length + 1), nI b, nI sN, 0, yat, yenv, ykind, yvalue, ycode, ytag, yresultKind, yresultValue, Ykinds, Ynumbers, Yends, Ylengths, Yparameters, Yspecial, YplaceKind, YplaceValue, Ythere, YsymbolOf, YplaceOf, YnextOf, YclosureSymbol, YclosureBody, YclosureEnv, YworkToken, YworkPhase, YworkEnv, YkeptKind, YkeptValue, YboundPlace, YoldKind, YoldValue, YoldBuffer) := by
  obtain ⟨y1, y2, y3, y4, y5, y6, y7, y8, y9⟩ := zz_YWh hYW
  have y1 : YworkToken fs.length = nI t := y1
  have y2 : YworkPhase fs.length = nI 1 := y2
  have y3 : YworkEnv fs.length = xenv := y3
  have y4 : YkeptKind fs.length = kk := y4
  have y5 : YkeptValue fs.length = kv := y5
  have y6 : YboundPlace fs.length = -1 := y6
  have y9 : YoldBuffer fs.length = nI b := y9
  have hYW0 := zz_YWt hYW
  have lu := zz_KRl _ _ _ _ _ _ hKR
  have hs1 : Xstack (st.length + 1) = zz_en ykind yvalue := hSK.1
  have hs2 : Xstack st.length = zz_en kk kv := hSK.2.1
  have hb := hct.1
  obtain ⟨_, x2, _⟩ := zz_XWh hXW
  have x2 : Xfirst us.length = 0 := x2
  subst ee
  have hX : zx_S (xdrafted, xspecial, xdefined, xhere, xdepth, xscoped, nI ne, nI nc, nI (st.length + 1 + 1), nI (us.length + 1), nI pc, xenv, nI b, nI sN, 0, 1, xgiven, xclosed, Xdraft, XdraftValues, Xop, Xarg, Xparameter, Xwaiting, Xdone, Xhole, Xscope, Xplace, Xlocals, Xstack, Xcell, Xparent, Xbodies, Xbinds, Xscopes, Xwhat, Xfirst, Xsecond, Xthird, Xkept) (xdrafted, xspecial, xdefined, xhere, xdepth, xscoped, nI ne, nI nc, nI (st.length + 1), nI us.length, nI (pc + 1), xenv, nI b, nI sN, 0, 1, xgiven, xclosed, Xdraft, XdraftValues, Xop, Xarg, Xparameter, Xwaiting, Xdone, Xhole, Xscope, Xplace, Xlocals, Xstack, Xcell, Xparent, Xbodies, Xbinds, Xscopes, Xwhat, Xfirst, Xsecond, Xthird, Xkept) := zx_SG (zx_resume0 hpc (by omega) ho x2)
  have hY : zy_S (nI ne, nI nc, nI (fs.length + 1), nI b, nI sN, 0, yat, yenv, ykind, yvalue, ycode, ytag, yresultKind, yresultValue, Ykinds, Ynumbers, Yends, Ylengths, Yparameters, Yspecial, YplaceKind, YplaceValue, Ythere, YsymbolOf, YplaceOf, YnextOf, YclosureSymbol, YclosureBody, YclosureEnv, YworkToken, YworkPhase, YworkEnv, YkeptKind, YkeptValue, YboundPlace, YoldKind, YoldValue, YoldBuffer) (nI ne, nI nc, nI fs.length, YoldBuffer fs.length, nI sN, 0, yat, yenv, YkeptKind fs.length, YkeptValue fs.length, ycode, ytag, yresultKind, yresultValue, Ykinds, Ynumbers, Yends, Ylengths, Yparameters, Yspecial, YplaceKind, YplaceValue, Ythere, YsymbolOf, YplaceOf, YnextOf, YclosureSymbol, YclosureBody, YclosureEnv, YworkToken, upd YworkPhase fs.length (nI 2), YworkEnv, YkeptKind, YkeptValue, YboundPlace, YoldKind, YoldValue, YoldBuffer) := zy_SG (by omega) (zy_done_c (t := t) (ph := 1) (k := 15) (by omega) ht y1 hk y2 (by decide) (fun Q HQ => zy_gb0 (by omega) y6 HQ) (fun Q HQ => zy_dp1 (by omega) HQ))
  rw [y9, y4, y5] at hY
  exact ⟨_, _, hX, hY, Or.inr (Or.inl (zz_SGi (fs := fs) (us := us) (st := st) hST (zz_YWg (Nat.le_refl _) hYW0) (zz_XWt hXW) hEN hCL hPL hLO ⟨hb, by omega, by omega, by omega, by omega⟩ hSK.2 hVk hJ hKR hm))⟩
theorem zg_P {hw x : Int32} {v : Int64} (hST : zz_ST xdrafted xspecial xdefined Xdraft XdraftValues Xop Xarg Xparameter Ykinds Ynumbers Yends Ylengths Yparameters Yspecial) (hYW : zz_YW YworkToken YworkPhase YworkEnv YkeptKind YkeptValue YboundPlace YoldKind YoldValue YoldBuffer ((t, 2, xenv, kk, kv, -1, ok, ov, b, g) :: fs)) (hXW : zz_XW Xwhat Xfirst Xsecond Xthird Xkept ((7, hw, x, 0, v) :: us)) (hEN : zz_EN ne nc Xparent Xcell YplaceOf YnextOf YplaceKind YplaceValue) (hCL : zz_CL Xop Xarg Ykinds Ynumbers Yends Yspecial ne YsymbolOf YnextOf nc Xbodies Xbinds Xscopes YclosureSymbol YclosureBody YclosureEnv) (hPL : zz_PL nc Xplace YplaceKind YplaceValue Ythere) (hLO : zz_LO Xlocals Ythere) (hct : b < 3 ∧ ne + (g + zz_pt fs) ≤ sN ∧ fs.length + 1 ≤ sN ∧ nc ≤ sN ∧ sN ≤ 300) (hV : zz_V nc ykind yvalue) (hpc : pc < 1280) (ht : t < 240) (he : e < 1280) (hJ : zz_J Xop Xarg j e q) (hm : (301 - sN) * 1000 + 500 + fs.length ≤ m) (hSK : zz_R Xstack (fun x => x) (zz_en ykind yvalue :: st)) (hEV : zz_EV ne YsymbolOf YnextOf sc xenv) (hKR : zz_KR Xop Xarg Ykinds Ynumbers Yends Yspecial ne YsymbolOf YnextOf nc fs q us st xenv b) (hk : Ykinds t = 15) (ho : Xop pc = 29) (hTG : zz_TG Ykinds Ynumbers nc fs hw x v ok ov kk kv) : zz_O m (xdrafted, xspecial, xdefined, xhere, xdepth, xscoped, nI ne, nI nc, nI (st.length + 1), nI (us.length + 1), nI pc, xenv, nI b, nI sN, 0, 1, xgiven, xclosed, Xdraft, XdraftValues, Xop, Xarg, Xparameter, Xwaiting, Xdone, Xhole, Xscope, Xplace, Xlocals, Xstack, Xcell, Xparent, Xbodies, Xbinds, Xscopes, Xwhat, Xfirst, Xsecond, Xthird, Xkept) (nI ne, nI nc, nI (fs.length + 1), nI b, nI sN, 0, yat, yenv, ykind, yvalue, ycode, ytag, yresultKind, yresultValue, Ykinds, Ynumbers, Yends, Ylengths, Yparameters, Yspecial, YplaceKind, YplaceValue, Ythere, YsymbolOf, YplaceOf, YnextOf, YclosureSymbol, YclosureBody, YclosureEnv, YworkToken, YworkPhase, YworkEnv, YkeptKind, YkeptValue, YboundPlace, YoldKind, YoldValue, YoldBuffer) := by
  obtain ⟨y1, y2, y3, y4, y5, y6, y7, y8, y9⟩ := zz_YWh hYW
  have y1 : YworkToken fs.length = nI t := y1
  have y2 : YworkPhase fs.length = nI 2 := y2
  have y3 : YworkEnv fs.length = xenv := y3
  have y4 : YkeptKind fs.length = kk := y4
  have y5 : YkeptValue fs.length = kv := y5
  have y6 : YboundPlace fs.length = -1 := y6
  have y7 : YoldKind fs.length = ok := y7
  have y8 : YoldValue fs.length = ov := y8
  have y9 : YoldBuffer fs.length = nI b := y9
  have hYW0 := zz_YWt hYW
  have lu := zz_KRl _ _ _ _ _ _ hKR
  have hsk : Xstack st.length = zz_en ykind yvalue := hSK.1
  have hb := hct.1
  obtain ⟨_, x2, x3, _, x5⟩ := zz_XWh hXW
  have x2 : Xfirst us.length = hw := x2
  have x3 : Xsecond us.length = x := x3
  have x5 : Xkept us.length = v := x5
  have hY : zy_S (nI ne, nI nc, nI (fs.length + 1), nI b, nI sN, 0, yat, yenv, ykind, yvalue, ycode, ytag, yresultKind, yresultValue, Ykinds, Ynumbers, Yends, Ylengths, Yparameters, Yspecial, YplaceKind, YplaceValue, Ythere, YsymbolOf, YplaceOf, YnextOf, YclosureSymbol, YclosureBody, YclosureEnv, YworkToken, YworkPhase, YworkEnv, YkeptKind, YkeptValue, YboundPlace, YoldKind, YoldValue, YoldBuffer) (nI ne, nI nc, nI fs.length, YoldBuffer fs.length, nI sN, 2, yat, yenv, YkeptKind fs.length, YkeptValue fs.length, YoldValue fs.length, YoldKind fs.length, yresultKind, yresultValue, Ykinds, Ynumbers, Yends, Ylengths, Yparameters, Yspecial, YplaceKind, YplaceValue, Ythere, YsymbolOf, YplaceOf, YnextOf, YclosureSymbol, YclosureBody, YclosureEnv, YworkToken, upd YworkPhase fs.length (nI 3), YworkEnv, YkeptKind, YkeptValue, YboundPlace, YoldKind, YoldValue, YoldBuffer) := zy_SG (by omega) (zy_done_c (t := t) (ph := 2) (k := 15) (by omega) ht y1 hk y2 (by decide) (fun Q HQ => zy_gb0 (by omega) y6 HQ) (fun Q HQ => zy_dp2 (by omega) HQ))
  rw [y9, y7, y8, y4, y5] at hY
  obtain ⟨u1, w1, g1, g2, g3⟩ := zw_end (hw := hw) (x := x) (v := v) (m := m) (sN := sN) (xtop := nI st.length) (xpc := nI (pc + 1)) (xenv := xenv) (ytag := ok) (ycode := ov) (ykind := kk) (yvalue := kv) (YworkPhase := upd YworkPhase fs.length (nI 3)) hST hCL hLO (by omega) (by omega) fs us st q b xenv Xplace YplaceKind YplaceValue YboundPlace (zz_YWg (Nat.le_refl _) hYW0) (zz_XWt hXW) hSK.2 hEN hPL hKR hTG hb (by omega) (by omega) hm
  have hX : zx_S (xdrafted, xspecial, xdefined, xhere, xdepth, xscoped, nI ne, nI nc, nI (st.length + 1), nI (us.length + 1), nI pc, xenv, nI b, nI sN, 0, 1, xgiven, xclosed, Xdraft, XdraftValues, Xop, Xarg, Xparameter, Xwaiting, Xdone, Xhole, Xscope, Xplace, Xlocals, Xstack, Xcell, Xparent, Xbodies, Xbinds, Xscopes, Xwhat, Xfirst, Xsecond, Xthird, Xkept) u1 := zx_SG (zx_resumeU hpc (by omega) ho (by rw [x2]; rcases zz_TGh hTG with h | h <;> rw [h] <;> decide) (by rw [x2, x3, x5]; exact zx_LU g1))
  exact ⟨u1, w1, hX, zy_St hY g2, g3⟩
theorem zg_Q (hST : zz_ST xdrafted xspecial xdefined Xdraft XdraftValues Xop Xarg Xparameter Ykinds Ynumbers Yends Ylengths Yparameters Yspecial) (hYW : zz_YW YworkToken YworkPhase YworkEnv YkeptKind YkeptValue YboundPlace YoldKind YoldValue YoldBuffer ((t, 0, xenv, kk, kv, -1, ok, ov, ob, g) :: fs)) (hXW : zz_XW Xwhat Xfirst Xsecond Xthird Xkept ((3, nI ob, 0, 0, 0) :: us)) (hEN : zz_EN ne nc Xparent Xcell YplaceOf YnextOf YplaceKind YplaceValue) (hCL : zz_CL Xop Xarg Ykinds Ynumbers Yends Yspecial ne YsymbolOf YnextOf nc Xbodies Xbinds Xscopes YclosureSymbol YclosureBody YclosureEnv) (hPL : zz_PL nc Xplace YplaceKind YplaceValue Ythere) (hLO : zz_LO Xlocals Ythere) (hct : b < 3 ∧ ne + (g + zz_pt fs) ≤ sN ∧ fs.length + 1 ≤ sN ∧ nc ≤ sN ∧ sN ≤ 300) (hV : zz_V nc ykind yvalue) (hpc : pc < 1280) (ht : t < 240) (he : e < 1280) (hJ : zz_J Xop Xarg j e q) (hm : (301 - sN) * 1000 + 500 + fs.length ≤ m) (hSK : zz_R Xstack (fun x => x) (zz_en ykind yvalue :: st)) (hEV : zz_EV ne YsymbolOf YnextOf sc xenv) (hKR : zz_KR Xop Xarg Ykinds Ynumbers Yends Yspecial ne YsymbolOf YnextOf nc fs q us st xenv ob) (hob : ob < 3) (hk : Ykinds t = 16) (ho : Xop pc = 34) (ee : e = pc + 1) : zz_O m (xdrafted, xspecial, xdefined, xhere, xdepth, xscoped, nI ne, nI nc, nI (st.length + 1), nI (us.length + 1), nI pc, xenv, nI b, nI sN, 0, 1, xgiven, xclosed, Xdraft, XdraftValues, Xop, Xarg, Xparameter, Xwaiting, Xdone, Xhole, Xscope, Xplace, Xlocals, Xstack, Xcell, Xparent, Xbodies, Xbinds, Xscopes, Xwhat, Xfirst, Xsecond, Xthird, Xkept) (nI ne, nI nc, nI (fs.length + 1), nI b, nI sN, 0, yat, yenv, ykind, yvalue, ycode, ytag, yresultKind, yresultValue, Ykinds, Ynumbers, Yends, Ylengths, Yparameters, Yspecial, YplaceKind, YplaceValue, Ythere, YsymbolOf, YplaceOf, YnextOf, YclosureSymbol, YclosureBody, YclosureEnv, YworkToken, YworkPhase, YworkEnv, YkeptKind, YkeptValue, YboundPlace, YoldKind, YoldValue, YoldBuffer) := by
  obtain ⟨y1, y2, y3, y4, y5, y6, y7, y8, y9⟩ := zz_YWh hYW
  have y1 : YworkToken fs.length = nI t := y1
  have y2 : YworkPhase fs.length = nI 0 := y2
  have y3 : YworkEnv fs.length = xenv := y3
  have y4 : YkeptKind fs.length = kk := y4
  have y5 : YkeptValue fs.length = kv := y5
  have y6 : YboundPlace fs.length = -1 := y6
  have y7 : YoldKind fs.length = ok := y7
  have y8 : YoldValue fs.length = ov := y8
  have y9 : YoldBuffer fs.length = nI ob := y9
  have hYW0 := zz_YWt hYW
  have lu := zz_KRl _ _ _ _ _ _ hKR
  have hsk : Xstack st.length = zz_en ykind yvalue := hSK.1
  have hb := hct.1
  obtain ⟨_, x2, _⟩ := zz_XWh hXW
  have x2 : Xfirst us.length = nI ob := x2
  subst ee
  have hX : zx_S (xdrafted, xspecial, xdefined, xhere, xdepth, xscoped, nI ne, nI nc, nI (st.length + 1), nI (us.length + 1), nI pc, xenv, nI b, nI sN, 0, 1, xgiven, xclosed, Xdraft, XdraftValues, Xop, Xarg, Xparameter, Xwaiting, Xdone, Xhole, Xscope, Xplace, Xlocals, Xstack, Xcell, Xparent, Xbodies, Xbinds, Xscopes, Xwhat, Xfirst, Xsecond, Xthird, Xkept) (xdrafted, xspecial, xdefined, xhere, xdepth, xscoped, nI ne, nI nc, nI (st.length + 1), nI us.length, nI (pc + 1), xenv, Xfirst us.length, nI sN, 0, 1, xgiven, xclosed, Xdraft, XdraftValues, Xop, Xarg, Xparameter, Xwaiting, Xdone, Xhole, Xscope, Xplace, Xlocals, Xstack, Xcell, Xparent, Xbodies, Xbinds, Xscopes, Xwhat, Xfirst, Xsecond, Xthird, Xkept) := zx_SG (zx_back hpc (by omega) ho)
  have hY : zy_S (nI ne, nI nc, nI (fs.length + 1), nI b, nI sN, 0, yat, yenv, ykind, yvalue, ycode, ytag, yresultKind, yresultValue, Ykinds, Ynumbers, Yends, Ylengths, Yparameters, Yspecial, YplaceKind, YplaceValue, Ythere, YsymbolOf, YplaceOf, YnextOf, YclosureSymbol, YclosureBody, YclosureEnv, YworkToken, YworkPhase, YworkEnv, YkeptKind, YkeptValue, YboundPlace, YoldKind, YoldValue, YoldBuffer) (nI ne, nI nc, nI fs.length, YoldBuffer fs.length, nI sN, 0, yat, yenv, ykind, yvalue, ycode, ytag, yresultKind, yresultValue, Ykinds, Ynumbers, Yends, Ylengths, Yparameters, Yspecial, YplaceKind, YplaceValue, Ythere, YsymbolOf, YplaceOf, YnextOf, YclosureSymbol, YclosureBody, YclosureEnv, YworkToken, upd YworkPhase fs.length (nI 1), YworkEnv, YkeptKind, YkeptValue, YboundPlace, YoldKind, YoldValue, YoldBuffer) := zy_SG (by omega) (zy_done_a (t := t) (k := 16) (by omega) ht y1 hk y2 (by decide) (fun Q HQ => zy_gb0 (by omega) y6 HQ) (fun Q HQ => zy_d0 (by decide) HQ))
  rw [x2] at hX
  rw [y9] at hY
  exact ⟨_, _, hX, hY, Or.inr (Or.inl (zz_SGi (b := ob) (fs := fs) (us := us) (st := st) hST (zz_YWg (Nat.le_refl _) hYW0) (zz_XWt hXW) hEN hCL hPL hLO ⟨hob, by omega, by omega, by omega, by omega⟩ hSK hV hJ hKR hm))⟩
end
end
section
section
variable {xdrafted xspecial xdefined xhere xdepth xscoped xcells xclosures xtop xundo xpc xenv xbuffer xtaken xoutcome xrunning xclosed : Int32} {xgiven : Int64} {Xdraft XdraftValues Xop Xarg Xparameter Xwaiting Xdone Xhole Xscope Xlocals Xparent Xbodies Xbinds Xscopes Xwhat Xfirst Xsecond Xthird : Nat → Int32} {Xplace Xstack Xcell Xkept : Nat → Int64} {yenvs yclosures ywork ybuffer ysteps ymode yat yenv ykind yvalue ycode ytag yresultKind yresultValue : Int32} {Ykinds Ynumbers Yends Ylengths Yparameters Yspecial YplaceKind YplaceValue Ythere YsymbolOf YplaceOf YnextOf YclosureSymbol YclosureBody YclosureEnv YworkToken YworkPhase YworkEnv YkeptKind YkeptValue YboundPlace YoldKind YoldValue YoldBuffer : Nat → Int32} {fs : List zz_YF} {us : List zz_XE} {st : List Int64} {b ne nc sN t e j q m pc g : Nat} {sc : List Nat} {kk kv ok ov : Int32}
theorem zz_exn {S : Nat → Int32} {s : Nat} {sc : List Nat} (h : ¬ S s = 0) : zz_ex S s sc = sc := by rw [zz_ex, if_neg h]
theorem zz_updne {sy nx : Nat → Int32} {ne : Nat} {x y : Int32} : ∀ i, i < ne → upd sy ne x i = sy i ∧ upd nx ne y i = nx i := fun i hi => ⟨pk_un (by omega), pk_un (by omega)⟩
theorem zg_GS (hST : zz_ST xdrafted xspecial xdefined Xdraft XdraftValues Xop Xarg Xparameter Ykinds Ynumbers Yends Ylengths Yparameters Yspecial) (hYW : zz_YW YworkToken YworkPhase YworkEnv YkeptKind YkeptValue YboundPlace YoldKind YoldValue YoldBuffer ((t, 0, xenv, kk, kv, -1, ok, ov, b, g) :: fs)) (hXW : zz_XW Xwhat Xfirst Xsecond Xthird Xkept us) (hEN : zz_EN ne nc Xparent Xcell YplaceOf YnextOf YplaceKind YplaceValue) (hCL : zz_CL Xop Xarg Ykinds Ynumbers Yends Yspecial ne YsymbolOf YnextOf nc Xbodies Xbinds Xscopes YclosureSymbol YclosureBody YclosureEnv) (hPL : zz_PL nc Xplace YplaceKind YplaceValue Ythere) (hLO : zz_LO Xlocals Ythere) (hct : b < 3 ∧ ne + (g + zz_pt fs) ≤ sN ∧ fs.length + 1 ≤ sN ∧ nc ≤ sN ∧ sN ≤ 300) (hV : zz_V nc ykind yvalue) (hpc : pc < 1280) (ht : t < 240) (he : e < 1280) (hJ : zz_J Xop Xarg j e q) (hm : (301 - sN) * 1000 + 500 + fs.length ≤ m) (hSK : zz_R Xstack (fun x => x) (zz_en ykind yvalue :: st)) (hEV : zz_EV ne YsymbolOf YnextOf sc xenv) (hKR : zz_KR Xop Xarg Ykinds Ynumbers Yends Yspecial ne YsymbolOf YnextOf nc fs q us st xenv b) {s t2 e2 : Nat} (hk : Ykinds t = 3) (hs : s < 8) (hn : Ynumbers t = nI s) (ht1 : t + 1 < 240) (hE : Yends (t + 1) = nI t2) (ho : Xop pc = 21) (ha : Xarg pc = nI s) (hC : zz_CE Xop Xarg Ykinds Ynumbers Yends Yspecial t2 (pc + 1) e2 (zz_ex Yspecial s sc)) (ho2 : Xop e2 = 22) (ee : e = e2 + 1) (hg : g = 1) (hz : ¬ Yspecial s = 0) : zz_O m (xdrafted, xspecial, xdefined, xhere, xdepth, xscoped, nI ne, nI nc, nI (st.length + 1), nI us.length, nI pc, xenv, nI b, nI sN, 0, 1, xgiven, xclosed, Xdraft, XdraftValues, Xop, Xarg, Xparameter, Xwaiting, Xdone, Xhole, Xscope, Xplace, Xlocals, Xstack, Xcell, Xparent, Xbodies, Xbinds, Xscopes, Xwhat, Xfirst, Xsecond, Xthird, Xkept) (nI ne, nI nc, nI (fs.length + 1), nI b, nI sN, 0, yat, yenv, ykind, yvalue, ycode, ytag, yresultKind, yresultValue, Ykinds, Ynumbers, Yends, Ylengths, Yparameters, Yspecial, YplaceKind, YplaceValue, Ythere, YsymbolOf, YplaceOf, YnextOf, YclosureSymbol, YclosureBody, YclosureEnv, YworkToken, YworkPhase, YworkEnv, YkeptKind, YkeptValue, YboundPlace, YoldKind, YoldValue, YoldBuffer) := by
  obtain ⟨y1, y2, y3, y4, y5, y6, y7, y8, y9⟩ := zz_YWh hYW
  have y1 : YworkToken fs.length = nI t := y1
  have y2 : YworkPhase fs.length = nI 0 := y2
  have y3 : YworkEnv fs.length = xenv := y3
  have y4 : YkeptKind fs.length = kk := y4
  have y5 : YkeptValue fs.length = kv := y5
  have y6 : YboundPlace fs.length = -1 := y6
  have y7 : YoldKind fs.length = ok := y7
  have y8 : YoldValue fs.length = ov := y8
  have y9 : YoldBuffer fs.length = nI b := y9
  have hYW0 := zz_YWt hYW
  have lu := zz_KRl _ _ _ _ _ _ hKR
  have hsk : Xstack st.length = zz_en ykind yvalue := hSK.1
  have hb := hct.1
  have ce := zz_CEb hC
  have h32 := zz_pr32 (L := Xlocals) hb hs
  obtain ⟨hpl, hpw⟩ := hPL (zz_pr Xlocals b s) h32 (zz_prv hb hs hLO)
  have hX : zx_S (xdrafted, xspecial, xdefined, xhere, xdepth, xscoped, nI ne, nI nc, nI (st.length + 1), nI us.length, nI pc, xenv, nI b, nI sN, 0, 1, xgiven, xclosed, Xdraft, XdraftValues, Xop, Xarg, Xparameter, Xwaiting, Xdone, Xhole, Xscope, Xplace, Xlocals, Xstack, Xcell, Xparent, Xbodies, Xbinds, Xscopes, Xwhat, Xfirst, Xsecond, Xthird, Xkept) (xdrafted, xspecial, xdefined, xhere, xdepth, xscoped, nI ne, nI nc, nI st.length, nI (us.length + 1), nI (pc + 1), xenv, nI b, nI sN, 0, 1, xgiven, xclosed, Xdraft, XdraftValues, Xop, Xarg, Xparameter, Xwaiting, Xdone, Xhole, Xscope, vp_updL Xplace (zz_pr Xlocals b s) (Xstack st.length), Xlocals, Xstack, Xcell, Xparent, Xbodies, Xbinds, Xscopes, upd Xwhat us.length (nI 1), upd Xfirst us.length (nI (zz_pr Xlocals b s)), upd Xsecond us.length 0, upd Xthird us.length 0, vp_updL Xkept us.length (Xplace (zz_pr Xlocals b s))) := zx_SG (zx_letS hpc (by omega) (by omega) hb hs hST.2.1 hz ho ha)
  have hY : zy_S (nI ne, nI nc, nI (fs.length + 1), nI b, nI sN, 0, yat, yenv, ykind, yvalue, ycode, ytag, yresultKind, yresultValue, Ykinds, Ynumbers, Yends, Ylengths, Yparameters, Yspecial, YplaceKind, YplaceValue, Ythere, YsymbolOf, YplaceOf, YnextOf, YclosureSymbol, YclosureBody, YclosureEnv, YworkToken, YworkPhase, YworkEnv, YkeptKind, YkeptValue, YboundPlace, YoldKind, YoldValue, YoldBuffer) (nI ne, nI nc, nI (fs.length + 1), nI b, nI sN, 1, nI t2, YworkEnv fs.length, ykind, yvalue, ycode, ytag, yresultKind, yresultValue, Ykinds, Ynumbers, Yends, Ylengths, Yparameters, Yspecial, upd YplaceKind (zz_pr Xlocals b s) ykind, upd YplaceValue (zz_pr Xlocals b s) yvalue, Ythere, YsymbolOf, YplaceOf, YnextOf, YclosureSymbol, YclosureBody, YclosureEnv, YworkToken, upd YworkPhase fs.length (nI 1), YworkEnv, YkeptKind, YkeptValue, upd YboundPlace fs.length (nI (zz_pr Xlocals b s)), upd YoldKind fs.length (YplaceKind (zz_pr Xlocals b s)), upd YoldValue fs.length (YplaceValue (zz_pr Xlocals b s)), YoldBuffer) := zy_SG (by omega) (zy_glet (by omega) ht1 y1 hk y2 hE (fun Q HQ => by rw [hn]; exact zy_bindS (by omega) hs (by omega) hz (fun Q HQ => zy_pres hb hs hLO HQ) HQ))
  rw [y3] at hY
  rw [zz_exn hz] at hC
  refine ⟨_, _, hX, hY, Or.inl (zz_SBi (j := 0) (q := e2) (fs := (t, 1, xenv, kk, kv, nI (zz_pr Xlocals b s), YplaceKind (zz_pr Xlocals b s), YplaceValue (zz_pr Xlocals b s), b, 0) :: fs) (us := (1, nI (zz_pr Xlocals b s), 0, 0, Xplace (zz_pr Xlocals b s)) :: us) (st := st) hST (zz_YWb 1 0 _ _ _ hYW) (zz_XWp 1 _ _ _ _ hXW) (zz_ENl h32 hEN) hCL (zz_PLu hsk (Or.inl hV) hPL) hLO ⟨hb, ?_, hct.2.2.1, by omega, by omega⟩ hSK.2 hC hEV rfl ?_ (by omega))⟩
  · show ne + (0 + zz_pt fs) ≤ sN; omega
  · exact ⟨by omega, ht, hb, sc, e, j, q, us, st, he, hEV, hJ, hKR, (Or.inr (Or.inr (Or.inr (Or.inr (Or.inr (Or.inr (Or.inl (⟨hk, rfl, ho2, ee, ⟨_, rfl, Or.inl ⟨rfl, _, h32, rfl, rfl, hpl, hpw⟩, Or.inl ⟨rfl, rfl⟩⟩, rfl, rfl⟩))))))))⟩
theorem zg_GL (hST : zz_ST xdrafted xspecial xdefined Xdraft XdraftValues Xop Xarg Xparameter Ykinds Ynumbers Yends Ylengths Yparameters Yspecial) (hYW : zz_YW YworkToken YworkPhase YworkEnv YkeptKind YkeptValue YboundPlace YoldKind YoldValue YoldBuffer ((t, 0, xenv, kk, kv, -1, ok, ov, b, g) :: fs)) (hXW : zz_XW Xwhat Xfirst Xsecond Xthird Xkept us) (hEN : zz_EN ne nc Xparent Xcell YplaceOf YnextOf YplaceKind YplaceValue) (hCL : zz_CL Xop Xarg Ykinds Ynumbers Yends Yspecial ne YsymbolOf YnextOf nc Xbodies Xbinds Xscopes YclosureSymbol YclosureBody YclosureEnv) (hPL : zz_PL nc Xplace YplaceKind YplaceValue Ythere) (hLO : zz_LO Xlocals Ythere) (hct : b < 3 ∧ ne + (g + zz_pt fs) ≤ sN ∧ fs.length + 1 ≤ sN ∧ nc ≤ sN ∧ sN ≤ 300) (hV : zz_V nc ykind yvalue) (hpc : pc < 1280) (ht : t < 240) (he : e < 1280) (hJ : zz_J Xop Xarg j e q) (hm : (301 - sN) * 1000 + 500 + fs.length ≤ m) (hSK : zz_R Xstack (fun x => x) (zz_en ykind yvalue :: st)) (hEV : zz_EV ne YsymbolOf YnextOf sc xenv) (hKR : zz_KR Xop Xarg Ykinds Ynumbers Yends Yspecial ne YsymbolOf YnextOf nc fs q us st xenv b) {s t2 e2 : Nat} (hk : Ykinds t = 3) (hs : s < 8) (hn : Ynumbers t = nI s) (ht1 : t + 1 < 240) (hE : Yends (t + 1) = nI t2) (ho : Xop pc = 21) (ha : Xarg pc = nI s) (hC : zz_CE Xop Xarg Ykinds Ynumbers Yends Yspecial t2 (pc + 1) e2 (zz_ex Yspecial s sc)) (ho2 : Xop e2 = 22) (ee : e = e2 + 1) (hg : g = 1) (hz : Yspecial s = 0) : zz_O m (xdrafted, xspecial, xdefined, xhere, xdepth, xscoped, nI ne, nI nc, nI (st.length + 1), nI us.length, nI pc, xenv, nI b, nI sN, 0, 1, xgiven, xclosed, Xdraft, XdraftValues, Xop, Xarg, Xparameter, Xwaiting, Xdone, Xhole, Xscope, Xplace, Xlocals, Xstack, Xcell, Xparent, Xbodies, Xbinds, Xscopes, Xwhat, Xfirst, Xsecond, Xthird, Xkept) (nI ne, nI nc, nI (fs.length + 1), nI b, nI sN, 0, yat, yenv, ykind, yvalue, ycode, ytag, yresultKind, yresultValue, Ykinds, Ynumbers, Yends, Ylengths, Yparameters, Yspecial, YplaceKind, YplaceValue, Ythere, YsymbolOf, YplaceOf, YnextOf, YclosureSymbol, YclosureBody, YclosureEnv, YworkToken, YworkPhase, YworkEnv, YkeptKind, YkeptValue, YboundPlace, YoldKind, YoldValue, YoldBuffer) := by
  obtain ⟨y1, y2, y3, y4, y5, y6, y7, y8, y9⟩ := zz_YWh hYW
  have y1 : YworkToken fs.length = nI t := y1
  have y2 : YworkPhase fs.length = nI 0 := y2
  have y3 : YworkEnv fs.length = xenv := y3
  have y4 : YkeptKind fs.length = kk := y4
  have y5 : YkeptValue fs.length = kv := y5
  have y6 : YboundPlace fs.length = -1 := y6
  have y7 : YoldKind fs.length = ok := y7
  have y8 : YoldValue fs.length = ov := y8
  have y9 : YoldBuffer fs.length = nI b := y9
  have hYW0 := zz_YWt hYW
  have lu := zz_KRl _ _ _ _ _ _ hKR
  have hsk : Xstack st.length = zz_en ykind yvalue := hSK.1
  have hb := hct.1
  have ce := zz_CEb hC
  have hev := zz_EVe (by omega) hEV
  have hX : zx_S (xdrafted, xspecial, xdefined, xhere, xdepth, xscoped, nI ne, nI nc, nI (st.length + 1), nI us.length, nI pc, xenv, nI b, nI sN, 0, 1, xgiven, xclosed, Xdraft, XdraftValues, Xop, Xarg, Xparameter, Xwaiting, Xdone, Xhole, Xscope, Xplace, Xlocals, Xstack, Xcell, Xparent, Xbodies, Xbinds, Xscopes, Xwhat, Xfirst, Xsecond, Xthird, Xkept) (xdrafted, xspecial, xdefined, xhere, xdepth, xscoped, nI (ne + 1), nI nc, nI st.length, nI (us.length + 1), nI (pc + 1), nI ne, nI b, nI sN, 0, 1, xgiven, xclosed, Xdraft, XdraftValues, Xop, Xarg, Xparameter, Xwaiting, Xdone, Xhole, Xscope, Xplace, Xlocals, Xstack, vp_updL Xcell ne (Xstack st.length), upd Xparent ne xenv, Xbodies, Xbinds, Xscopes, upd Xwhat us.length (nI 2), upd Xfirst us.length xenv, upd Xsecond us.length 0, upd Xthird us.length 0, vp_updL Xkept us.length 0) := zx_SG (zx_letL hpc (by omega) (by omega) (by omega) hs hev hST.2.1 hz ho ha)
  have hY : zy_S (nI ne, nI nc, nI (fs.length + 1), nI b, nI sN, 0, yat, yenv, ykind, yvalue, ycode, ytag, yresultKind, yresultValue, Ykinds, Ynumbers, Yends, Ylengths, Yparameters, Yspecial, YplaceKind, YplaceValue, Ythere, YsymbolOf, YplaceOf, YnextOf, YclosureSymbol, YclosureBody, YclosureEnv, YworkToken, YworkPhase, YworkEnv, YkeptKind, YkeptValue, YboundPlace, YoldKind, YoldValue, YoldBuffer) (nI (ne + 1), nI nc, nI (fs.length + 1), nI b, nI sN, 1, nI t2, nI ne, ykind, yvalue, ycode, ytag, yresultKind, yresultValue, Ykinds, Ynumbers, Yends, Ylengths, Yparameters, Yspecial, upd YplaceKind (32 + ne) ykind, upd YplaceValue (32 + ne) yvalue, Ythere, upd YsymbolOf ne (nI s), upd YplaceOf ne (nI (32 + ne)), upd YnextOf ne (YworkEnv fs.length), YclosureSymbol, YclosureBody, YclosureEnv, YworkToken, upd YworkPhase fs.length (nI 1), YworkEnv, YkeptKind, YkeptValue, YboundPlace, YoldKind, YoldValue, YoldBuffer) := zy_SG (by omega) (zy_glet (by omega) ht1 y1 hk y2 hE (fun Q HQ => by rw [hn]; exact zy_bindL hs (by omega) hz HQ))
  rw [y3] at hY
  refine ⟨_, _, hX, hY, Or.inl (zz_SBi (ne := ne + 1) (j := 0) (q := e2) (fs := (t, 1, xenv, kk, kv, -1, ok, ov, b, 0) :: fs) (us := (2, xenv, 0, 0, 0) :: us) (st := st) hST (zz_YWf 1 0 hYW) (zz_XWp 2 _ _ _ _ hXW) (zz_ENn hsk hV hev hEN) (zz_CLm (Nat.le_succ _) zz_updne hCL) (zz_PLh (by omega) hPL) hLO ⟨hb, ?_, hct.2.2.1, by omega, by omega⟩ hSK.2 hC (zz_EVx hs hz hEV) rfl ?_ (by omega))⟩
  · show ne + 1 + (0 + zz_pt fs) ≤ sN; omega
  · exact ⟨by omega, ht, hb, sc, e, j, q, us, st, he, zz_EVm (Nat.le_succ _) zz_updne _ _ hEV, hJ, zz_KRm (Nat.le_succ _) zz_updne (Nat.le_refl _) _ _ _ _ _ _ hKR, (Or.inr (Or.inr (Or.inr (Or.inr (Or.inr (Or.inr (Or.inl (⟨hk, rfl, ho2, ee, ⟨_, rfl, Or.inr ⟨rfl, rfl⟩, Or.inr ⟨rfl, rfl⟩⟩, rfl, rfl⟩))))))))⟩
/-! NAMED -/
theorem zg_B6S (hST : zz_ST xdrafted xspecial xdefined Xdraft XdraftValues Xop Xarg Xparameter Ykinds Ynumbers Yends Ylengths Yparameters Yspecial) (hYW : zz_YW YworkToken YworkPhase YworkEnv YkeptKind YkeptValue YboundPlace YoldKind YoldValue YoldBuffer ((t, 0, xenv, kk, kv, -1, ok, ov, b, g) :: fs)) (hXW : zz_XW Xwhat Xfirst Xsecond Xthird Xkept us) (hEN : zz_EN ne nc Xparent Xcell YplaceOf YnextOf YplaceKind YplaceValue) (hCL : zz_CL Xop Xarg Ykinds Ynumbers Yends Yspecial ne YsymbolOf YnextOf nc Xbodies Xbinds Xscopes YclosureSymbol YclosureBody YclosureEnv) (hPL : zz_PL nc Xplace YplaceKind YplaceValue Ythere) (hLO : zz_LO Xlocals Ythere) (hct : b < 3 ∧ ne + (g + zz_pt fs) ≤ sN ∧ fs.length + 1 ≤ sN ∧ nc ≤ sN ∧ sN ≤ 300) (hV : zz_V nc ykind yvalue) (hpc : pc < 1280) (ht : t < 240) (he : e < 1280) (hJ : zz_J Xop Xarg j e q) (hm : (301 - sN) * 1000 + 500 + fs.length ≤ m) (hSK : zz_R Xstack (fun x => x) (zz_en ykind yvalue :: st)) (hEV : zz_EV ne YsymbolOf YnextOf sc xenv) (hKR : zz_KR Xop Xarg Ykinds Ynumbers Yends Yspecial ne YsymbolOf YnextOf nc fs q us st xenv b) {s s0 n e1 : Nat} (hk : Ykinds t = 6) (hs : s < 4) (hn : Ynumbers t = nI s) (ho : Xop pc = 6) (ha : Xarg pc = nI s) (ee : e = pc + 1) (hg : g = 1) (hL : ¬ Ylengths s = 0) (hs0 : s0 < 8) (hpx : Xparameter s = nI s0) (hpy : Yparameters s = nI s0) (hC : zz_CD Xop Xarg Ykinds Ynumbers Yends Yspecial s n (48 * s) (256 * s) e1 (zz_ex Yspecial s0 [])) (ho2 : Xop e1 = 24) (hz : ¬ Yspecial s0 = 0) : zz_O m (xdrafted, xspecial, xdefined, xhere, xdepth, xscoped, nI ne, nI nc, nI (st.length + 1), nI us.length, nI pc, xenv, nI b, nI sN, 0, 1, xgiven, xclosed, Xdraft, XdraftValues, Xop, Xarg, Xparameter, Xwaiting, Xdone, Xhole, Xscope, Xplace, Xlocals, Xstack, Xcell, Xparent, Xbodies, Xbinds, Xscopes, Xwhat, Xfirst, Xsecond, Xthird, Xkept) (nI ne, nI nc, nI (fs.length + 1), nI b, nI sN, 0, yat, yenv, ykind, yvalue, ycode, ytag, yresultKind, yresultValue, Ykinds, Ynumbers, Yends, Ylengths, Yparameters, Yspecial, YplaceKind, YplaceValue, Ythere, YsymbolOf, YplaceOf, YnextOf, YclosureSymbol, YclosureBody, YclosureEnv, YworkToken, YworkPhase, YworkEnv, YkeptKind, YkeptValue, YboundPlace, YoldKind, YoldValue, YoldBuffer) := by
  obtain ⟨y1, y2, y3, y4, y5, y6, y7, y8, y9⟩ := zz_YWh hYW
  have y1 : YworkToken fs.length = nI t := y1
  have y2 : YworkPhase fs.length = nI 0 := y2
  have y3 : YworkEnv fs.length = xenv := y3
  have y4 : YkeptKind fs.length = kk := y4
  have y5 : YkeptValue fs.length = kv := y5
  have y6 : YboundPlace fs.length = -1 := y6
  have y7 : YoldKind fs.length = ok := y7
  have y8 : YoldValue fs.length = ov := y8
  have y9 : YoldBuffer fs.length = nI b := y9
  have hYW0 := zz_YWt hYW
  have lu := zz_KRl _ _ _ _ _ _ hKR
  have hsk : Xstack st.length = zz_en ykind yvalue := hSK.1
  have hb := hct.1
  have hC : zz_CE Xop Xarg Ykinds Ynumbers Yends Yspecial (48 * s) (256 * s) e1 (zz_ex Yspecial s0 []) := ⟨s, n, by omega, hC⟩
  have ce := zz_CEb hC
  have hdf : bt xdefined s = true := (hST.2.2 s hs).1.mpr hL
  have h32 := zz_pr32 (L := Xlocals) hb hs0
  obtain ⟨hpl, hpw⟩ := hPL (zz_pr Xlocals b s0) h32 (zz_prv hb hs0 hLO)
  have hX : zx_S (xdrafted, xspecial, xdefined, xhere, xdepth, xscoped, nI ne, nI nc, nI (st.length + 1), nI us.length, nI pc, xenv, nI b, nI sN, 0, 1, xgiven, xclosed, Xdraft, XdraftValues, Xop, Xarg, Xparameter, Xwaiting, Xdone, Xhole, Xscope, Xplace, Xlocals, Xstack, Xcell, Xparent, Xbodies, Xbinds, Xscopes, Xwhat, Xfirst, Xsecond, Xthird, Xkept) (xdrafted, xspecial, xdefined, xhere, xdepth, xscoped, nI ne, nI nc, nI st.length, nI (us.length + 1 + 1), nI (256 * s), -1, nI b, nI sN, 0, 1, xgiven, xclosed, Xdraft, XdraftValues, Xop, Xarg, Xparameter, Xwaiting, Xdone, Xhole, Xscope, vp_updL Xplace (zz_pr Xlocals b s0) (Xstack st.length), Xlocals, Xstack, Xcell, Xparent, Xbodies, Xbinds, Xscopes, upd (upd Xwhat us.length (nI 0)) (us.length + 1) (nI 1), upd (upd Xfirst us.length (nI (pc + 1))) (us.length + 1) (nI (zz_pr Xlocals b s0)), upd (upd Xsecond us.length xenv) (us.length + 1) 0, upd (upd Xthird us.length 0) (us.length + 1) 0, vp_updL (vp_updL Xkept us.length 0) (us.length + 1) (Xplace (zz_pr Xlocals b s0))) := zx_SG (zx_named hpc hb (by omega) hs ho ha hdf hpx (fun Q HQ => zx_enterS hST.2.1 hs0 hb (by omega) hz HQ))
  have hY : zy_S (nI ne, nI nc, nI (fs.length + 1), nI b, nI sN, 0, yat, yenv, ykind, yvalue, ycode, ytag, yresultKind, yresultValue, Ykinds, Ynumbers, Yends, Ylengths, Yparameters, Yspecial, YplaceKind, YplaceValue, Ythere, YsymbolOf, YplaceOf, YnextOf, YclosureSymbol, YclosureBody, YclosureEnv, YworkToken, YworkPhase, YworkEnv, YkeptKind, YkeptValue, YboundPlace, YoldKind, YoldValue, YoldBuffer) (nI ne, nI nc, nI (fs.length + 1), nI b, nI sN, 1, nI (48 * s), -1, ykind, yvalue, ycode, ytag, yresultKind, yresultValue, Ykinds, Ynumbers, Yends, Ylengths, Yparameters, Yspecial, upd YplaceKind (zz_pr Xlocals b s0) ykind, upd YplaceValue (zz_pr Xlocals b s0) yvalue, Ythere, YsymbolOf, YplaceOf, YnextOf, YclosureSymbol, YclosureBody, YclosureEnv, YworkToken, upd YworkPhase fs.length (nI 1), YworkEnv, YkeptKind, YkeptValue, upd YboundPlace fs.length (nI (zz_pr Xlocals b s0)), upd YoldKind fs.length (YplaceKind (zz_pr Xlocals b s0)), upd YoldValue fs.length (YplaceValue (zz_pr Xlocals b s0)), YoldBuffer) := zy_SG (by omega) (zy_gnamed (by omega) ht y1 hk y2 hn (fun Q HQ => zy_namedB hs hL hpy (fun Q HQ => zy_bindS (by omega) hs0 (by omega) hz (fun Q HQ => zy_pres hb hs0 hLO HQ) HQ) HQ))
  rw [zz_exn hz] at hC
  refine ⟨_, _, hX, hY, Or.inl (zz_SBi (j := 0) (q := e1) (fs := (t, 1, xenv, kk, kv, nI (zz_pr Xlocals b s0), YplaceKind (zz_pr Xlocals b s0), YplaceValue (zz_pr Xlocals b s0), b, 0) :: fs) (us := (1, nI (zz_pr Xlocals b s0), 0, 0, Xplace (zz_pr Xlocals b s0)) :: (0, nI (pc + 1), xenv, 0, 0) :: us) (st := st) hST (zz_YWb 1 0 _ _ _ hYW) (zz_XWp 1 _ _ _ _ (zz_XWp 0 _ _ _ _ hXW)) (zz_ENl h32 hEN) hCL (zz_PLu hsk (Or.inl hV) hPL) hLO ⟨hb, ?_, hct.2.2.1, by omega, by omega⟩ hSK.2 hC rfl rfl ?_ (by omega))⟩
  · show ne + (0 + zz_pt fs) ≤ sN; omega
  · subst ee
    exact ⟨by omega, ht, hb, sc, pc + 1, j, q, us, st, he, hEV, hJ, hKR, (Or.inr (Or.inr (Or.inr (Or.inr (Or.inl (⟨Or.inr ⟨hk, rfl⟩, ho2, ⟨_, rfl, Or.inl ⟨rfl, _, h32, rfl, rfl, hpl, hpw⟩⟩, rfl, rfl⟩))))))⟩
theorem zg_B6L (hST : zz_ST xdrafted xspecial xdefined Xdraft XdraftValues Xop Xarg Xparameter Ykinds Ynumbers Yends Ylengths Yparameters Yspecial) (hYW : zz_YW YworkToken YworkPhase YworkEnv YkeptKind YkeptValue YboundPlace YoldKind YoldValue YoldBuffer ((t, 0, xenv, kk, kv, -1, ok, ov, b, g) :: fs)) (hXW : zz_XW Xwhat Xfirst Xsecond Xthird Xkept us) (hEN : zz_EN ne nc Xparent Xcell YplaceOf YnextOf YplaceKind YplaceValue) (hCL : zz_CL Xop Xarg Ykinds Ynumbers Yends Yspecial ne YsymbolOf YnextOf nc Xbodies Xbinds Xscopes YclosureSymbol YclosureBody YclosureEnv) (hPL : zz_PL nc Xplace YplaceKind YplaceValue Ythere) (hLO : zz_LO Xlocals Ythere) (hct : b < 3 ∧ ne + (g + zz_pt fs) ≤ sN ∧ fs.length + 1 ≤ sN ∧ nc ≤ sN ∧ sN ≤ 300) (hV : zz_V nc ykind yvalue) (hpc : pc < 1280) (ht : t < 240) (he : e < 1280) (hJ : zz_J Xop Xarg j e q) (hm : (301 - sN) * 1000 + 500 + fs.length ≤ m) (hSK : zz_R Xstack (fun x => x) (zz_en ykind yvalue :: st)) (hEV : zz_EV ne YsymbolOf YnextOf sc xenv) (hKR : zz_KR Xop Xarg Ykinds Ynumbers Yends Yspecial ne YsymbolOf YnextOf nc fs q us st xenv b) {s s0 n e1 : Nat} (hk : Ykinds t = 6) (hs : s < 4) (hn : Ynumbers t = nI s) (ho : Xop pc = 6) (ha : Xarg pc = nI s) (ee : e = pc + 1) (hg : g = 1) (hL : ¬ Ylengths s = 0) (hs0 : s0 < 8) (hpx : Xparameter s = nI s0) (hpy : Yparameters s = nI s0) (hC : zz_CD Xop Xarg Ykinds Ynumbers Yends Yspecial s n (48 * s) (256 * s) e1 (zz_ex Yspecial s0 [])) (ho2 : Xop e1 = 24) (hz : Yspecial s0 = 0) : zz_O m (xdrafted, xspecial, xdefined, xhere, xdepth, xscoped, nI ne, nI nc, nI (st.length + 1), nI us.length, nI pc, xenv, nI b, nI sN, 0, 1, xgiven, xclosed, Xdraft, XdraftValues, Xop, Xarg, Xparameter, Xwaiting, Xdone, Xhole, Xscope, Xplace, Xlocals, Xstack, Xcell, Xparent, Xbodies, Xbinds, Xscopes, Xwhat, Xfirst, Xsecond, Xthird, Xkept) (nI ne, nI nc, nI (fs.length + 1), nI b, nI sN, 0, yat, yenv, ykind, yvalue, ycode, ytag, yresultKind, yresultValue, Ykinds, Ynumbers, Yends, Ylengths, Yparameters, Yspecial, YplaceKind, YplaceValue, Ythere, YsymbolOf, YplaceOf, YnextOf, YclosureSymbol, YclosureBody, YclosureEnv, YworkToken, YworkPhase, YworkEnv, YkeptKind, YkeptValue, YboundPlace, YoldKind, YoldValue, YoldBuffer) := by
  obtain ⟨y1, y2, y3, y4, y5, y6, y7, y8, y9⟩ := zz_YWh hYW
  have y1 : YworkToken fs.length = nI t := y1
  have y2 : YworkPhase fs.length = nI 0 := y2
  have y3 : YworkEnv fs.length = xenv := y3
  have y4 : YkeptKind fs.length = kk := y4
  have y5 : YkeptValue fs.length = kv := y5
  have y6 : YboundPlace fs.length = -1 := y6
  have y7 : YoldKind fs.length = ok := y7
  have y8 : YoldValue fs.length = ov := y8
  have y9 : YoldBuffer fs.length = nI b := y9
  have hYW0 := zz_YWt hYW
  have lu := zz_KRl _ _ _ _ _ _ hKR
  have hsk : Xstack st.length = zz_en ykind yvalue := hSK.1
  have hb := hct.1
  have hC : zz_CE Xop Xarg Ykinds Ynumbers Yends Yspecial (48 * s) (256 * s) e1 (zz_ex Yspecial s0 []) := ⟨s, n, by omega, hC⟩
  have ce := zz_CEb hC
  have hdf : bt xdefined s = true := (hST.2.2 s hs).1.mpr hL
  have hev : zz_ev (-1) := Or.inl rfl
  have hX : zx_S (xdrafted, xspecial, xdefined, xhere, xdepth, xscoped, nI ne, nI nc, nI (st.length + 1), nI us.length, nI pc, xenv, nI b, nI sN, 0, 1, xgiven, xclosed, Xdraft, XdraftValues, Xop, Xarg, Xparameter, Xwaiting, Xdone, Xhole, Xscope, Xplace, Xlocals, Xstack, Xcell, Xparent, Xbodies, Xbinds, Xscopes, Xwhat, Xfirst, Xsecond, Xthird, Xkept) (xdrafted, xspecial, xdefined, xhere, xdepth, xscoped, nI (ne + 1), nI nc, nI st.length, nI (us.length + 1 + 1), nI (256 * s), nI ne, nI b, nI sN, 0, 1, xgiven, xclosed, Xdraft, XdraftValues, Xop, Xarg, Xparameter, Xwaiting, Xdone, Xhole, Xscope, Xplace, Xlocals, Xstack, vp_updL Xcell ne (Xstack st.length), upd Xparent ne (-1), Xbodies, Xbinds, Xscopes, upd (upd Xwhat us.length (nI 0)) (us.length + 1) (nI 2), upd (upd Xfirst us.length (nI (pc + 1))) (us.length + 1) (-1), upd (upd Xsecond us.length xenv) (us.length + 1) 0, upd (upd Xthird us.length 0) (us.length + 1) 0, vp_updL (vp_updL Xkept us.length 0) (us.length + 1) 0) := zx_SG (zx_named hpc hb (by omega) hs ho ha hdf hpx (fun Q HQ => zx_enterL hST.2.1 hs0 (by omega) (by omega) hev hz HQ))
  have hY : zy_S (nI ne, nI nc, nI (fs.length + 1), nI b, nI sN, 0, yat, yenv, ykind, yvalue, ycode, ytag, yresultKind, yresultValue, Ykinds, Ynumbers, Yends, Ylengths, Yparameters, Yspecial, YplaceKind, YplaceValue, Ythere, YsymbolOf, YplaceOf, YnextOf, YclosureSymbol, YclosureBody, YclosureEnv, YworkToken, YworkPhase, YworkEnv, YkeptKind, YkeptValue, YboundPlace, YoldKind, YoldValue, YoldBuffer) (nI (ne + 1), nI nc, nI (fs.length + 1), nI b, nI sN, 1, nI (48 * s), nI ne, ykind, yvalue, ycode, ytag, yresultKind, yresultValue, Ykinds, Ynumbers, Yends, Ylengths, Yparameters, Yspecial, upd YplaceKind (32 + ne) ykind, upd YplaceValue (32 + ne) yvalue, Ythere, upd YsymbolOf ne (nI s0), upd YplaceOf ne (nI (32 + ne)), upd YnextOf ne (-1), YclosureSymbol, YclosureBody, YclosureEnv, YworkToken, upd YworkPhase fs.length (nI 1), YworkEnv, YkeptKind, YkeptValue, YboundPlace, YoldKind, YoldValue, YoldBuffer) := zy_SG (by omega) (zy_gnamed (by omega) ht y1 hk y2 hn (fun Q HQ => zy_namedB hs hL hpy (fun Q HQ => zy_bindL hs0 (by omega) hz HQ) HQ))
  refine ⟨_, _, hX, hY, Or.inl (zz_SBi (ne := ne + 1) (j := 0) (q := e1) (fs := (t, 1, xenv, kk, kv, -1, ok, ov, b, 0) :: fs) (us := (2, -1, 0, 0, 0) :: (0, nI (pc + 1), xenv, 0, 0) :: us) (st := st) hST (zz_YWf 1 0 hYW) (zz_XWp 2 _ _ _ _ (zz_XWp 0 _ _ _ _ hXW)) (zz_ENn hsk hV hev hEN) (zz_CLm (Nat.le_succ _) zz_updne hCL) (zz_PLh (by omega) hPL) hLO ⟨hb, ?_, hct.2.2.1, by omega, by omega⟩ hSK.2 hC (zz_EVx hs0 hz (sc := []) rfl) rfl ?_ (by omega))⟩
  · show ne + 1 + (0 + zz_pt fs) ≤ sN; omega
  · subst ee
    exact ⟨by omega, ht, hb, sc, pc + 1, j, q, us, st, he, zz_EVm (Nat.le_succ _) zz_updne _ _ hEV, hJ, zz_KRm (Nat.le_succ _) zz_updne (Nat.le_refl _) _ _ _ _ _ _ hKR, (Or.inr (Or.inr (Or.inr (Or.inr (Or.inl (⟨Or.inr ⟨hk, rfl⟩, ho2, ⟨_, rfl, Or.inr ⟨rfl, rfl⟩⟩, rfl, rfl⟩))))))⟩
/-! CALL -/
theorem zg_DcS (hST : zz_ST xdrafted xspecial xdefined Xdraft XdraftValues Xop Xarg Xparameter Ykinds Ynumbers Yends Ylengths Yparameters Yspecial) (hYW : zz_YW YworkToken YworkPhase YworkEnv YkeptKind YkeptValue YboundPlace YoldKind YoldValue YoldBuffer ((t, 1, xenv, kk, kv, -1, ok, ov, b, g) :: fs)) (hXW : zz_XW Xwhat Xfirst Xsecond Xthird Xkept us) (hEN : zz_EN ne nc Xparent Xcell YplaceOf YnextOf YplaceKind YplaceValue) (hCL : zz_CL Xop Xarg Ykinds Ynumbers Yends Yspecial ne YsymbolOf YnextOf nc Xbodies Xbinds Xscopes YclosureSymbol YclosureBody YclosureEnv) (hPL : zz_PL nc Xplace YplaceKind YplaceValue Ythere) (hLO : zz_LO Xlocals Ythere) (hct : b < 3 ∧ ne + (g + zz_pt fs) ≤ sN ∧ fs.length + 1 ≤ sN ∧ nc ≤ sN ∧ sN ≤ 300) (hV : zz_V nc ykind yvalue) (hpc : pc < 1280) (ht : t < 240) (he : e < 1280) (hJ : zz_J Xop Xarg j e q) (hm : (301 - sN) * 1000 + 500 + fs.length ≤ m) (hSK : zz_R Xstack (fun x => x) (zz_en ykind yvalue :: zz_en kk kv :: st)) (hEV : zz_EV ne YsymbolOf YnextOf sc xenv) (hKR : zz_KR Xop Xarg Ykinds Ynumbers Yends Yspecial ne YsymbolOf YnextOf nc fs q us st xenv b) (hVk : zz_V nc kk kv) {c s0 t1 a1 e1 : Nat} {sc1 : List Nat} (hk : Ykinds t = 5) (ho : Xop pc = 5) (ee : e = pc + 1) (hg : g = 1) (hkk : kk = 1) (hkv : kv = nI c) (hc : c < nc) (hs0 : s0 < 8) (d1 : YclosureSymbol c = nI s0) (d2 : Xbinds c = nI s0) (d3 : YclosureBody c = nI t1) (d4 : Xbodies c = nI a1) (d5 : Xscopes c = YclosureEnv c) (hC : zz_CE Xop Xarg Ykinds Ynumbers Yends Yspecial t1 a1 e1 (zz_ex Yspecial s0 sc1)) (ho2 : Xop e1 = 24) (hE1 : zz_EV ne YsymbolOf YnextOf sc1 (YclosureEnv c)) (hz : ¬ Yspecial s0 = 0) : zz_O m (xdrafted, xspecial, xdefined, xhere, xdepth, xscoped, nI ne, nI nc, nI (st.length + 1 + 1), nI us.length, nI pc, xenv, nI b, nI sN, 0, 1, xgiven, xclosed, Xdraft, XdraftValues, Xop, Xarg, Xparameter, Xwaiting, Xdone, Xhole, Xscope, Xplace, Xlocals, Xstack, Xcell, Xparent, Xbodies, Xbinds, Xscopes, Xwhat, Xfirst, Xsecond, Xthird, Xkept) (nI ne, nI nc, nI (fs.length + 1), nI b, nI sN, 0, yat, yenv, ykind, yvalue, ycode, ytag, yresultKind, yresultValue, Ykinds, Ynumbers, Yends, Ylengths, Yparameters, Yspecial, YplaceKind, YplaceValue, Ythere, YsymbolOf, YplaceOf, YnextOf, YclosureSymbol, YclosureBody, YclosureEnv, YworkToken, YworkPhase, YworkEnv, YkeptKind, YkeptValue, YboundPlace, YoldKind, YoldValue, YoldBuffer) := by
  obtain ⟨y1, y2, y3, y4, y5, y6, y7, y8, y9⟩ := zz_YWh hYW
  have y1 : YworkToken fs.length = nI t := y1
  have y2 : YworkPhase fs.length = nI 1 := y2
  have y3 : YworkEnv fs.length = xenv := y3
  have y4 : YkeptKind fs.length = kk := y4
  have y5 : YkeptValue fs.length = kv := y5
  have y6 : YboundPlace fs.length = -1 := y6
  have y9 : YoldBuffer fs.length = nI b := y9
  have hYW0 := zz_YWt hYW
  have lu := zz_KRl _ _ _ _ _ _ hKR
  have hs1 : Xstack (st.length + 1) = zz_en ykind yvalue := hSK.1
  have hs2 : Xstack st.length = zz_en kk kv := hSK.2.1
  have hb := hct.1
  have ce := zz_CEb hC
  have h32 := zz_pr32 (L := Xlocals) hb hs0
  obtain ⟨hpl, hpw⟩ := hPL (zz_pr Xlocals b s0) h32 (zz_prv hb hs0 hLO)
  have hX : zx_S (xdrafted, xspecial, xdefined, xhere, xdepth, xscoped, nI ne, nI nc, nI (st.length + 1 + 1), nI us.length, nI pc, xenv, nI b, nI sN, 0, 1, xgiven, xclosed, Xdraft, XdraftValues, Xop, Xarg, Xparameter, Xwaiting, Xdone, Xhole, Xscope, Xplace, Xlocals, Xstack, Xcell, Xparent, Xbodies, Xbinds, Xscopes, Xwhat, Xfirst, Xsecond, Xthird, Xkept) (xdrafted, xspecial, xdefined, xhere, xdepth, xscoped, nI ne, nI nc, nI st.length, nI (us.length + 1 + 1), nI a1, YclosureEnv c, nI b, nI sN, 0, 1, xgiven, xclosed, Xdraft, XdraftValues, Xop, Xarg, Xparameter, Xwaiting, Xdone, Xhole, Xscope, vp_updL Xplace (zz_pr Xlocals b s0) (Xstack (st.length + 1)), Xlocals, Xstack, Xcell, Xparent, Xbodies, Xbinds, Xscopes, upd (upd Xwhat us.length (nI 0)) (us.length + 1) (nI 1), upd (upd Xfirst us.length (nI (pc + 1))) (us.length + 1) (nI (zz_pr Xlocals b s0)), upd (upd Xsecond us.length xenv) (us.length + 1) 0, upd (upd Xthird us.length 0) (us.length + 1) 0, vp_updL (vp_updL Xkept us.length 0) (us.length + 1) (Xplace (zz_pr Xlocals b s0))) := zx_SG (zx_call (c := c) hpc hb (by omega) (by omega) ho (by rw [hs2, hkk, hkv]) d4 d2 d5 (fun Q HQ => zx_enterS hST.2.1 hs0 hb (by omega) hz HQ))
  have hY : zy_S (nI ne, nI nc, nI (fs.length + 1), nI b, nI sN, 0, yat, yenv, ykind, yvalue, ycode, ytag, yresultKind, yresultValue, Ykinds, Ynumbers, Yends, Ylengths, Yparameters, Yspecial, YplaceKind, YplaceValue, Ythere, YsymbolOf, YplaceOf, YnextOf, YclosureSymbol, YclosureBody, YclosureEnv, YworkToken, YworkPhase, YworkEnv, YkeptKind, YkeptValue, YboundPlace, YoldKind, YoldValue, YoldBuffer) (nI ne, nI nc, nI (fs.length + 1), nI b, nI sN, 1, nI t1, YclosureEnv c, ykind, yvalue, ycode, ytag, yresultKind, yresultValue, Ykinds, Ynumbers, Yends, Ylengths, Yparameters, Yspecial, upd YplaceKind (zz_pr Xlocals b s0) ykind, upd YplaceValue (zz_pr Xlocals b s0) yvalue, Ythere, YsymbolOf, YplaceOf, YnextOf, YclosureSymbol, YclosureBody, YclosureEnv, YworkToken, upd YworkPhase fs.length (nI 2), YworkEnv, YkeptKind, YkeptValue, upd YboundPlace fs.length (nI (zz_pr Xlocals b s0)), upd YoldKind fs.length (YplaceKind (zz_pr Xlocals b s0)), upd YoldValue fs.length (YplaceValue (zz_pr Xlocals b s0)), YoldBuffer) := zy_SG (by omega) (zy_gcall (c := c) (by omega) ht (by omega) y1 hk y2 (y4.trans hkk) (y5.trans hkv) d1 d3 rfl (fun Q HQ => zy_bindS (by omega) hs0 (by omega) hz (fun Q HQ => zy_pres hb hs0 hLO HQ) HQ))
  rw [zz_exn hz] at hC
  refine ⟨_, _, hX, hY, Or.inl (zz_SBi (j := 0) (q := e1) (fs := (t, 2, xenv, kk, kv, nI (zz_pr Xlocals b s0), YplaceKind (zz_pr Xlocals b s0), YplaceValue (zz_pr Xlocals b s0), b, 0) :: fs) (us := (1, nI (zz_pr Xlocals b s0), 0, 0, Xplace (zz_pr Xlocals b s0)) :: (0, nI (pc + 1), xenv, 0, 0) :: us) (st := st) hST (zz_YWb 2 0 _ _ _ hYW) (zz_XWp 1 _ _ _ _ (zz_XWp 0 _ _ _ _ hXW)) (zz_ENl h32 hEN) hCL (zz_PLu hs1 (Or.inl hV) hPL) hLO ⟨hb, ?_, hct.2.2.1, by omega, by omega⟩ hSK.2.2 hC hE1 rfl ?_ (by omega))⟩
  · show ne + (0 + zz_pt fs) ≤ sN; omega
  · subst ee
    exact ⟨by omega, ht, hb, sc, pc + 1, j, q, us, st, he, hEV, hJ, hKR, (Or.inr (Or.inr (Or.inr (Or.inr (Or.inl (⟨Or.inl ⟨hk, rfl⟩, ho2, ⟨_, rfl, Or.inl ⟨rfl, _, h32, rfl, rfl, hpl, hpw⟩⟩, rfl, rfl⟩))))))⟩
theorem zg_DcL (hST : zz_ST xdrafted xspecial xdefined Xdraft XdraftValues Xop Xarg Xparameter Ykinds Ynumbers Yends Ylengths Yparameters Yspecial) (hYW : zz_YW YworkToken YworkPhase YworkEnv YkeptKind YkeptValue YboundPlace YoldKind YoldValue YoldBuffer ((t, 1, xenv, kk, kv, -1, ok, ov, b, g) :: fs)) (hXW : zz_XW Xwhat Xfirst Xsecond Xthird Xkept us) (hEN : zz_EN ne nc Xparent Xcell YplaceOf YnextOf YplaceKind YplaceValue) (hCL : zz_CL Xop Xarg Ykinds Ynumbers Yends Yspecial ne YsymbolOf YnextOf nc Xbodies Xbinds Xscopes YclosureSymbol YclosureBody YclosureEnv) (hPL : zz_PL nc Xplace YplaceKind YplaceValue Ythere) (hLO : zz_LO Xlocals Ythere) (hct : b < 3 ∧ ne + (g + zz_pt fs) ≤ sN ∧ fs.length + 1 ≤ sN ∧ nc ≤ sN ∧ sN ≤ 300) (hV : zz_V nc ykind yvalue) (hpc : pc < 1280) (ht : t < 240) (he : e < 1280) (hJ : zz_J Xop Xarg j e q) (hm : (301 - sN) * 1000 + 500 + fs.length ≤ m) (hSK : zz_R Xstack (fun x => x) (zz_en ykind yvalue :: zz_en kk kv :: st)) (hEV : zz_EV ne YsymbolOf YnextOf sc xenv) (hKR : zz_KR Xop Xarg Ykinds Ynumbers Yends Yspecial ne YsymbolOf YnextOf nc fs q us st xenv b) (hVk : zz_V nc kk kv) {c s0 t1 a1 e1 : Nat} {sc1 : List Nat} (hk : Ykinds t = 5) (ho : Xop pc = 5) (ee : e = pc + 1) (hg : g = 1) (hkk : kk = 1) (hkv : kv = nI c) (hc : c < nc) (hs0 : s0 < 8) (d1 : YclosureSymbol c = nI s0) (d2 : Xbinds c = nI s0) (d3 : YclosureBody c = nI t1) (d4 : Xbodies c = nI a1) (d5 : Xscopes c = YclosureEnv c) (hC : zz_CE Xop Xarg Ykinds Ynumbers Yends Yspecial t1 a1 e1 (zz_ex Yspecial s0 sc1)) (ho2 : Xop e1 = 24) (hE1 : zz_EV ne YsymbolOf YnextOf sc1 (YclosureEnv c)) (hz : Yspecial s0 = 0) : zz_O m (xdrafted, xspecial, xdefined, xhere, xdepth, xscoped, nI ne, nI nc, nI (st.length + 1 + 1), nI us.length, nI pc, xenv, nI b, nI sN, 0, 1, xgiven, xclosed, Xdraft, XdraftValues, Xop, Xarg, Xparameter, Xwaiting, Xdone, Xhole, Xscope, Xplace, Xlocals, Xstack, Xcell, Xparent, Xbodies, Xbinds, Xscopes, Xwhat, Xfirst, Xsecond, Xthird, Xkept) (nI ne, nI nc, nI (fs.length + 1), nI b, nI sN, 0, yat, yenv, ykind, yvalue, ycode, ytag, yresultKind, yresultValue, Ykinds, Ynumbers, Yends, Ylengths, Yparameters, Yspecial, YplaceKind, YplaceValue, Ythere, YsymbolOf, YplaceOf, YnextOf, YclosureSymbol, YclosureBody, YclosureEnv, YworkToken, YworkPhase, YworkEnv, YkeptKind, YkeptValue, YboundPlace, YoldKind, YoldValue, YoldBuffer) := by
  obtain ⟨y1, y2, y3, y4, y5, y6, y7, y8, y9⟩ := zz_YWh hYW
  have y1 : YworkToken fs.length = nI t := y1
  have y2 : YworkPhase fs.length = nI 1 := y2
  have y3 : YworkEnv fs.length = xenv := y3
  have y4 : YkeptKind fs.length = kk := y4
  have y5 : YkeptValue fs.length = kv := y5
  have y6 : YboundPlace fs.length = -1 := y6
  have y9 : YoldBuffer fs.length = nI b := y9
  have hYW0 := zz_YWt hYW
  have lu := zz_KRl _ _ _ _ _ _ hKR
  have hs1 : Xstack (st.length + 1) = zz_en ykind yvalue := hSK.1
  have hs2 : Xstack st.length = zz_en kk kv := hSK.2.1
  have hb := hct.1
  have ce := zz_CEb hC
  have hev : zz_ev (YclosureEnv c) := zz_EVe (by omega) hE1
  have hX : zx_S (xdrafted, xspecial, xdefined, xhere, xdepth, xscoped, nI ne, nI nc, nI (st.length + 1 + 1), nI us.length, nI pc, xenv, nI b, nI sN, 0, 1, xgiven, xclosed, Xdraft, XdraftValues, Xop, Xarg, Xparameter, Xwaiting, Xdone, Xhole, Xscope, Xplace, Xlocals, Xstack, Xcell, Xparent, Xbodies, Xbinds, Xscopes, Xwhat, Xfirst, Xsecond, Xthird, Xkept) (xdrafted, xspecial, xdefined, xhere, xdepth, xscoped, nI (ne + 1), nI nc, nI st.length, nI (us.length + 1 + 1), nI a1, nI ne, nI b, nI sN, 0, 1, xgiven, xclosed, Xdraft, XdraftValues, Xop, Xarg, Xparameter, Xwaiting, Xdone, Xhole, Xscope, Xplace, Xlocals, Xstack, vp_updL Xcell ne (Xstack (st.length + 1)), upd Xparent ne (YclosureEnv c), Xbodies, Xbinds, Xscopes, upd (upd Xwhat us.length (nI 0)) (us.length + 1) (nI 2), upd (upd Xfirst us.length (nI (pc + 1))) (us.length + 1) (YclosureEnv c), upd (upd Xsecond us.length xenv) (us.length + 1) 0, upd (upd Xthird us.length 0) (us.length + 1) 0, vp_updL (vp_updL Xkept us.length 0) (us.length + 1) 0) := zx_SG (zx_call (c := c) hpc hb (by omega) (by omega) ho (by rw [hs2, hkk, hkv]) d4 d2 d5 (fun Q HQ => zx_enterL hST.2.1 hs0 (by omega) (by omega) hev hz HQ))
  have hY : zy_S (nI ne, nI nc, nI (fs.length + 1), nI b, nI sN, 0, yat, yenv, ykind, yvalue, ycode, ytag, yresultKind, yresultValue, Ykinds, Ynumbers, Yends, Ylengths, Yparameters, Yspecial, YplaceKind, YplaceValue, Ythere, YsymbolOf, YplaceOf, YnextOf, YclosureSymbol, YclosureBody, YclosureEnv, YworkToken, YworkPhase, YworkEnv, YkeptKind, YkeptValue, YboundPlace, YoldKind, YoldValue, YoldBuffer) (nI (ne + 1), nI nc, nI (fs.length + 1), nI b, nI sN, 1, nI t1, nI ne, ykind, yvalue, ycode, ytag, yresultKind, yresultValue, Ykinds, Ynumbers, Yends, Ylengths, Yparameters, Yspecial, upd YplaceKind (32 + ne) ykind, upd YplaceValue (32 + ne) yvalue, Ythere, upd YsymbolOf ne (nI s0), upd YplaceOf ne (nI (32 + ne)), upd YnextOf ne (YclosureEnv c), YclosureSymbol, YclosureBody, YclosureEnv, YworkToken, upd YworkPhase fs.length (nI 2), YworkEnv, YkeptKind, YkeptValue, YboundPlace, YoldKind, YoldValue, YoldBuffer) := zy_SG (by omega) (zy_gcall (c := c) (by omega) ht (by omega) y1 hk y2 (y4.trans hkk) (y5.trans hkv) d1 d3 rfl (fun Q HQ => zy_bindL hs0 (by omega) hz HQ))
  refine ⟨_, _, hX, hY, Or.inl (zz_SBi (ne := ne + 1) (j := 0) (q := e1) (fs := (t, 2, xenv, kk, kv, -1, ok, ov, b, 0) :: fs) (us := (2, YclosureEnv c, 0, 0, 0) :: (0, nI (pc + 1), xenv, 0, 0) :: us) (st := st) hST (zz_YWf 2 0 hYW) (zz_XWp 2 _ _ _ _ (zz_XWp 0 _ _ _ _ hXW)) (zz_ENn hs1 hV hev hEN) (zz_CLm (Nat.le_succ _) zz_updne hCL) (zz_PLh (by omega) hPL) hLO ⟨hb, ?_, hct.2.2.1, by omega, by omega⟩ hSK.2.2 hC (zz_EVx hs0 hz hE1) rfl ?_ (by omega))⟩
  · show ne + 1 + (0 + zz_pt fs) ≤ sN; omega
  · subst ee
    exact ⟨by omega, ht, hb, sc, pc + 1, j, q, us, st, he, zz_EVm (Nat.le_succ _) zz_updne _ _ hEV, hJ, zz_KRm (Nat.le_succ _) zz_updne (Nat.le_refl _) _ _ _ _ _ _ hKR, (Or.inr (Or.inr (Or.inr (Or.inr (Or.inl (⟨Or.inl ⟨hk, rfl⟩, ho2, ⟨_, rfl, Or.inr ⟨rfl, rfl⟩⟩, rfl, rfl⟩))))))⟩
end
end
section
theorem zz_Os {m : Nat} {u u1 : SX} {v : SY} (h : zx_S u u1) (H : zz_O m u1 v) : zz_O m u v := by
  obtain ⟨u2, v2, h1, h2, h3⟩ := H
  exact ⟨u2, v2, zx_St h h1, h2, h3⟩
section
variable {xdrafted xspecial xdefined xhere xdepth xscoped xcells xclosures xtop xundo xpc xenv xbuffer xtaken xoutcome xrunning xclosed : Int32} {xgiven : Int64} {Xdraft XdraftValues Xop Xarg Xparameter Xwaiting Xdone Xhole Xscope Xlocals Xparent Xbodies Xbinds Xscopes Xwhat Xfirst Xsecond Xthird : Nat → Int32} {Xplace Xstack Xcell Xkept : Nat → Int64} {yenvs yclosures ywork ybuffer ysteps ymode yat yenv ykind yvalue ycode ytag yresultKind yresultValue : Int32} {Ykinds Ynumbers Yends Ylengths Yparameters Yspecial YplaceKind YplaceValue Ythere YsymbolOf YplaceOf YnextOf YclosureSymbol YclosureBody YclosureEnv YworkToken YworkPhase YworkEnv YkeptKind YkeptValue YboundPlace YoldKind YoldValue YoldBuffer : Nat → Int32} {fs : List zz_YF} {us : List zz_XE} {st : List Int64} {b ne nc sN t a e j q m p : Nat} {sc : List Nat}
theorem zg_all (hST : zz_ST xdrafted xspecial xdefined Xdraft XdraftValues Xop Xarg Xparameter Ykinds Ynumbers Yends Ylengths Yparameters Yspecial) (hYW : zz_YW YworkToken YworkPhase YworkEnv YkeptKind YkeptValue YboundPlace YoldKind YoldValue YoldBuffer fs) (hXW : zz_XW Xwhat Xfirst Xsecond Xthird Xkept us) (hEN : zz_EN ne nc Xparent Xcell YplaceOf YnextOf YplaceKind YplaceValue) (hCL : zz_CL Xop Xarg Ykinds Ynumbers Yends Yspecial ne YsymbolOf YnextOf nc Xbodies Xbinds Xscopes YclosureSymbol YclosureBody YclosureEnv) (hPL : zz_PL nc Xplace YplaceKind YplaceValue Ythere) (hLO : zz_LO Xlocals Ythere) (hct : b < 3 ∧ ne + zz_pt fs ≤ sN ∧ fs.length ≤ sN ∧ nc ≤ sN ∧ sN ≤ 300) (hSK : zz_R Xstack (fun x => x) (zz_en ykind yvalue :: st)) (hV : zz_V nc ykind yvalue) (hJ0 : zz_J Xop Xarg j p q) (hKR : zz_KR Xop Xarg Ykinds Ynumbers Yends Yspecial ne YsymbolOf YnextOf nc fs q us st xenv b) (hm : (301 - sN) * 1000 + 500 + fs.length ≤ m + 1) : zz_O m (xdrafted, xspecial, xdefined, xhere, xdepth, xscoped, nI ne, nI nc, nI (st.length + 1), nI us.length, nI p, xenv, nI b, nI sN, 0, 1, xgiven, xclosed, Xdraft, XdraftValues, Xop, Xarg, Xparameter, Xwaiting, Xdone, Xhole, Xscope, Xplace, Xlocals, Xstack, Xcell, Xparent, Xbodies, Xbinds, Xscopes, Xwhat, Xfirst, Xsecond, Xthird, Xkept) (nI ne, nI nc, nI fs.length, nI b, nI sN, 0, yat, yenv, ykind, yvalue, ycode, ytag, yresultKind, yresultValue, Ykinds, Ynumbers, Yends, Ylengths, Yparameters, Yspecial, YplaceKind, YplaceValue, Ythere, YsymbolOf, YplaceOf, YnextOf, YclosureSymbol, YclosureBody, YclosureEnv, YworkToken, YworkPhase, YworkEnv, YkeptKind, YkeptValue, YboundPlace, YoldKind, YoldValue, YoldBuffer) := by
  refine zz_Os (zx_Js j p q hJ0) ?_
  cases fs with
  | nil =>
    obtain ⟨h1, h2, h3, h4⟩ := hKR
    subst h3 h4
    have hX : zx_S (xdrafted, xspecial, xdefined, xhere, xdepth, xscoped, nI ne, nI nc, nI (0 + 1), nI 0, nI q, xenv, nI b, nI sN, 0, 1, xgiven, xclosed, Xdraft, XdraftValues, Xop, Xarg, Xparameter, Xwaiting, Xdone, Xhole, Xscope, Xplace, Xlocals, Xstack, Xcell, Xparent, Xbodies, Xbinds, Xscopes, Xwhat, Xfirst, Xsecond, Xthird, Xkept) (xdrafted, xspecial, xdefined, xhere, xdepth, xscoped, nI ne, nI nc, nI (0 + 1), nI 0, nI (q + 1), xenv, nI b, nI sN, 0, 0, xgiven, xclosed, Xdraft, XdraftValues, Xop, Xarg, Xparameter, Xwaiting, Xdone, Xhole, Xscope, Xplace, Xlocals, Xstack, Xcell, Xparent, Xbodies, Xbinds, Xscopes, Xwhat, Xfirst, Xsecond, Xthird, Xkept) := zx_SG (zx_ret0 h1 h2)
    exact ⟨_, _, hX, zy_Sr, Or.inr (Or.inr (zw_finK (nc := nc) (by omega) hST hPL hLO hV hSK.1))⟩
  | cons f fs =>
    obtain ⟨t, ph, we, kk, kv, bp, ok, ov, ob, g⟩ := f
    obtain ⟨hpc, ht, hob, sc, e, j, q', us0, st0, he, hEV, hJ, hKR, hFR⟩ := hKR
    have ht : t < 240 := ht
    have hob : ob < 3 := hob
    have hm2 : (301 - sN) * 1000 + 500 + fs.length ≤ m := by simp only [List.length_cons] at hm; omega
    have hEV : zz_EV ne YsymbolOf YnextOf sc we := hEV
    have hKR : zz_KR Xop Xarg Ykinds Ynumbers Yends Yspecial ne YsymbolOf YnextOf nc fs q' us0 st0 we ob := hKR
    have hFR : zz_FR Xop Xarg Ykinds Ynumbers Yends Yspecial nc fs t ph we kk kv bp ok ov ob g sc q us st xenv b e us0 st0 := hFR
    have hct : b < 3 ∧ ne + (g + zz_pt fs) ≤ sN ∧ fs.length + 1 ≤ sN ∧ nc ≤ sN ∧ sN ≤ 300 := hct
    unfold zz_FR at hFR
    rcases hFR with h | h | h | h | h | h | h | h | h | h | h | h | h | h | h
    · obtain ⟨h1, h2, ⟨s, h3, h4, h5⟩, h6, h7, h8, h9, h10, h11⟩ := h
      subst h2 h7 h8 h9 h10 h11
      cases hl : zz_lk Yspecial s sc with
      | some i => exact zg_An hST hYW hXW hEN hCL hPL hLO hct hV hpc ht he hJ hm2 hSK hEV hKR h1 h3 h4 h5 h6 hl
      | none => exact zg_Af hST hYW hXW hEN hCL hPL hLO hct hV hpc ht he hJ hm2 hSK hEV hKR h1 h3 h4 h5 h6 hl
    · obtain ⟨h1, h2, ⟨s, h3, h4, h5, h12, h13⟩, h6, h7, h8, h9, h10, h11, hg⟩ := h
      subst h2 h7 h8 h9 h10 h11
      rcases h1 with h1 | h1 | h1
      · rw [h1] at h12
        have hs : s < 4 := by
          rcases h4 with h | h
          · exact absurd (h1.symm.trans h) (by decide)
          · exact h
        by_cases hL : Ylengths s = 0
        · exact zg_B6M hST hYW hXW hEN hCL hPL hLO hct hV hpc ht he hJ hm2 hSK hEV hKR h1 hs h5 h12 h13 h6 hL
        · obtain ⟨s0, n, e1, f1, f2, f3, f4, f5⟩ := (hST.2.2 s hs).2 hL
          by_cases hz : Yspecial s0 = 0
          · exact zg_B6L hST hYW hXW hEN hCL hPL hLO hct hV hpc ht he hJ hm2 hSK hEV hKR h1 hs h5 h12 h13 h6 hg hL f1 f2 f3 f4 f5 hz
          · exact zg_B6S hST hYW hXW hEN hCL hPL hLO hct hV hpc ht he hJ hm2 hSK hEV hKR h1 hs h5 h12 h13 h6 hg hL f1 f2 f3 f4 f5 hz
      · rw [h1] at h12
        have hs : s < 4 := by
          rcases h4 with h | h
          · exact absurd (h1.symm.trans h) (by decide)
          · exact h
        exact zg_B13 hST hYW hXW hEN hCL hPL hLO hct hV hpc ht he hJ hm2 hSK hEV hKR h1 hs h5 h12 h13 h6
      · rw [h1] at h12
        exact zg_B17 hST hYW hXW hEN hCL hPL hLO hct hV hpc ht he hJ hm2 hSK hEV hKR h1 h3 h5 h12 h13 h6
    · obtain ⟨h1, h2, ⟨t2, e2, h3, h4, h5, h12, h6⟩, h7, h8, h9, h10, h11, hg⟩ := h
      subst h2 h7 h8 h9 h10 h11
      exact zg_C hST hYW hXW hEN hCL hPL hLO hct hV hpc ht he hJ hm2 hSK hEV hKR h1 h3 h4 h5 h12 h6 hg
    · obtain ⟨h1, h2, h3, h6, h7, h8, hVk, h9, h10, h11, hg⟩ := h
      subst h2 h7 h8 h9 h10 h11
      rcases h1 with h1 | h1 | h1 | h1
      · rw [h1] at h3
        rcases hVk with h0 | ⟨h0, c, hc, hcv⟩
        · exact zg_DcallE hST hYW hXW hEN hCL hPL hLO hct hV hpc ht he hJ hm2 hSK hEV hKR (Or.inl h0) h1 h3 h6 (by rw [h0]; decide)
        · obtain ⟨s0, t1, a1, e1, sc1, d0, d1, d2, d3, d4, d5, d6, d7, d8⟩ := hCL c hc
          by_cases hz : Yspecial s0 = 0
          · exact zg_DcL hST hYW hXW hEN hCL hPL hLO hct hV hpc ht he hJ hm2 hSK hEV hKR (Or.inr ⟨h0, c, hc, hcv⟩) h1 h3 h6 hg h0 hcv hc d0 d1 d2 d3 d4 d5 d6 d7 d8 hz
          · exact zg_DcS hST hYW hXW hEN hCL hPL hLO hct hV hpc ht he hJ hm2 hSK hEV hKR (Or.inr ⟨h0, c, hc, hcv⟩) h1 h3 h6 hg h0 hcv hc d0 d1 d2 d3 d4 d5 d6 d7 d8 hz
      · rw [h1] at h3
        by_cases z : kk = 0 ∧ ykind = 0
        · exact zg_Dadd hST hYW hXW hEN hCL hPL hLO hct hV hpc ht he hJ hm2 hSK hEV hKR hVk h1 h3 h6 z.1 z.2
        · exact zg_DarE (k := 9) hST hYW hXW hEN hCL hPL hLO hct hV hpc ht he hJ hm2 hSK hEV hKR hVk (Or.inl rfl) h1 h3 h6 z
      · rw [h1] at h3
        by_cases z : kk = 0 ∧ ykind = 0
        · exact zg_Dsub hST hYW hXW hEN hCL hPL hLO hct hV hpc ht he hJ hm2 hSK hEV hKR hVk h1 h3 h6 z.1 z.2
        · exact zg_DarE (k := 10) hST hYW hXW hEN hCL hPL hLO hct hV hpc ht he hJ hm2 hSK hEV hKR hVk (Or.inr (Or.inl rfl)) h1 h3 h6 z
      · rw [h1] at h3
        by_cases z : kk = 0 ∧ ykind = 0
        · exact zg_Dless hST hYW hXW hEN hCL hPL hLO hct hV hpc ht he hJ hm2 hSK hEV hKR hVk h1 h3 h6 z.1 z.2
        · exact zg_DarE (k := 11) hST hYW hXW hEN hCL hPL hLO hct hV hpc ht he hJ hm2 hSK hEV hKR hVk (Or.inr (Or.inr rfl)) h1 h3 h6 z
    · obtain ⟨h1, h2, ⟨y, h3, h4⟩, h8, h10⟩ := h
      subst h3 h8 h10
      exact zg_F hST hYW hXW hEN hCL hPL hLO hct hV hpc ht he hJ hm2 hSK hEV hKR h1 h2 h4
    · obtain ⟨h1, h2, ⟨s, t2, e2, h3, h4, h5, h6, h12, h13, h14, h15, h16⟩, h7, h8, h9, h10, h11, hg⟩ := h
      subst h2 h7 h8 h9 h10 h11
      by_cases hz : Yspecial s = 0
      · exact zg_GL hST hYW hXW hEN hCL hPL hLO hct hV hpc ht he hJ hm2 hSK hEV hKR h1 h3 h4 h5 h6 h12 h13 h14 h15 h16 hg hz
      · exact zg_GS hST hYW hXW hEN hCL hPL hLO hct hV hpc ht he hJ hm2 hSK hEV hKR h1 h3 h4 h5 h6 h12 h13 h14 h15 h16 hg hz
    · obtain ⟨h1, h2, h3, h6, ⟨y, h4, h5, h12⟩, h8, h10⟩ := h
      subst h2 h4 h8 h10
      exact zg_H hST hYW hXW hEN hCL hPL hLO hct hV hpc ht he hJ hm2 hSK hEV hKR h1 h3 h6 h5 h12
    · obtain ⟨h1, h2, ⟨t2, h3, h4, h5, h6⟩, h7, h8, h9, h10, h11⟩ := h
      subst h2 h7 h8 h9 h10 h11
      exact zg_I hST hYW hXW hEN hCL hPL hLO hct hV hpc ht he hJ hm2 hSK hEV hKR h1 h3 h4 h5 h6
    · obtain ⟨h1, h2, ⟨t2, t3, e2, h3, h4, h5, h6, h12, h13, h14, h15, h16⟩, h7, h8, h9, h10, h11⟩ := h
      subst h2 h7 h8 h9 h10 h11
      exact zg_J hST hYW hXW hEN hCL hPL hLO hct hV hpc ht he hJ hm2 hSK hEV hKR h1 h3 h4 h5 h6 h12 h13 h14 h15 h16
    · obtain ⟨h1, h2, h3, h4, ⟨s, h5, h6, h7⟩, h8, h9, h10, h11⟩ := h
      subst h2 h7 h8 h9 h10 h11
      exact zg_L hST hYW hXW hEN hCL hPL hLO hct hV hpc ht he hJ hm2 hSK hEV hKR h1 h3 h4
    · obtain ⟨h1, h2, ⟨t2, h3, h4, h5, h6, h12, h13⟩, h7, h8, h9, h10, h11⟩ := h
      subst h2 h7 h8 h9 h10 h11
      have c := zz_CEb h13
      exact zg_M hST hYW hXW hEN hCL hPL hLO hct hV hpc ht he hJ hm2 hSK hEV hKR h1 h5 h6 h12 (by omega)
    · obtain ⟨h1, h2, ⟨t2, e2, h3, h4, h5, h6, h12, h13⟩, h7, h8, h9, h10, h11⟩ := h
      subst h2 h7 h8 h9 h10 h11
      exact zg_N hST hYW hXW hEN hCL hPL hLO hct hV hpc ht he hJ hm2 hSK hEV hKR h1 h3 h4 h5 h6 h12 h13
    · obtain ⟨h1, h2, h3, h4, h7, h8, h5, h9, h10, h11⟩ := h
      subst h2 h7 h8 h9 h10 h11
      exact zg_O hST hYW hXW hEN hCL hPL hLO hct hV hpc ht he hJ hm2 hSK hEV hKR h5 h1 h3 h4
    · obtain ⟨h1, h2, h3, h4, ⟨hw, x, v, h7, h5⟩, h8, h9, h10, h11⟩ := h
      subst h2 h7 h8 h9 h10 h11
      exact zg_P hST hYW hXW hEN hCL hPL hLO hct hV hpc ht he hJ hm2 hSK hEV hKR h1 h3 h5
    · obtain ⟨h1, h2, h3, h4, h7, h8, h9, h11⟩ := h
      subst h2 h7 h8 h9 h11
      exact zg_Q hST hYW hXW hEN hCL hPL hLO hct hV hpc ht he hJ hm2 hSK hEV hKR hob h1 h3 h4
end
/-- the two machines, side by side -/
theorem zz_main : ∀ (m : Nat) (u : SX) (v : SY), (zz_SB m u v ∨ zz_SG m u v) → zz_FI u v := by
  intro m
  induction m with
  | zero =>
    intro u v H
    rcases H with H | H
    · refine zz_SBe (P := fun u v => zz_FI u v) H ?_
      intro xdrafted xspecial xdefined xhere xdepth xscoped xcells xclosures xtop xundo xpc xenv xbuffer xtaken xoutcome xrunning xgiven xclosed Xdraft XdraftValues Xop Xarg Xparameter Xwaiting Xdone Xhole Xscope Xplace Xlocals Xstack Xcell Xparent Xbodies Xbinds Xscopes Xwhat Xfirst Xsecond Xthird Xkept yenvs yclosures ywork ybuffer ysteps ymode yat yenv ykind yvalue ycode ytag yresultKind yresultValue Ykinds Ynumbers Yends Ylengths Yparameters Yspecial YplaceKind YplaceValue Ythere YsymbolOf YplaceOf YnextOf YclosureSymbol YclosureBody YclosureEnv YworkToken YworkPhase YworkEnv YkeptKind YkeptValue YboundPlace YoldKind YoldValue YoldBuffer fs us st b ne nc sN t a e j q sc hG hSK hCE hEV hJ hKR hm
      have := hG.2.2.2.2.2.2.2.2.2.2.2
      omega
    · refine zz_SGe (P := fun u v => zz_FI u v) H ?_
      intro xdrafted xspecial xdefined xhere xdepth xscoped xcells xclosures xtop xundo xpc xenv xbuffer xtaken xoutcome xrunning xgiven xclosed Xdraft XdraftValues Xop Xarg Xparameter Xwaiting Xdone Xhole Xscope Xplace Xlocals Xstack Xcell Xparent Xbodies Xbinds Xscopes Xwhat Xfirst Xsecond Xthird Xkept yenvs yclosures ywork ybuffer ysteps ymode yat yenv ykind yvalue ycode ytag yresultKind yresultValue Ykinds Ynumbers Yends Ylengths Yparameters Yspecial YplaceKind YplaceValue Ythere YsymbolOf YplaceOf YnextOf YclosureSymbol YclosureBody YclosureEnv YworkToken YworkPhase YworkEnv YkeptKind YkeptValue YboundPlace YoldKind YoldValue YoldBuffer fs us st b ne nc sN p j q hG hSK hV hJ hKR hm
      omega
  | succ m ih =>
    intro u v H
    have key : zz_O m u v := by
      rcases H with H | H
      · refine zz_SBe (P := fun u v => zz_O m u v) H ?_
        intro xdrafted xspecial xdefined xhere xdepth xscoped xcells xclosures xtop xundo xpc xenv xbuffer xtaken xoutcome xrunning xgiven xclosed Xdraft XdraftValues Xop Xarg Xparameter Xwaiting Xdone Xhole Xscope Xplace Xlocals Xstack Xcell Xparent Xbodies Xbinds Xscopes Xwhat Xfirst Xsecond Xthird Xkept yenvs yclosures ywork ybuffer ysteps ymode yat yenv ykind yvalue ycode ytag yresultKind yresultValue Ykinds Ynumbers Yends Ylengths Yparameters Yspecial YplaceKind YplaceValue Ythere YsymbolOf YplaceOf YnextOf YclosureSymbol YclosureBody YclosureEnv YworkToken YworkPhase YworkEnv YkeptKind YkeptValue YboundPlace YoldKind YoldValue YoldBuffer fs us st b ne nc sN t a e j q sc ⟨hST, hYW, hXW, hEN, hCL, hPL, hLO, hct⟩ hSK hCE hEV hJ hKR hm
        exact zb_all hST hYW hXW hEN hCL hPL hLO hct hSK hCE hEV hJ hKR hm
      · refine zz_SGe (P := fun u v => zz_O m u v) H ?_
        intro xdrafted xspecial xdefined xhere xdepth xscoped xcells xclosures xtop xundo xpc xenv xbuffer xtaken xoutcome xrunning xgiven xclosed Xdraft XdraftValues Xop Xarg Xparameter Xwaiting Xdone Xhole Xscope Xplace Xlocals Xstack Xcell Xparent Xbodies Xbinds Xscopes Xwhat Xfirst Xsecond Xthird Xkept yenvs yclosures ywork ybuffer ysteps ymode yat yenv ykind yvalue ycode ytag yresultKind yresultValue Ykinds Ynumbers Yends Ylengths Yparameters Yspecial YplaceKind YplaceValue Ythere YsymbolOf YplaceOf YnextOf YclosureSymbol YclosureBody YclosureEnv YworkToken YworkPhase YworkEnv YkeptKind YkeptValue YboundPlace YoldKind YoldValue YoldBuffer fs us st b ne nc sN p j q ⟨hST, hYW, hXW, hEN, hCL, hPL, hLO, hct⟩ hSK hV hJ hKR hm
        exact zg_all hST hYW hXW hEN hCL hPL hLO hct hSK hV hJ hKR hm
    obtain ⟨u1, v1, h1, h2, h3⟩ := key
    refine zz_FIs h1 h2 ?_
    rcases h3 with h | h | h
    · exact ih u1 v1 (Or.inl h)
    · exact ih u1 v1 (Or.inr h)
    · exact h
end
section
theorem zz_CDl {op ar K N E S : Nat → Int32} {r n t a e : Nat} {sc : List Nat} (h : zz_CD op ar K N E S r n t a e sc) : 48 * r ≤ t ∧ t < 48 * r + 48 ∧ 256 * r ≤ a ∧ a < e ∧ e < 256 * r + 256 := by
  cases n with
  | zero => exact h.elim
  | succ n => exact h.1
theorem zz_FNc {op ar K N E S op' ar' K' N' E' : Nat → Int32} {df : Int32} {pa L pr : Nat → Int32} (h : ∀ q, q < 4 → ¬ L q = 0 → (∀ t, 48 * q ≤ t → t < 48 * q + 48 → K' t = K t ∧ N' t = N t ∧ E' t = E t) ∧ (∀ i, 256 * q ≤ i → i < 256 * q + 256 → op' i = op i ∧ ar' i = ar i)) (H : zz_FN op ar K N E S df pa L pr) : zz_FN op' ar' K' N' E' S df pa L pr := by
  intro q hq
  obtain ⟨h1, h2⟩ := H q hq
  refine ⟨h1, fun hL => ?_⟩
  obtain ⟨s, n, e, a1, a2, a3, a4, a5⟩ := h2 hL
  obtain ⟨b1, b2⟩ := h q hq hL
  have l := zz_CDl a4
  exact ⟨s, n, e, a1, a2, a3, zz_CDc b1 _ _ _ _ _ (fun i hi hj => b2 i (by omega) (by omega)) a4, (b2 e (by omega) (by omega)).1.trans a5⟩
/-- the draft by its kinds as numbers -/
theorem zz_DRk {dr dv K N : Nat → Int32} {d : Nat} (h : ∀ j, j < d → ∃ k, k < 19 ∧ dr j = nI k ∧ K (192 + j) = nI k ∧ N (192 + j) = dv j ∧ zc_V k (dv j)) : ∃ kd : Nat → Nat, ∀ j, j < d → dr j = nI (kd j) ∧ kd j < 19 ∧ K (192 + j) = nI (kd j) ∧ N (192 + j) = dv j ∧ zc_V (kd j) (dv j) := by
  refine ⟨fun j => (dr j).toNatClampNeg, fun j hj => ?_⟩
  obtain ⟨k, h1, h2, h3, h4, h5⟩ := h j hj
  have e : (dr j).toNatClampNeg = k := by rw [h2]; exact nI_clamp (by omega)
  show dr j = nI (dr j).toNatClampNeg ∧ (dr j).toNatClampNeg < 19 ∧ K (192 + j) = nI (dr j).toNatClampNeg ∧ N (192 + j) = dv j ∧ zc_V (dr j).toNatClampNeg (dv j)
  rw [e]
  exact ⟨h2, h1, h3, h4, h5⟩
theorem zz_OKd {kd : Nat → Nat} {d : Nat} (h : zz_OK kd d 1 0) : 0 < d := by
  cases d with
  | zero => have h : (1 : Nat) = 0 := h; omega
  | succ d => omega
section
variable {xdrafted xspecial xdefined xhere xdepth xscoped xcells xclosures xtop xundo xpc xenv xbuffer xtaken xoutcome xrunning xclosed : Int32} {xgiven : Int64} {Xdraft XdraftValues Xop Xarg Xparameter Xwaiting Xdone Xhole Xscope Xlocals Xparent Xbodies Xbinds Xscopes Xwhat Xfirst Xsecond Xthird : Nat → Int32} {Xplace Xstack Xcell Xkept : Nat → Int64} {yenvs yclosures ywork ybuffer ysteps ymode yat yenv ykind yvalue ycode ytag yresultKind yresultValue : Int32} {Ykinds Ynumbers Yends Ylengths Yparameters Yspecial YplaceKind YplaceValue Ythere YsymbolOf YplaceOf YnextOf YclosureSymbol YclosureBody YclosureEnv YworkToken YworkPhase YworkEnv YkeptKind YkeptValue YboundPlace YoldKind YoldValue YoldBuffer : Nat → Int32}
theorem zw_run (hST : zz_ST xdrafted xspecial xdefined Xdraft XdraftValues Xop Xarg Xparameter Ykinds Ynumbers Yends Ylengths Yparameters Yspecial) (hPL : zz_PL 0 Xplace YplaceKind YplaceValue Ythere) (hLO : zz_LO Xlocals Ythere) (hRS : zz_RS xgiven xclosed yresultKind yresultValue) (hts : xtaken = ysteps) : ∃ (r : Int32) (u' : SX) (v' : SY), zz_Rel u' v' ∧ (∀ post : Int32 → SX → Prop, post r u' → wpX_run post (xdrafted, xspecial, xdefined, xhere, xdepth, xscoped, xcells, xclosures, xtop, xundo, xpc, xenv, xbuffer, xtaken, xoutcome, xrunning, xgiven, xclosed, Xdraft, XdraftValues, Xop, Xarg, Xparameter, Xwaiting, Xdone, Xhole, Xscope, Xplace, Xlocals, Xstack, Xcell, Xparent, Xbodies, Xbinds, Xscopes, Xwhat, Xfirst, Xsecond, Xthird, Xkept)) ∧ (∀ post : Int32 → SY → Prop, post r v' → wpY_run post (yenvs, yclosures, ywork, ybuffer, ysteps, ymode, yat, yenv, ykind, yvalue, ycode, ytag, yresultKind, yresultValue, Ykinds, Ynumbers, Yends, Ylengths, Yparameters, Yspecial, YplaceKind, YplaceValue, Ythere, YsymbolOf, YplaceOf, YnextOf, YclosureSymbol, YclosureBody, YclosureEnv, YworkToken, YworkPhase, YworkEnv, YkeptKind, YkeptValue, YboundPlace, YoldKind, YoldValue, YoldBuffer)) := by
  obtain ⟨⟨d, hd, ed, eL, hT⟩, hSP, hFN⟩ := hST
  subst ed
  obtain ⟨kd, hkd⟩ := zz_DRk hT
  obtain ⟨r, hr, hX, hY⟩ := zw_check (Xdraft := Xdraft) (Ykinds := Ykinds) (Ylengths := Ylengths) (kd := kd) (dr := d) (xspecial := xspecial) (xdefined := xdefined) (xhere := xhere) (xdepth := xdepth) (xscoped := xscoped) (xcells := xcells) (xclosures := xclosures) (xtop := xtop) (xundo := xundo) (xpc := xpc) (xenv := xenv) (xbuffer := xbuffer) (xtaken := xtaken) (xoutcome := xoutcome) (xrunning := xrunning) (xgiven := xgiven) (xclosed := xclosed) (XdraftValues := XdraftValues) (Xop := Xop) (Xarg := Xarg) (Xparameter := Xparameter) (Xwaiting := Xwaiting) (Xdone := Xdone) (Xhole := Xhole) (Xscope := Xscope) (Xplace := Xplace) (Xlocals := Xlocals) (Xstack := Xstack) (Xcell := Xcell) (Xparent := Xparent) (Xbodies := Xbodies) (Xbinds := Xbinds) (Xscopes := Xscopes) (Xwhat := Xwhat) (Xfirst := Xfirst) (Xsecond := Xsecond) (Xthird := Xthird) (Xkept := Xkept) (yenvs := yenvs) (yclosures := yclosures) (ywork := ywork) (ybuffer := ybuffer) (ysteps := ysteps) (ymode := ymode) (yat := yat) (yenv := yenv) (ykind := ykind) (yvalue := yvalue) (ycode := ycode) (ytag := ytag) (yresultKind := yresultKind) (yresultValue := yresultValue) (Ynumbers := Ynumbers) (Yends := Yends) (Yparameters := Yparameters) (Yspecial := Yspecial) (YplaceKind := YplaceKind) (YplaceValue := YplaceValue) (Ythere := Ythere) (YsymbolOf := YsymbolOf) (YplaceOf := YplaceOf) (YnextOf := YnextOf) (YclosureSymbol := YclosureSymbol) (YclosureBody := YclosureBody) (YclosureEnv := YclosureEnv) (YworkToken := YworkToken) (YworkPhase := YworkPhase) (YworkEnv := YworkEnv) (YkeptKind := YkeptKind) (YkeptValue := YkeptValue) (YboundPlace := YboundPlace) (YoldKind := YoldKind) (YoldValue := YoldValue) (YoldBuffer := YoldBuffer) hd (fun j hj => ⟨(hkd j hj).1, (hkd j hj).2.1⟩) (fun j hj => (hkd j hj).2.2.1) eL
  rcases hr with hr | ⟨hr, hOK⟩
  · subst hr
    exact ⟨6, (nI d, xspecial, xdefined, xhere, xdepth, xscoped, xcells, xclosures, xtop, xundo, xpc, xenv, xbuffer, xtaken, xoutcome, xrunning, xgiven, xclosed, Xdraft, XdraftValues, Xop, Xarg, Xparameter, Xwaiting, Xdone, Xhole, Xscope, Xplace, Xlocals, Xstack, Xcell, Xparent, Xbodies, Xbinds, Xscopes, Xwhat, Xfirst, Xsecond, Xthird, Xkept), (yenvs, yclosures, ywork, ybuffer, ysteps, ymode, yat, yenv, ykind, yvalue, ycode, ytag, yresultKind, yresultValue, Ykinds, Ynumbers, Yends, Ylengths, Yparameters, Yspecial, YplaceKind, YplaceValue, Ythere, YsymbolOf, YplaceOf, YnextOf, YclosureSymbol, YclosureBody, YclosureEnv, YworkToken, YworkPhase, YworkEnv, YkeptKind, YkeptValue, YboundPlace, YoldKind, YoldValue, YoldBuffer), ⟨⟨⟨d, hd, rfl, eL, hT⟩, hSP, hFN⟩, hPL, hLO, hRS, hts⟩, fun post HP => hX _ (br_t rfl HP), fun post HP => hY _ (br_t rfl HP)⟩
  · subst hr
    have hd0 := zz_OKd hOK
    have hPO : zz_PO kd d 1 0 d := by
      have := zz_OKp d 1 0 hOK
      rw [Nat.zero_add] at this
      exact this
    obtain ⟨E', hPE, hE', hYE⟩ := zy_findEnds (Ykinds := Ykinds) (Yends := Yends) (kd := kd) (B := 192) (yenvs := yenvs) (yclosures := yclosures) (ywork := ywork) (ybuffer := ybuffer) (ysteps := ysteps) (ymode := ymode) (yat := yat) (yenv := yenv) (ykind := ykind) (yvalue := yvalue) (ycode := ycode) (ytag := ytag) (yresultKind := yresultKind) (yresultValue := yresultValue) (Ynumbers := Ynumbers) (Ylengths := Ylengths) (Yparameters := Yparameters) (Yspecial := Yspecial) (YplaceKind := YplaceKind) (YplaceValue := YplaceValue) (Ythere := Ythere) (YsymbolOf := YsymbolOf) (YplaceOf := YplaceOf) (YnextOf := YnextOf) (YclosureSymbol := YclosureSymbol) (YclosureBody := YclosureBody) (YclosureEnv := YclosureEnv) (YworkToken := YworkToken) (YworkPhase := YworkPhase) (YworkEnv := YworkEnv) (YkeptKind := YkeptKind) (YkeptValue := YkeptValue) (YboundPlace := YboundPlace) (YoldKind := YoldKind) (YoldValue := YoldValue) (YoldBuffer := YoldBuffer) (by omega) hd0 (fun j hj => ⟨(hkd j hj).2.2.1, (hkd j hj).2.1⟩) hPO
    have hD : zc_D kd Ykinds Ynumbers E' Yspecial Xdraft XdraftValues xspecial 4 d := ⟨by omega, hd, hSP, fun j hj => ⟨(hkd j hj).1, (hkd j hj).2.1, (hkd j hj).2.2.1, (hkd j hj).2.2.2.1, (hkd j hj).2.2.2.2⟩⟩
    obtain ⟨e, n, op', ar', wa', dn', ho', so', hCD, hop, he, hR, hXC⟩ := zc_compile (Xop := Xop) (Xarg := Xarg) (Xscope := Xscope) (sc := []) (h := 0) (xspecial := xspecial) (xdefined := xdefined) (xhere := xhere) (xdepth := xdepth) (xcells := xcells) (xclosures := xclosures) (xtop := xtop) (xundo := xundo) (xpc := xpc) (xenv := xenv) (xbuffer := xbuffer) (xtaken := xtaken) (xoutcome := xoutcome) (xrunning := xrunning) (xgiven := xgiven) (xclosed := xclosed) (Xdraft := Xdraft) (XdraftValues := XdraftValues) (Xparameter := Xparameter) (Xwaiting := Xwaiting) (Xdone := Xdone) (Xhole := Xhole) (Xplace := Xplace) (Xlocals := Xlocals) (Xstack := Xstack) (Xcell := Xcell) (Xparent := Xparent) (Xbodies := Xbodies) (Xbinds := Xbinds) (Xscopes := Xscopes) (Xwhat := Xwhat) (Xfirst := Xfirst) (Xsecond := Xsecond) (Xthird := Xthird) (Xkept := Xkept) hD hPE trivial (fun _ h => by cases h) (by simp)
    have hl := zz_CDl hCD
    have hCD2 : zz_CD (upd op' e (nI 24)) (upd ar' e 0) Ykinds Ynumbers E' Yspecial 4 n (48 * 4) (256 * 4) e [] := zz_CDc (fun _ _ _ => ⟨rfl, rfl, rfl⟩) _ _ _ _ _ (fun i h1 h2 => ⟨pk_un (by omega), pk_un (by omega)⟩) hCD
    have hFN2 : zz_FN (upd op' e (nI 24)) (upd ar' e 0) Ykinds Ynumbers E' Yspecial xdefined Xparameter Ylengths Yparameters := by
      refine zz_FNc (fun q hq _ => ⟨fun t h1 h2 => ⟨rfl, rfl, hE' t (by omega)⟩, fun i h1 h2 => ?_⟩) hFN
      rw [pk_un (by omega), pk_un (by omega)]
      exact hop i (by omega)
    have hST2 : zz_ST (nI d) xspecial xdefined Xdraft XdraftValues (upd op' e (nI 24)) (upd ar' e 0) Xparameter Ykinds Ynumbers E' Ylengths Yparameters Yspecial := ⟨⟨d, hd, rfl, eL, hT⟩, hSP, hFN2⟩
    have hSB : zz_SB 301000 (nI d, xspecial, xdefined, nI (e + 1), nI 0, nI 0, nI 0, nI 0, nI 0, nI 0, nI 1024, -1, nI 0, nI 0, 0, 1, xgiven, xclosed, Xdraft, XdraftValues, upd op' e (nI 24), upd ar' e 0, Xparameter, wa', dn', ho', so', Xplace, Xlocals, Xstack, Xcell, Xparent, Xbodies, Xbinds, Xscopes, Xwhat, Xfirst, Xsecond, Xthird, Xkept) (nI 0, nI 0, nI 0, nI 0, nI 0, 1, nI 192, -1, ykind, yvalue, 0, ytag, yresultKind, yresultValue, Ykinds, Ynumbers, E', Ylengths, Yparameters, Yspecial, YplaceKind, YplaceValue, Ythere, YsymbolOf, YplaceOf, YnextOf, YclosureSymbol, YclosureBody, YclosureEnv, YworkToken, YworkPhase, YworkEnv, YkeptKind, YkeptValue, YboundPlace, YoldKind, YoldValue, YoldBuffer) :=
      zz_SBi (fs := []) (us := []) (st := []) (b := 0) (ne := 0) (nc := 0) (sN := 0) (t := 192) (a := 1024) (e := e) (j := 0) (q := e) (sc := []) hST2 ⟨trivial, trivial, trivial, trivial, trivial, trivial, trivial, trivial, trivial⟩ ⟨trivial, trivial, trivial, trivial, trivial⟩ (fun i hi => by omega) (fun c hc => by omega) hPL hLO ⟨by omega, Nat.le_refl _, Nat.le_refl _, by omega, by omega⟩ trivial ⟨4, n, by omega, hCD2⟩ rfl rfl ⟨by omega, pk_us, rfl, rfl⟩ (by omega)
    obtain ⟨r, u', v', hRel, ⟨m1, g1⟩, ⟨m2, g2⟩⟩ := zz_main _ _ _ (Or.inl hSB)
    refine ⟨r, u', v', hRel, fun post HP => hX _ (br_f (by decide) ?_), fun post HP => hY _ (br_f (by decide) ?_)⟩
    · exact hXC _ (zx_emit (k := 24) (by omega) (by omega) ⟨m1, g1 post HP⟩)
    · rw [eL]
      exact hYE _ ⟨m2, g2 post HP⟩
end
end
section
section
variable {xdrafted xspecial xdefined xhere xdepth xscoped xcells xclosures xtop xundo xpc xenv xbuffer xtaken xoutcome xrunning xclosed : Int32} {xgiven : Int64} {Xdraft XdraftValues Xop Xarg Xparameter Xwaiting Xdone Xhole Xscope Xlocals Xparent Xbodies Xbinds Xscopes Xwhat Xfirst Xsecond Xthird : Nat → Int32} {Xplace Xstack Xcell Xkept : Nat → Int64} {yenvs yclosures ywork ybuffer ysteps ymode yat yenv ykind yvalue ycode ytag yresultKind yresultValue : Int32} {Ykinds Ynumbers Yends Ylengths Yparameters Yspecial YplaceKind YplaceValue Ythere YsymbolOf YplaceOf YnextOf YclosureSymbol YclosureBody YclosureEnv YworkToken YworkPhase YworkEnv YkeptKind YkeptValue YboundPlace YoldKind YoldValue YoldBuffer : Nat → Int32}
theorem zw_define {q s : Nat} (hq : q < 4) (hs : s < 8) (hST : zz_ST xdrafted xspecial xdefined Xdraft XdraftValues Xop Xarg Xparameter Ykinds Ynumbers Yends Ylengths Yparameters Yspecial) (hPL : zz_PL 0 Xplace YplaceKind YplaceValue Ythere) (hLO : zz_LO Xlocals Ythere) (hRS : zz_RS xgiven xclosed yresultKind yresultValue) (hts : xtaken = ysteps) : ∃ (r : Int32) (u' : SX) (v' : SY), zz_Rel u' v' ∧ (∀ post : Int32 → SX → Prop, post r u' → wpX_define post (xdrafted, xspecial, xdefined, xhere, xdepth, xscoped, xcells, xclosures, xtop, xundo, xpc, xenv, xbuffer, xtaken, xoutcome, xrunning, xgiven, xclosed, Xdraft, XdraftValues, Xop, Xarg, Xparameter, Xwaiting, Xdone, Xhole, Xscope, Xplace, Xlocals, Xstack, Xcell, Xparent, Xbodies, Xbinds, Xscopes, Xwhat, Xfirst, Xsecond, Xthird, Xkept) (nI q) (nI s)) ∧ (∀ post : Int32 → SY → Prop, post r v' → wpY_define post (yenvs, yclosures, ywork, ybuffer, ysteps, ymode, yat, yenv, ykind, yvalue, ycode, ytag, yresultKind, yresultValue, Ykinds, Ynumbers, Yends, Ylengths, Yparameters, Yspecial, YplaceKind, YplaceValue, Ythere, YsymbolOf, YplaceOf, YnextOf, YclosureSymbol, YclosureBody, YclosureEnv, YworkToken, YworkPhase, YworkEnv, YkeptKind, YkeptValue, YboundPlace, YoldKind, YoldValue, YoldBuffer) (nI q) (nI s)) := by
  obtain ⟨⟨d, hd, ed, eL, hT⟩, hSP, hFN⟩ := hST
  subst ed
  obtain ⟨kd, hkd⟩ := zz_DRk hT
  obtain ⟨r, hr, hX, hY⟩ := zw_check (Xdraft := Xdraft) (Ykinds := Ykinds) (Ylengths := Ylengths) (kd := kd) (dr := d) (xspecial := xspecial) (xdefined := xdefined) (xhere := xhere) (xdepth := xdepth) (xscoped := xscoped) (xcells := xcells) (xclosures := xclosures) (xtop := xtop) (xundo := xundo) (xpc := xpc) (xenv := xenv) (xbuffer := xbuffer) (xtaken := xtaken) (xoutcome := xoutcome) (xrunning := xrunning) (xgiven := xgiven) (xclosed := xclosed) (XdraftValues := XdraftValues) (Xop := Xop) (Xarg := Xarg) (Xparameter := Xparameter) (Xwaiting := Xwaiting) (Xdone := Xdone) (Xhole := Xhole) (Xscope := Xscope) (Xplace := Xplace) (Xlocals := Xlocals) (Xstack := Xstack) (Xcell := Xcell) (Xparent := Xparent) (Xbodies := Xbodies) (Xbinds := Xbinds) (Xscopes := Xscopes) (Xwhat := Xwhat) (Xfirst := Xfirst) (Xsecond := Xsecond) (Xthird := Xthird) (Xkept := Xkept) (yenvs := yenvs) (yclosures := yclosures) (ywork := ywork) (ybuffer := ybuffer) (ysteps := ysteps) (ymode := ymode) (yat := yat) (yenv := yenv) (ykind := ykind) (yvalue := yvalue) (ycode := ycode) (ytag := ytag) (yresultKind := yresultKind) (yresultValue := yresultValue) (Ynumbers := Ynumbers) (Yends := Yends) (Yparameters := Yparameters) (Yspecial := Yspecial) (YplaceKind := YplaceKind) (YplaceValue := YplaceValue) (Ythere := Ythere) (YsymbolOf := YsymbolOf) (YplaceOf := YplaceOf) (YnextOf := YnextOf) (YclosureSymbol := YclosureSymbol) (YclosureBody := YclosureBody) (YclosureEnv := YclosureEnv) (YworkToken := YworkToken) (YworkPhase := YworkPhase) (YworkEnv := YworkEnv) (YkeptKind := YkeptKind) (YkeptValue := YkeptValue) (YboundPlace := YboundPlace) (YoldKind := YoldKind) (YoldValue := YoldValue) (YoldBuffer := YoldBuffer) hd (fun j hj => ⟨(hkd j hj).1, (hkd j hj).2.1⟩) (fun j hj => (hkd j hj).2.2.1) eL
  have inq : ∀ {P : Int32 → Prop}, P 1 → wpX_in P (nI q) 4 := fun HP => zx_in (n := 4) (by omega) (fun _ _ _ => HP) (fun h => (zz_ni hq (by omega) rfl h).elim)
  have ins : ∀ {P : Int32 → Prop}, P 1 → wpX_in P (nI s) 8 := fun HP => zx_in (n := 8) (by omega) (fun _ _ _ => HP) (fun h => (zz_ni hs (by omega) rfl h).elim)
  have jnq : ∀ {P : Int32 → Prop}, P 1 → wpY_in P (nI q) 4 := fun HP => zy_in (n := 4) (by omega) (fun _ _ _ => HP) (fun h => (zz_ni hq (by omega) rfl h).elim)
  have jns : ∀ {P : Int32 → Prop}, P 1 → wpY_in P (nI s) 8 := fun HP => zy_in (n := 8) (by omega) (fun _ _ _ => HP) (fun h => (zz_ni hs (by omega) rfl h).elim)
  rcases hr with hr | ⟨hr, hOK⟩
  · subst hr
    refine ⟨0, (nI d, xspecial, xdefined, xhere, xdepth, xscoped, xcells, xclosures, xtop, xundo, xpc, xenv, xbuffer, xtaken, xoutcome, xrunning, xgiven, xclosed, Xdraft, XdraftValues, Xop, Xarg, Xparameter, Xwaiting, Xdone, Xhole, Xscope, Xplace, Xlocals, Xstack, Xcell, Xparent, Xbodies, Xbinds, Xscopes, Xwhat, Xfirst, Xsecond, Xthird, Xkept), (yenvs, yclosures, ywork, ybuffer, ysteps, ymode, yat, yenv, ykind, yvalue, ycode, ytag, yresultKind, yresultValue, Ykinds, Ynumbers, Yends, Ylengths, Yparameters, Yspecial, YplaceKind, YplaceValue, Ythere, YsymbolOf, YplaceOf, YnextOf, YclosureSymbol, YclosureBody, YclosureEnv, YworkToken, YworkPhase, YworkEnv, YkeptKind, YkeptValue, YboundPlace, YoldKind, YoldValue, YoldBuffer), ⟨⟨⟨d, hd, rfl, eL, hT⟩, hSP, hFN⟩, hPL, hLO, hRS, hts⟩, fun post HP => ?_, fun post HP => ?_⟩
    · unfold wpX_define
      exact inq (br_f (by decide) (ins (br_f (by decide) (hX _ (br_t rfl HP)))))
    · unfold wpY_define
      exact jnq (br_f (by decide) (jns (br_f (by decide) (hY _ (br_t rfl HP)))))
  · subst hr
    have hd0 := zz_OKd hOK
    have hPO : zz_PO kd d 1 0 d := by
      have := zz_OKp d 1 0 hOK
      rw [Nat.zero_add] at this
      exact this
    obtain ⟨K', N', hK1, hK2, hYC⟩ := zy_copy (Ykinds := Ykinds) (Ynumbers := Ynumbers) (Ylengths := Ylengths) (k := nI q) (s := nI s) (q := q) (dr := d) (yenvs := yenvs) (yclosures := yclosures) (ywork := ywork) (ybuffer := ybuffer) (ysteps := ysteps) (ymode := ymode) (yat := yat) (yenv := yenv) (ykind := ykind) (yvalue := yvalue) (ycode := ycode) (ytag := ytag) (yresultKind := yresultKind) (yresultValue := yresultValue) (Yends := Yends) (Yparameters := Yparameters) (Yspecial := Yspecial) (YplaceKind := YplaceKind) (YplaceValue := YplaceValue) (Ythere := Ythere) (YsymbolOf := YsymbolOf) (YplaceOf := YplaceOf) (YnextOf := YnextOf) (YclosureSymbol := YclosureSymbol) (YclosureBody := YclosureBody) (YclosureEnv := YclosureEnv) (YworkToken := YworkToken) (YworkPhase := YworkPhase) (YworkEnv := YworkEnv) (YkeptKind := YkeptKind) (YkeptValue := YkeptValue) (YboundPlace := YboundPlace) (YoldKind := YoldKind) (YoldValue := YoldValue) (YoldBuffer := YoldBuffer) hq rfl hd eL d 0 Ykinds Ynumbers (by omega) (fun i hi => by omega) (fun i _ => ⟨rfl, rfl⟩)
    obtain ⟨E', hPE, hE', hYE⟩ := zy_findEnds (Ykinds := K') (Ynumbers := N') (Yends := Yends) (Ylengths := upd Ylengths q (nI d)) (Yparameters := upd Yparameters q (nI s)) (kd := kd) (B := 48 * q) (yenvs := yenvs) (yclosures := yclosures) (ywork := ywork) (ybuffer := ybuffer) (ysteps := ysteps) (ymode := ymode) (yat := yat) (yenv := yenv) (ykind := ykind) (yvalue := yvalue) (ycode := ycode) (ytag := ytag) (yresultKind := yresultKind) (yresultValue := yresultValue) (Yspecial := Yspecial) (YplaceKind := YplaceKind) (YplaceValue := YplaceValue) (Ythere := Ythere) (YsymbolOf := YsymbolOf) (YplaceOf := YplaceOf) (YnextOf := YnextOf) (YclosureSymbol := YclosureSymbol) (YclosureBody := YclosureBody) (YclosureEnv := YclosureEnv) (YworkToken := YworkToken) (YworkPhase := YworkPhase) (YworkEnv := YworkEnv) (YkeptKind := YkeptKind) (YkeptValue := YkeptValue) (YboundPlace := YboundPlace) (YoldKind := YoldKind) (YoldValue := YoldValue) (YoldBuffer := YoldBuffer) (by omega) hd0 (fun j hj => ⟨by rw [(hK1 j hj).1]; exact (hkd j hj).2.2.1, (hkd j hj).2.1⟩) hPO
    have hD : zc_D kd K' N' E' Yspecial Xdraft XdraftValues xspecial q d := ⟨by omega, hd, hSP, fun j hj => ⟨(hkd j hj).1, (hkd j hj).2.1, by rw [(hK1 j hj).1]; exact (hkd j hj).2.2.1, by rw [(hK1 j hj).2]; exact (hkd j hj).2.2.2.1, (hkd j hj).2.2.2.2⟩⟩
    have hxl := zz_exl (S := Yspecial) (s := s) (sc := [])
    obtain ⟨e, n, op', ar', wa', dn', ho', so', hCD, hop, he, hR, hXC⟩ := zc_compile (Xop := Xop) (Xarg := Xarg) (Xscope := zz_xs Yspecial s 0 Xscope) (sc := zz_ex Yspecial s []) (h := 0) (xspecial := xspecial) (xdefined := xdefined) (xhere := xhere) (xdepth := xdepth) (xcells := xcells) (xclosures := xclosures) (xtop := xtop) (xundo := xundo) (xpc := xpc) (xenv := xenv) (xbuffer := xbuffer) (xtaken := xtaken) (xoutcome := xoutcome) (xrunning := xrunning) (xgiven := xgiven) (xclosed := xclosed) (Xdraft := Xdraft) (XdraftValues := XdraftValues) (Xparameter := Xparameter) (Xwaiting := Xwaiting) (Xdone := Xdone) (Xhole := Xhole) (Xplace := Xplace) (Xlocals := Xlocals) (Xstack := Xstack) (Xcell := Xcell) (Xparent := Xparent) (Xbodies := Xbodies) (Xbinds := Xbinds) (Xscopes := Xscopes) (Xwhat := Xwhat) (Xfirst := Xfirst) (Xsecond := Xsecond) (Xthird := Xthird) (Xkept := Xkept) hD hPE (zz_xsR (sc := []) trivial) (zz_xsB hs (fun _ h => by cases h)) (by simpa using hxl)
    have hl := zz_CDl hCD
    have hCD2 : zz_CD (upd op' e (nI 24)) (upd ar' e 0) K' N' E' Yspecial q n (48 * q) (256 * q) e (zz_ex Yspecial s []) := zz_CDc (fun _ _ _ => ⟨rfl, rfl, rfl⟩) _ _ _ _ _ (fun i h1 h2 => ⟨pk_un (by omega), pk_un (by omega)⟩) hCD
    have hFN2 : zz_FN (upd op' e (nI 24)) (upd ar' e 0) K' N' E' Yspecial (xdefined ||| ((1 : Int32) <<< (nI q &&& 31))) (upd Xparameter q (nI s)) (upd (upd Ylengths q (nI d)) 4 0) (upd Yparameters q (nI s)) := by
      intro p hp
      rw [zz_set (by omega) (by omega), pk_un (by omega)]
      by_cases z : p = q
      · subst z
        rw [pk_us, pk_us, pk_us]
        refine ⟨?_, fun _ => ⟨s, n, e, hs, rfl, rfl, hCD2, pk_us⟩⟩
        have : ¬ nI d = 0 := nI_ne0 hd0 (by omega)
        simp [this]
      · rw [pk_un z, pk_un z, pk_un z]
        have h1 := hFN p hp
        refine ⟨?_, fun hL => ?_⟩
        · rw [← h1.1]; simp [z]
        · obtain ⟨s1, n1, e1, a1, a2, a3, a4, a5⟩ := h1.2 hL
          have l := zz_CDl a4
          have hz : ∀ i, 256 * p ≤ i → i < 256 * p + 256 → upd op' e (nI 24) i = Xop i ∧ upd ar' e 0 i = Xarg i := by
            intro i h2 h3
            rw [pk_un (by omega), pk_un (by omega)]
            exact hop i (by omega)
          exact ⟨s1, n1, e1, a1, a2, a3, zz_CDc (fun t h2 h3 => ⟨(hK2 t (by omega)).1, (hK2 t (by omega)).2, hE' t (by omega)⟩) _ _ _ _ _ (fun i hi hj => hz i (by omega) (by omega)) a4, (hz e1 (by omega) (by omega)).1.trans a5⟩
    have hST2 : zz_ST (nI 0) xspecial (xdefined ||| ((1 : Int32) <<< (nI q &&& 31))) Xdraft XdraftValues (upd op' e (nI 24)) (upd ar' e 0) (upd Xparameter q (nI s)) K' N' E' (upd (upd Ylengths q (nI d)) 4 0) (upd Yparameters q (nI s)) Yspecial := ⟨⟨0, by omega, rfl, pk_us, fun j hj => by omega⟩, hSP, hFN2⟩
    refine ⟨1, (nI 0, xspecial, xdefined ||| ((1 : Int32) <<< (nI q &&& 31)), nI (e + 1), nI 0, nI (zz_ex Yspecial s []).length, xcells, xclosures, xtop, xundo, xpc, xenv, xbuffer, xtaken, xoutcome, xrunning, xgiven, xclosed, Xdraft, XdraftValues, upd op' e (nI 24), upd ar' e 0, upd Xparameter q (nI s), wa', dn', ho', so', Xplace, Xlocals, Xstack, Xcell, Xparent, Xbodies, Xbinds, Xscopes, Xwhat, Xfirst, Xsecond, Xthird, Xkept), (yenvs, yclosures, ywork, ybuffer, ysteps, ymode, yat, yenv, ykind, yvalue, ycode, ytag, yresultKind, yresultValue, K', N', E', upd (upd Ylengths q (nI d)) 4 0, upd Yparameters q (nI s), Yspecial, YplaceKind, YplaceValue, Ythere, YsymbolOf, YplaceOf, YnextOf, YclosureSymbol, YclosureBody, YclosureEnv, YworkToken, YworkPhase, YworkEnv, YkeptKind, YkeptValue, YboundPlace, YoldKind, YoldValue, YoldBuffer), ⟨hST2, hPL, hLO, hRS, hts⟩, fun post HP => ?_, fun post HP => ?_⟩
    · unfold wpX_define
      refine inq (br_f (by decide) (ins (br_f (by decide) (hX _ (br_f (by decide) ?_)))))
      have iq : vp_in (nI q) 4 := vp_in_nI hq (by omega)
      have e256 : (256 : Int32) * nI q = nI (256 * q) := pk_mul 256 q
      have h57 : wX_define_57 post (nI q) (nI s) (nI d) xspecial xdefined xhere xdepth (nI (zz_ex Yspecial s []).length) xcells xclosures xtop xundo xpc xenv xbuffer xtaken xoutcome xrunning xgiven xclosed Xdraft XdraftValues Xop Xarg Xparameter Xwaiting Xdone Xhole (zz_xs Yspecial s 0 Xscope) Xplace Xlocals Xstack Xcell Xparent Xbodies Xbinds Xscopes Xwhat Xfirst Xsecond Xthird Xkept := by
        unfold wX_define_57
        rw [e256]
        refine hXC _ (zx_emit (k := 24) (by omega) (by omega) (And.intro iq (nm_r (e' := upd Xparameter q (nI s)) ?_ (nm_e HP))))
        rw [nI_clamp (by omega), zz_vb (by omega)]
      refine zx_isSp hSP hs (fun z => br_f (by decide) ?_) (fun z => br_t rfl (nm_r (e' := nI 1) (by decide) (nm_r (e' := upd Xscope 0 (nI s)) (by rw [zz_vb (by omega)]) ?_)))
      · rw [zz_ex, zz_xs, if_neg z, if_neg z] at h57; exact h57
      · rw [zz_ex, zz_xs, if_pos z, if_pos z] at h57; exact h57
    · unfold wpY_define
      refine jnq (br_f (by decide) (jns (br_f (by decide) (hY _ (br_f (by decide) ⟨1 + d, hYC post 1 ?_⟩)))))
      have eq : (nI q).toNatClampNeg = q := nI_clamp (by omega)
      have i5 : vp_in (nI q) 5 := vp_in_nI (by omega) (by omega)
      have i4 : vp_in (nI q) 4 := vp_in_nI hq (by omega)
      refine br_t (by rw [eL]; exact Int32.le_refl _) (And.intro i5 (nm_r (e' := upd Ylengths q (nI d)) (by rw [eq, eL]) (And.intro i4 (nm_r (e' := upd Yparameters q (nI s)) (by rw [eq]) (And.intro i5 ?_)))))
      rw [eq, pk_us, show (48 : Int32) * nI q = nI (48 * q) from pk_mul 48 q]
      exact hYE _ (nm_e HP)
end
end
section
theorem zx_limit {P : Int32 → Prop} : ∀ k, k < 19 → P (nI (zz_lm k)) → wpX_limit P (nI k) := by
  have h9 : ∀ k, k < 19 → P (nI (zz_lm k)) → (k = 0 ∨ 5 ≤ k) → wX_limit_9 P (nI k) := by
    apply zz_k19 (Q := fun k => P (nI (zz_lm k)) → (k = 0 ∨ 5 ≤ k) → wX_limit_9 P (nI k))
    all_goals (intro h c; first | (exfalso; omega) | (unfold wX_limit_9; repeat (first | exact br_t (by decide) h | exact h | refine br_f (by decide) ?_)))
  intro k hk h
  rcases Nat.eq_zero_or_pos k with z | z
  · subst z; exact br_t (by decide) (h9 0 (by omega) h (Or.inl rfl))
  · rcases Nat.lt_or_ge k 5 with w | w
    · refine br_f (nI_nle z (by omega)) (br_t (nI_lt (a := k) (b := 5) w (by omega)) ?_)
      have e : zz_lm k = 8 := by
        have : k = 1 ∨ k = 2 ∨ k = 3 ∨ k = 4 := by omega
        rcases this with h | h | h | h <;> subst h <;> decide
      rw [e] at h
      exact h
    · exact br_f (nI_nle z (by omega)) (br_f (nI_nlt (a := k) (b := 5) w (by omega)) (h9 k hk h (Or.inr w)))
theorem zz_lm8 (k : Nat) : zz_lm k ≤ 8 := by
  unfold zz_lm
  repeat' split
  all_goals omega
section
variable {xdrafted xspecial xdefined xhere xdepth xscoped xcells xclosures xtop xundo xpc xenv xbuffer xtaken xoutcome xrunning xclosed : Int32} {xgiven : Int64} {Xdraft XdraftValues Xop Xarg Xparameter Xwaiting Xdone Xhole Xscope Xlocals Xparent Xbodies Xbinds Xscopes Xwhat Xfirst Xsecond Xthird : Nat → Int32} {Xplace Xstack Xcell Xkept : Nat → Int64} {yenvs yclosures ywork ybuffer ysteps ymode yat yenv ykind yvalue ycode ytag yresultKind yresultValue : Int32} {Ykinds Ynumbers Yends Ylengths Yparameters Yspecial YplaceKind YplaceValue Ythere YsymbolOf YplaceOf YnextOf YclosureSymbol YclosureBody YclosureEnv YworkToken YworkPhase YworkEnv YkeptKind YkeptValue YboundPlace YoldKind YoldValue YoldBuffer : Nat → Int32}
/-! the answers that only look -/
theorem zw_isLocal (hLO : zz_LO Xlocals Ythere) (v1 v2 : Int32) : ∃ r : Int32, (r = 0 ∨ (r = 1 ∧ ∃ b s, b < 3 ∧ s < 8 ∧ v1 = nI b ∧ v2 = nI s ∧ ¬ Ythere (8 + 8 * b + s) = 0)) ∧ (∀ post : Int32 → Prop, post r → wpX_isLocal post (xdrafted, xspecial, xdefined, xhere, xdepth, xscoped, xcells, xclosures, xtop, xundo, xpc, xenv, xbuffer, xtaken, xoutcome, xrunning, xgiven, xclosed, Xdraft, XdraftValues, Xop, Xarg, Xparameter, Xwaiting, Xdone, Xhole, Xscope, Xplace, Xlocals, Xstack, Xcell, Xparent, Xbodies, Xbinds, Xscopes, Xwhat, Xfirst, Xsecond, Xthird, Xkept) v1 v2) ∧ (∀ post : Int32 → Prop, post r → wpY_isLocal post (yenvs, yclosures, ywork, ybuffer, ysteps, ymode, yat, yenv, ykind, yvalue, ycode, ytag, yresultKind, yresultValue, Ykinds, Ynumbers, Yends, Ylengths, Yparameters, Yspecial, YplaceKind, YplaceValue, Ythere, YsymbolOf, YplaceOf, YnextOf, YclosureSymbol, YclosureBody, YclosureEnv, YworkToken, YworkPhase, YworkEnv, YkeptKind, YkeptValue, YboundPlace, YoldKind, YoldValue, YoldBuffer) v1 v2) := by
  rcases pk_ix v1 (n := 3) (by omega) with h | h | ⟨b, hb, eb⟩
  · refine ⟨0, Or.inl rfl, fun post HP => ?_, fun post HP => ?_⟩
    · unfold wpX_isLocal
      exact zx_in (n := 3) (by omega) (fun j hj e => (zz_ni hj (by omega) e (Or.inl h)).elim) (fun _ => br_t rfl HP)
    · unfold wpY_isLocal
      exact zy_in (n := 3) (by omega) (fun j hj e => (zz_ni hj (by omega) e (Or.inl h)).elim) (fun _ => br_t rfl HP)
  · refine ⟨0, Or.inl rfl, fun post HP => ?_, fun post HP => ?_⟩
    · unfold wpX_isLocal
      exact zx_in (n := 3) (by omega) (fun j hj e => (zz_ni hj (by omega) e (Or.inr h)).elim) (fun _ => br_t rfl HP)
    · unfold wpY_isLocal
      exact zy_in (n := 3) (by omega) (fun j hj e => (zz_ni hj (by omega) e (Or.inr h)).elim) (fun _ => br_t rfl HP)
  · subst eb
    have bX : ∀ {Q : Int32 → Prop}, Q 1 → wpX_in Q (nI b) 3 := fun HQ => zx_in (n := 3) (by omega) (fun _ _ _ => HQ) (fun h => (zz_ni hb (by omega) rfl h).elim)
    have bY : ∀ {Q : Int32 → Prop}, Q 1 → wpY_in Q (nI b) 3 := fun HQ => zy_in (n := 3) (by omega) (fun _ _ _ => HQ) (fun h => (zz_ni hb (by omega) rfl h).elim)
    rcases pk_ix v2 (n := 8) (by omega) with h | h | ⟨s, hs, es⟩
    · refine ⟨0, Or.inl rfl, fun post HP => ?_, fun post HP => ?_⟩
      · unfold wpX_isLocal
        exact bX (br_f (by decide) (zx_in (n := 8) (by omega) (fun j hj e => (zz_ni hj (by omega) e (Or.inl h)).elim) (fun _ => br_t rfl HP)))
      · unfold wpY_isLocal
        exact bY (br_f (by decide) (zy_in (n := 8) (by omega) (fun j hj e => (zz_ni hj (by omega) e (Or.inl h)).elim) (fun _ => br_t rfl HP)))
    · refine ⟨0, Or.inl rfl, fun post HP => ?_, fun post HP => ?_⟩
      · unfold wpX_isLocal
        exact bX (br_f (by decide) (zx_in (n := 8) (by omega) (fun j hj e => (zz_ni hj (by omega) e (Or.inr h)).elim) (fun _ => br_t rfl HP)))
      · unfold wpY_isLocal
        exact bY (br_f (by decide) (zy_in (n := 8) (by omega) (fun j hj e => (zz_ni hj (by omega) e (Or.inr h)).elim) (fun _ => br_t rfl HP)))
    · subst es
      have sX : ∀ {Q : Int32 → Prop}, Q 1 → wpX_in Q (nI s) 8 := fun HQ => zx_in (n := 8) (by omega) (fun _ _ _ => HQ) (fun h => (zz_ni hs (by omega) rfl h).elim)
      have sY : ∀ {Q : Int32 → Prop}, Q 1 → wpY_in Q (nI s) 8 := fun HQ => zy_in (n := 8) (by omega) (fun _ _ _ => HQ) (fun h => (zz_ni hs (by omega) rfl h).elim)
      have ib : vp_in (nI b) 3 := vp_in_nI hb (by omega)
      have eb : (nI b).toNatClampNeg = b := nI_clamp (by omega)
      have e8 : ((8 : Int32) + 8 * nI b) + nI s = nI (8 + 8 * b + s) := by rw [show (8 : Int32) = nI 8 from rfl, pk_mul, nI_add, nI_add]
      have i8 : vp_in (((8 : Int32) + 8 * nI b) + nI s) 32 := by rw [e8]; exact vp_in_nI (by omega) (by omega)
      have c8 : (((8 : Int32) + 8 * nI b) + nI s).toNatClampNeg = 8 + 8 * b + s := by rw [e8]; exact nI_clamp (by omega)
      have hbit : (((Xlocals (nI b).toNatClampNeg) >>> (nI s &&& 31)) &&& 1) = 1 ↔ ¬ Ythere (8 + 8 * b + s) = 0 := by rw [eb, zz_bit (by omega)]; exact hLO b s hb hs
      by_cases z : Ythere (8 + 8 * b + s) = 0
      · refine ⟨0, Or.inl rfl, fun post HP => ?_, fun post HP => ?_⟩
        · unfold wpX_isLocal
          exact bX (br_f (by decide) (sX (br_f (by decide) (And.intro ib (br_f (fun w => hbit.mp w z) HP)))))
        · unfold wpY_isLocal
          exact bY (br_f (by decide) (sY (br_f (by decide) (And.intro i8 (br_t (by rw [c8]; exact z) HP)))))
      · refine ⟨1, Or.inr ⟨rfl, b, s, hb, hs, rfl, rfl, z⟩, fun post HP => ?_, fun post HP => ?_⟩
        · unfold wpX_isLocal
          exact bX (br_f (by decide) (sX (br_f (by decide) (And.intro ib (br_t (hbit.mpr z) HP)))))
        · unfold wpY_isLocal
          exact bY (br_f (by decide) (sY (br_f (by decide) (And.intro i8 (br_f (by rw [c8]; exact z) HP)))))
theorem zw_shown {p : Nat} (hp : p < 32) (hv : p < 8 ∨ ¬ Ythere p = 0) (hPL : zz_PL 0 Xplace YplaceKind YplaceValue Ythere) : ∃ r : Int64, (∀ post : Int64 → Prop, post r → wpX_shown post (xdrafted, xspecial, xdefined, xhere, xdepth, xscoped, xcells, xclosures, xtop, xundo, xpc, xenv, xbuffer, xtaken, xoutcome, xrunning, xgiven, xclosed, Xdraft, XdraftValues, Xop, Xarg, Xparameter, Xwaiting, Xdone, Xhole, Xscope, Xplace, Xlocals, Xstack, Xcell, Xparent, Xbodies, Xbinds, Xscopes, Xwhat, Xfirst, Xsecond, Xthird, Xkept) (nI p)) ∧ (∀ post : Int64 → Prop, post r → wpY_shown post (yenvs, yclosures, ywork, ybuffer, ysteps, ymode, yat, yenv, ykind, yvalue, ycode, ytag, yresultKind, yresultValue, Ykinds, Ynumbers, Yends, Ylengths, Yparameters, Yspecial, YplaceKind, YplaceValue, Ythere, YsymbolOf, YplaceOf, YnextOf, YclosureSymbol, YclosureBody, YclosureEnv, YworkToken, YworkPhase, YworkEnv, YkeptKind, YkeptValue, YboundPlace, YoldKind, YoldValue, YoldBuffer) (nI p)) := by
  obtain ⟨h1, h2⟩ := hPL p hp hv
  have ep : (nI p).toNatClampNeg = p := nI_clamp (by omega)
  have ix : vp_in (nI p) 32 := vp_in_nI hp (by omega)
  have iy : vp_in (nI p) 340 := vp_in_nI (by omega) (by omega)
  by_cases z : YplaceKind p = 0
  · refine ⟨(YplaceValue p).toInt64, fun post HP => And.intro ix (br_f ?_ (And.intro ix ?_)), fun post HP => And.intro iy (br_t (by rw [ep]; exact z) (And.intro iy ?_))⟩
    · rw [ep, h1]
      intro w
      have := (zz_eq2 (by omega) h2).mp w
      rw [z] at this
      exact absurd this (by decide)
    · rw [ep, h1, z]; exact HP
    · rw [ep]; exact HP
  · have z2 : YplaceKind p = 2 := by
      rcases h2 with (h | ⟨_, c, hc, _⟩) | h
      · exact absurd h z
      · omega
      · exact h
    refine ⟨10000000000, fun post HP => And.intro ix (br_t ?_ HP), fun post HP => And.intro iy (br_f (by rw [ep]; exact z) HP)⟩
    rw [ep, h1, z2]; rfl
/-! loops over places -/
theorem zx_ini {pl : Nat → Int64} : ∀ (d k : Nat) (p1 : Nat → Int64), k + d = 32 → (∀ p, p < k → p1 p = 20000000000) → ∃ pl' : Nat → Int64, (∀ p, p < 32 → pl' p = 20000000000) ∧ ∀ post : SX → Prop, post (xdrafted, xspecial, xdefined, xhere, xdepth, xscoped, xcells, xclosures, xtop, xundo, xpc, xenv, xbuffer, xtaken, xoutcome, xrunning, xgiven, xclosed, Xdraft, XdraftValues, Xop, Xarg, Xparameter, Xwaiting, Xdone, Xhole, Xscope, pl', Xlocals, Xstack, Xcell, Xparent, Xbodies, Xbinds, Xscopes, Xwhat, Xfirst, Xsecond, Xthird, Xkept) → wX_init_200 post xdrafted xspecial xdefined xhere xdepth xscoped xcells xclosures xtop xundo xpc xenv xbuffer xtaken xoutcome xrunning xgiven xclosed (d + 1) (nI k) Xdraft XdraftValues Xop Xarg Xparameter Xwaiting Xdone Xhole Xscope p1 Xlocals Xstack Xcell Xparent Xbodies Xbinds Xscopes Xwhat Xfirst Xsecond Xthird Xkept := by
  intro d
  induction d with
  | zero =>
    intro k p1 hk h
    have e : k = 32 := by omega
    subst e
    exact ⟨p1, h, fun post HP => br_t (by decide) HP⟩
  | succ d ih =>
    intro k p1 hk h
    obtain ⟨pl', h1, h2⟩ := ih (k + 1) (vp_updL p1 k 20000000000) (by omega) (fun p hp => by
      by_cases z : p = k
      · subst z; exact pk_uLs
      · rw [pk_uLn z]; exact h p (by omega))
    refine ⟨pl', h1, fun post HP => br_f (nI_ge (a := k) (b := 32) (by omega) (by omega)) (And.intro (vp_in_nI (by omega) (by omega)) (nm_r (e' := vp_updL p1 k 20000000000) ?_ (nm_r (nI_1 k) (h2 post HP))))⟩
    rw [nI_clamp (by omega)]
theorem zy_ini : ∀ (d k : Nat) (p1 : Nat → Int32), k + d = 32 → (∀ p, p < k → p1 p = 2) → ∃ pk' : Nat → Int32, (∀ p, p < 32 → pk' p = 2) ∧ ∀ post : SY → Prop, post (yenvs, yclosures, ywork, ybuffer, ysteps, ymode, yat, yenv, ykind, yvalue, ycode, ytag, yresultKind, yresultValue, Ykinds, Ynumbers, Yends, Ylengths, Yparameters, Yspecial, pk', YplaceValue, Ythere, YsymbolOf, YplaceOf, YnextOf, YclosureSymbol, YclosureBody, YclosureEnv, YworkToken, YworkPhase, YworkEnv, YkeptKind, YkeptValue, YboundPlace, YoldKind, YoldValue, YoldBuffer) → wY_init_221 post yenvs yclosures ywork ybuffer ysteps ymode yat yenv ykind yvalue ycode ytag yresultKind yresultValue (d + 1) (nI k) Ykinds Ynumbers Yends Ylengths Yparameters Yspecial p1 YplaceValue Ythere YsymbolOf YplaceOf YnextOf YclosureSymbol YclosureBody YclosureEnv YworkToken YworkPhase YworkEnv YkeptKind YkeptValue YboundPlace YoldKind YoldValue YoldBuffer := by
  intro d
  induction d with
  | zero =>
    intro k p1 hk h
    have e : k = 32 := by omega
    subst e
    exact ⟨p1, h, fun post HP => br_t (by decide) HP⟩
  | succ d ih =>
    intro k p1 hk h
    obtain ⟨pk', h1, h2⟩ := ih (k + 1) (upd p1 k 2) (by omega) (fun p hp => by
      by_cases z : p = k
      · subst z; exact pk_us
      · rw [pk_un z]; exact h p (by omega))
    refine ⟨pk', h1, fun post HP => br_f (nI_ge (a := k) (b := 32) (by omega) (by omega)) (And.intro (vp_in_nI (by omega) (by omega)) (nm_r (e' := upd p1 k 2) ?_ (nm_r (nI_1 k) (h2 post HP))))⟩
    rw [nI_clamp (by omega)]
theorem zx_sp70 : ∀ (d k : Nat) (p1 : Nat → Int32), k + d = 3 → (∀ p, p < k → p1 p = 0) → ∃ lo' : Nat → Int32, (∀ p, p < 3 → lo' p = 0) ∧ ∀ post : Int32 → SX → Prop, post 1 (xdrafted, xspecial, xdefined, xhere, xdepth, xscoped, xcells, xclosures, xtop, xundo, xpc, xenv, xbuffer, xtaken, xoutcome, xrunning, xgiven, xclosed, Xdraft, XdraftValues, Xop, Xarg, Xparameter, Xwaiting, Xdone, Xhole, Xscope, Xplace, lo', Xstack, Xcell, Xparent, Xbodies, Xbinds, Xscopes, Xwhat, Xfirst, Xsecond, Xthird, Xkept) → wX_special_70 post xdrafted xspecial xdefined xhere xdepth xscoped xcells xclosures xtop xundo xpc xenv xbuffer xtaken xoutcome xrunning xgiven xclosed (d + 1) (nI k) Xdraft XdraftValues Xop Xarg Xparameter Xwaiting Xdone Xhole Xscope Xplace p1 Xstack Xcell Xparent Xbodies Xbinds Xscopes Xwhat Xfirst Xsecond Xthird Xkept := by
  intro d
  induction d with
  | zero =>
    intro k p1 hk h
    have e : k = 3 := by omega
    subst e
    exact ⟨p1, h, fun post HP => br_t (by decide) HP⟩
  | succ d ih =>
    intro k p1 hk h
    obtain ⟨pk', h1, h2⟩ := ih (k + 1) (upd p1 k 0) (by omega) (fun p hp => by
      by_cases z : p = k
      · subst z; exact pk_us
      · rw [pk_un z]; exact h p (by omega))
    refine ⟨pk', h1, fun post HP => br_f (nI_ge (a := k) (b := 3) (by omega) (by omega)) (And.intro (vp_in_nI (by omega) (by omega)) (nm_r (e' := upd p1 k 0) ?_ (nm_r (nI_1 k) (h2 post HP))))⟩
    rw [nI_clamp (by omega)]
theorem zx_sp47 : ∀ (d k : Nat) (p1 : Nat → Int64), k + d = 8 → (∀ p, p < k → p1 p = 20000000000) → ∃ (pl' : Nat → Int64) (lo' : Nat → Int32), (∀ p, p < 8 → pl' p = 20000000000) ∧ (∀ p, p < 3 → lo' p = 0) ∧ ∀ post : Int32 → SX → Prop, post 1 (xdrafted, xspecial, xdefined, xhere, xdepth, xscoped, xcells, xclosures, xtop, xundo, xpc, xenv, xbuffer, xtaken, xoutcome, xrunning, xgiven, xclosed, Xdraft, XdraftValues, Xop, Xarg, Xparameter, Xwaiting, Xdone, Xhole, Xscope, pl', lo', Xstack, Xcell, Xparent, Xbodies, Xbinds, Xscopes, Xwhat, Xfirst, Xsecond, Xthird, Xkept) → wX_special_47 post xdrafted xspecial xdefined xhere xdepth xscoped xcells xclosures xtop xundo xpc xenv xbuffer xtaken xoutcome xrunning xgiven xclosed (d + 1) (nI k) Xdraft XdraftValues Xop Xarg Xparameter Xwaiting Xdone Xhole Xscope p1 Xlocals Xstack Xcell Xparent Xbodies Xbinds Xscopes Xwhat Xfirst Xsecond Xthird Xkept := by
  intro d
  induction d with
  | zero =>
    intro k p1 hk h
    have e : k = 8 := by omega
    subst e
    obtain ⟨lo', g1, g2⟩ := zx_sp70 (Xplace := p1) (xdrafted := xdrafted) (xspecial := xspecial) (xdefined := xdefined) (xhere := xhere) (xdepth := xdepth) (xscoped := xscoped) (xcells := xcells) (xclosures := xclosures) (xtop := xtop) (xundo := xundo) (xpc := xpc) (xenv := xenv) (xbuffer := xbuffer) (xtaken := xtaken) (xoutcome := xoutcome) (xrunning := xrunning) (xgiven := xgiven) (xclosed := xclosed) (Xdraft := Xdraft) (XdraftValues := XdraftValues) (Xop := Xop) (Xarg := Xarg) (Xparameter := Xparameter) (Xwaiting := Xwaiting) (Xdone := Xdone) (Xhole := Xhole) (Xscope := Xscope) (Xstack := Xstack) (Xcell := Xcell) (Xparent := Xparent) (Xbodies := Xbodies) (Xbinds := Xbinds) (Xscopes := Xscopes) (Xwhat := Xwhat) (Xfirst := Xfirst) (Xsecond := Xsecond) (Xthird := Xthird) (Xkept := Xkept) 3 0 Xlocals (by omega) (fun p hp => by omega)
    exact ⟨p1, lo', h, g1, fun post HP => br_t (by decide) ⟨4, g2 post HP⟩⟩
  | succ d ih =>
    intro k p1 hk h
    obtain ⟨pl', lo', h1, h2, h3⟩ := ih (k + 1) (vp_updL p1 k 20000000000) (by omega) (fun p hp => by
      by_cases z : p = k
      · subst z; exact pk_uLs
      · rw [pk_uLn z]; exact h p (by omega))
    refine ⟨pl', lo', h1, h2, fun post HP => br_f (nI_ge (a := k) (b := 8) (by omega) (by omega)) (And.intro (vp_in_nI (by omega) (by omega)) (nm_r (e' := vp_updL p1 k 20000000000) ?_ (nm_r (nI_1 k) (h3 post HP))))⟩
    rw [nI_clamp (by omega)]
theorem zy_sp40 : ∀ (d k : Nat) (p1 t1 : Nat → Int32), k + d = 32 → (∀ p, p < k → p1 p = 2 ∧ t1 p = 0) → ∃ pk' th' : Nat → Int32, (∀ p, p < 32 → pk' p = 2 ∧ th' p = 0) ∧ ∀ post : Int32 → SY → Prop, post 1 (yenvs, yclosures, ywork, ybuffer, ysteps, ymode, yat, yenv, ykind, yvalue, ycode, ytag, yresultKind, yresultValue, Ykinds, Ynumbers, Yends, Ylengths, Yparameters, Yspecial, pk', YplaceValue, th', YsymbolOf, YplaceOf, YnextOf, YclosureSymbol, YclosureBody, YclosureEnv, YworkToken, YworkPhase, YworkEnv, YkeptKind, YkeptValue, YboundPlace, YoldKind, YoldValue, YoldBuffer) → wY_special_40 post yenvs yclosures ywork ybuffer ysteps ymode yat yenv ykind yvalue ycode ytag yresultKind yresultValue (d + 1) (nI k) Ykinds Ynumbers Yends Ylengths Yparameters Yspecial p1 YplaceValue t1 YsymbolOf YplaceOf YnextOf YclosureSymbol YclosureBody YclosureEnv YworkToken YworkPhase YworkEnv YkeptKind YkeptValue YboundPlace YoldKind YoldValue YoldBuffer := by
  intro d
  induction d with
  | zero =>
    intro k p1 t1 hk h
    have e : k = 32 := by omega
    subst e
    exact ⟨p1, t1, h, fun post HP => br_t (by decide) HP⟩
  | succ d ih =>
    intro k p1 t1 hk h
    obtain ⟨pk', th', h1, h2⟩ := ih (k + 1) (upd p1 k 2) (upd t1 k 0) (by omega) (fun p hp => by
      by_cases z : p = k
      · subst z; exact ⟨pk_us, pk_us⟩
      · rw [pk_un z, pk_un z]; exact h p (by omega))
    have ek : (nI k).toNatClampNeg = k := nI_clamp (by omega)
    refine ⟨pk', th', h1, fun post HP => br_f (nI_ge (a := k) (b := 32) (by omega) (by omega)) (And.intro (vp_in_nI (by omega) (by omega)) (nm_r (e' := upd p1 k 2) (by rw [ek]) (And.intro (vp_in_nI (by omega) (by omega)) (nm_r (e' := upd t1 k 0) ?_ (nm_r (nI_1 k) (h2 post HP))))))⟩
    rw [ek]; rfl
theorem zy_sp20 : ∀ (d k : Nat) (l1 : Nat → Int32), k + d = 4 → (∀ p, p < k → l1 p = 0) → l1 4 = Ylengths 4 → ∃ le' pk' th' : Nat → Int32, (∀ p, p < 4 → le' p = 0) ∧ le' 4 = Ylengths 4 ∧ (∀ p, p < 32 → pk' p = 2 ∧ th' p = 0) ∧ ∀ post : Int32 → SY → Prop, post 1 (yenvs, yclosures, ywork, ybuffer, ysteps, ymode, yat, yenv, ykind, yvalue, ycode, ytag, yresultKind, yresultValue, Ykinds, Ynumbers, Yends, le', Yparameters, Yspecial, pk', YplaceValue, th', YsymbolOf, YplaceOf, YnextOf, YclosureSymbol, YclosureBody, YclosureEnv, YworkToken, YworkPhase, YworkEnv, YkeptKind, YkeptValue, YboundPlace, YoldKind, YoldValue, YoldBuffer) → wY_special_20 post yenvs yclosures ywork ybuffer ysteps ymode yat yenv ykind yvalue ycode ytag yresultKind yresultValue (d + 1) (nI k) Ykinds Ynumbers Yends l1 Yparameters Yspecial YplaceKind YplaceValue Ythere YsymbolOf YplaceOf YnextOf YclosureSymbol YclosureBody YclosureEnv YworkToken YworkPhase YworkEnv YkeptKind YkeptValue YboundPlace YoldKind YoldValue YoldBuffer := by
  intro d
  induction d with
  | zero =>
    intro k l1 hk h h4
    have e : k = 4 := by omega
    subst e
    obtain ⟨pk', th', g1, g2⟩ := zy_sp40 (Ylengths := l1) (yenvs := yenvs) (yclosures := yclosures) (ywork := ywork) (ybuffer := ybuffer) (ysteps := ysteps) (ymode := ymode) (yat := yat) (yenv := yenv) (ykind := ykind) (yvalue := yvalue) (ycode := ycode) (ytag := ytag) (yresultKind := yresultKind) (yresultValue := yresultValue) (Ykinds := Ykinds) (Ynumbers := Ynumbers) (Yends := Yends) (Yparameters := Yparameters) (Yspecial := Yspecial) (YplaceValue := YplaceValue) (YsymbolOf := YsymbolOf) (YplaceOf := YplaceOf) (YnextOf := YnextOf) (YclosureSymbol := YclosureSymbol) (YclosureBody := YclosureBody) (YclosureEnv := YclosureEnv) (YworkToken := YworkToken) (YworkPhase := YworkPhase) (YworkEnv := YworkEnv) (YkeptKind := YkeptKind) (YkeptValue := YkeptValue) (YboundPlace := YboundPlace) (YoldKind := YoldKind) (YoldValue := YoldValue) (YoldBuffer := YoldBuffer) 32 0 YplaceKind Ythere (by omega) (fun p hp => by omega)
    exact ⟨l1, pk', th', h, h4, g1, fun post HP => br_t (by decide) ⟨33, g2 post HP⟩⟩
  | succ d ih =>
    intro k l1 hk h h4
    obtain ⟨le', pk', th', h1, h2, h3, h5⟩ := ih (k + 1) (upd l1 k 0) (by omega) (fun p hp => by
      by_cases z : p = k
      · subst z; exact pk_us
      · rw [pk_un z]; exact h p (by omega)) (by rw [pk_un (by omega)]; exact h4)
    refine ⟨le', pk', th', h1, h2, h3, fun post HP => br_f (nI_ge (a := k) (b := 4) (by omega) (by omega)) (And.intro (vp_in_nI (by omega) (by omega)) (nm_r (e' := upd l1 k 0) ?_ (nm_r (nI_1 k) (h5 post HP))))⟩
    rw [nI_clamp (by omega)]
end
end
section
theorem zz_FNl {op ar K N E S : Nat → Int32} {df : Int32} {pa L pr : Nat → Int32} {x : Int32} (H : zz_FN op ar K N E S df pa L pr) : zz_FN op ar K N E S df pa (upd L 4 x) pr := by
  intro q hq
  rw [pk_un (by omega)]
  exact H q hq
section
variable {xdrafted xspecial xdefined xhere xdepth xscoped xcells xclosures xtop xundo xpc xenv xbuffer xtaken xoutcome xrunning xclosed : Int32} {xgiven : Int64} {Xdraft XdraftValues Xop Xarg Xparameter Xwaiting Xdone Xhole Xscope Xlocals Xparent Xbodies Xbinds Xscopes Xwhat Xfirst Xsecond Xthird : Nat → Int32} {Xplace Xstack Xcell Xkept : Nat → Int64} {yenvs yclosures ywork ybuffer ysteps ymode yat yenv ykind yvalue ycode ytag yresultKind yresultValue : Int32} {Ykinds Ynumbers Yends Ylengths Yparameters Yspecial YplaceKind YplaceValue Ythere YsymbolOf YplaceOf YnextOf YclosureSymbol YclosureBody YclosureEnv YworkToken YworkPhase YworkEnv YkeptKind YkeptValue YboundPlace YoldKind YoldValue YoldBuffer : Nat → Int32}
theorem zy_limit {P : Int32 → SY → Prop} {v2 : Int32} : ∀ k, k < 19 → wY_token_54 P (nI k) v2 (nI (zz_lm k)) yenvs yclosures ywork ybuffer ysteps ymode yat yenv ykind yvalue ycode ytag yresultKind yresultValue Ykinds Ynumbers Yends Ylengths Yparameters Yspecial YplaceKind YplaceValue Ythere YsymbolOf YplaceOf YnextOf YclosureSymbol YclosureBody YclosureEnv YworkToken YworkPhase YworkEnv YkeptKind YkeptValue YboundPlace YoldKind YoldValue YoldBuffer → wpY_token P (yenvs, yclosures, ywork, ybuffer, ysteps, ymode, yat, yenv, ykind, yvalue, ycode, ytag, yresultKind, yresultValue, Ykinds, Ynumbers, Yends, Ylengths, Yparameters, Yspecial, YplaceKind, YplaceValue, Ythere, YsymbolOf, YplaceOf, YnextOf, YclosureSymbol, YclosureBody, YclosureEnv, YworkToken, YworkPhase, YworkEnv, YkeptKind, YkeptValue, YboundPlace, YoldKind, YoldValue, YoldBuffer) (nI k) v2 := by
  apply zz_k19 (Q := fun k => wY_token_54 P (nI k) v2 (nI (zz_lm k)) yenvs yclosures ywork ybuffer ysteps ymode yat yenv ykind yvalue ycode ytag yresultKind yresultValue Ykinds Ynumbers Yends Ylengths Yparameters Yspecial YplaceKind YplaceValue Ythere YsymbolOf YplaceOf YnextOf YclosureSymbol YclosureBody YclosureEnv YworkToken YworkPhase YworkEnv YkeptKind YkeptValue YboundPlace YoldKind YoldValue YoldBuffer → wpY_token P (yenvs, yclosures, ywork, ybuffer, ysteps, ymode, yat, yenv, ykind, yvalue, ycode, ytag, yresultKind, yresultValue, Ykinds, Ynumbers, Yends, Ylengths, Yparameters, Yspecial, YplaceKind, YplaceValue, Ythere, YsymbolOf, YplaceOf, YnextOf, YclosureSymbol, YclosureBody, YclosureEnv, YworkToken, YworkPhase, YworkEnv, YkeptKind, YkeptValue, YboundPlace, YoldKind, YoldValue, YoldBuffer) (nI k) v2)
  all_goals (intro h; unfold wpY_token)
  · exact br_t (by decide) (br_t rfl (br_f (by decide) (br_f (by decide) (br_f (by decide) (br_f (by decide) (br_f (by decide) h))))))
  · exact br_f (by decide) (br_f (by decide) (br_f (by decide) h))
  · exact br_f (by decide) (br_f (by decide) (br_f (by decide) h))
  · exact br_f (by decide) (br_f (by decide) (br_f (by decide) h))
  · exact br_f (by decide) (br_f (by decide) (br_f (by decide) h))
  · exact br_f (by decide) (br_t (by decide) (br_t rfl (br_f (by decide) (br_f (by decide) (br_f (by decide) (br_f (by decide) (br_f (by decide) h)))))))
  · exact br_f (by decide) (br_t (by decide) (br_t rfl (br_f (by decide) (br_t (by decide) h))))
  · exact br_f (by decide) (br_t (by decide) (br_t rfl (br_f (by decide) (br_f (by decide) (br_f (by decide) (br_f (by decide) (br_f (by decide) h)))))))
  · exact br_f (by decide) (br_t (by decide) (br_t rfl (br_f (by decide) (br_f (by decide) (br_f (by decide) (br_f (by decide) (br_f (by decide) h)))))))
  · exact br_f (by decide) (br_t (by decide) (br_t rfl (br_f (by decide) (br_f (by decide) (br_f (by decide) (br_f (by decide) (br_f (by decide) h)))))))
  · exact br_f (by decide) (br_t (by decide) (br_t rfl (br_f (by decide) (br_f (by decide) (br_f (by decide) (br_f (by decide) (br_f (by decide) h)))))))
  · exact br_f (by decide) (br_t (by decide) (br_t rfl (br_f (by decide) (br_f (by decide) (br_f (by decide) (br_f (by decide) (br_f (by decide) h)))))))
  · exact br_f (by decide) (br_t (by decide) (br_t rfl (br_f (by decide) (br_f (by decide) (br_t (by decide) h)))))
  · exact br_f (by decide) (br_t (by decide) (br_t rfl (br_f (by decide) (br_f (by decide) (br_f (by decide) (br_t (by decide) h))))))
  · exact br_f (by decide) (br_t (by decide) (br_t rfl (br_f (by decide) (br_f (by decide) (br_f (by decide) (br_f (by decide) (br_f (by decide) h)))))))
  · exact br_f (by decide) (br_t (by decide) (br_t rfl (br_f (by decide) (br_f (by decide) (br_f (by decide) (br_f (by decide) (br_f (by decide) h)))))))
  · exact br_f (by decide) (br_t (by decide) (br_t rfl (br_f (by decide) (br_f (by decide) (br_f (by decide) (br_f (by decide) (br_t (by decide) h)))))))
  · exact br_f (by decide) (br_t (by decide) (br_t rfl (br_t (by decide) h)))
  · exact br_f (by decide) (br_t (by decide) (br_t rfl (br_f (by decide) (br_f (by decide) (br_f (by decide) (br_f (by decide) (br_f (by decide) h)))))))
/-- a kind that is none: whatever the limit -/
theorem zy_tokN {P : Int32 → SY → Prop} {v1 v2 : Int32} (h : v1 < 0 ∨ nI 19 ≤ v1) (HP : P (-1) (yenvs, yclosures, ywork, ybuffer, ysteps, ymode, yat, yenv, ykind, yvalue, ycode, ytag, yresultKind, yresultValue, Ykinds, Ynumbers, Yends, Ylengths, Yparameters, Yspecial, YplaceKind, YplaceValue, Ythere, YsymbolOf, YplaceOf, YnextOf, YclosureSymbol, YclosureBody, YclosureEnv, YworkToken, YworkPhase, YworkEnv, YkeptKind, YkeptValue, YboundPlace, YoldKind, YoldValue, YoldBuffer)) : wpY_token P (yenvs, yclosures, ywork, ybuffer, ysteps, ymode, yat, yenv, ykind, yvalue, ycode, ytag, yresultKind, yresultValue, Ykinds, Ynumbers, Yends, Ylengths, Yparameters, Yspecial, YplaceKind, YplaceValue, Ythere, YsymbolOf, YplaceOf, YnextOf, YclosureSymbol, YclosureBody, YclosureEnv, YworkToken, YworkPhase, YworkEnv, YkeptKind, YkeptValue, YboundPlace, YoldKind, YoldValue, YoldBuffer) v1 v2 := by
  have h54 : ∀ z, wY_token_54 P v1 v2 z yenvs yclosures ywork ybuffer ysteps ymode yat yenv ykind yvalue ycode ytag yresultKind yresultValue Ykinds Ynumbers Yends Ylengths Yparameters Yspecial YplaceKind YplaceValue Ythere YsymbolOf YplaceOf YnextOf YclosureSymbol YclosureBody YclosureEnv YworkToken YworkPhase YworkEnv YkeptKind YkeptValue YboundPlace YoldKind YoldValue YoldBuffer := by
    intro z
    unfold wY_token_54
    exact zy_in (n := 19) (by omega) (fun j hj e => (zz_ni hj (by omega) e h).elim) (fun _ => br_t rfl HP)
  unfold wpY_token
  refine zy_in (n := 4) (by omega) (fun _ _ _ => br_f (by decide) (h54 8)) (fun _ => br_t rfl ?_)
  exact br_c (fun _ => h54 8) (fun _ => br_c (fun _ => h54 4) (fun _ => br_c (fun _ => h54 4) (fun _ => br_c (fun _ => h54 4) (fun _ => br_c (fun _ => h54 3) (fun _ => h54 0)))))
theorem zw_token (hST : zz_ST xdrafted xspecial xdefined Xdraft XdraftValues Xop Xarg Xparameter Ykinds Ynumbers Yends Ylengths Yparameters Yspecial) (hPL : zz_PL 0 Xplace YplaceKind YplaceValue Ythere) (hLO : zz_LO Xlocals Ythere) (hRS : zz_RS xgiven xclosed yresultKind yresultValue) (hts : xtaken = ysteps) (v1 v2 : Int32) : ∃ (r : Int32) (u' : SX) (v' : SY), zz_Rel u' v' ∧ (∀ post : Int32 → SX → Prop, post r u' → wpX_token post (xdrafted, xspecial, xdefined, xhere, xdepth, xscoped, xcells, xclosures, xtop, xundo, xpc, xenv, xbuffer, xtaken, xoutcome, xrunning, xgiven, xclosed, Xdraft, XdraftValues, Xop, Xarg, Xparameter, Xwaiting, Xdone, Xhole, Xscope, Xplace, Xlocals, Xstack, Xcell, Xparent, Xbodies, Xbinds, Xscopes, Xwhat, Xfirst, Xsecond, Xthird, Xkept) v1 v2) ∧ (∀ post : Int32 → SY → Prop, post r v' → wpY_token post (yenvs, yclosures, ywork, ybuffer, ysteps, ymode, yat, yenv, ykind, yvalue, ycode, ytag, yresultKind, yresultValue, Ykinds, Ynumbers, Yends, Ylengths, Yparameters, Yspecial, YplaceKind, YplaceValue, Ythere, YsymbolOf, YplaceOf, YnextOf, YclosureSymbol, YclosureBody, YclosureEnv, YworkToken, YworkPhase, YworkEnv, YkeptKind, YkeptValue, YboundPlace, YoldKind, YoldValue, YoldBuffer) v1 v2) := by
  have same : zz_Rel (xdrafted, xspecial, xdefined, xhere, xdepth, xscoped, xcells, xclosures, xtop, xundo, xpc, xenv, xbuffer, xtaken, xoutcome, xrunning, xgiven, xclosed, Xdraft, XdraftValues, Xop, Xarg, Xparameter, Xwaiting, Xdone, Xhole, Xscope, Xplace, Xlocals, Xstack, Xcell, Xparent, Xbodies, Xbinds, Xscopes, Xwhat, Xfirst, Xsecond, Xthird, Xkept) (yenvs, yclosures, ywork, ybuffer, ysteps, ymode, yat, yenv, ykind, yvalue, ycode, ytag, yresultKind, yresultValue, Ykinds, Ynumbers, Yends, Ylengths, Yparameters, Yspecial, YplaceKind, YplaceValue, Ythere, YsymbolOf, YplaceOf, YnextOf, YclosureSymbol, YclosureBody, YclosureEnv, YworkToken, YworkPhase, YworkEnv, YkeptKind, YkeptValue, YboundPlace, YoldKind, YoldValue, YoldBuffer) := ⟨hST, hPL, hLO, hRS, hts⟩
  obtain ⟨⟨d, hd, ed, eL, hT⟩, hSP, hFN⟩ := hST
  subst ed
  rcases pk_ix v1 (n := 19) (by omega) with h | h | ⟨k, hk, ek⟩
  · refine ⟨-1, _, _, same, fun post HP => ?_, fun post HP => zy_tokN (Or.inl h) HP⟩
    unfold wpX_token
    exact zx_in (n := 19) (by omega) (fun j hj e => (zz_ni hj (by omega) e (Or.inl h)).elim) (fun _ => br_t rfl HP)
  · refine ⟨-1, _, _, same, fun post HP => ?_, fun post HP => zy_tokN (Or.inr h) HP⟩
    unfold wpX_token
    exact zx_in (n := 19) (by omega) (fun j hj e => (zz_ni hj (by omega) e (Or.inr h)).elim) (fun _ => br_t rfl HP)
  subst ek
  have l8 := zz_lm8 k
  have inX : ∀ {Q : Int32 → Prop}, Q 1 → wpX_in Q (nI k) 19 := fun HQ => zx_in (n := 19) (by omega) (fun _ _ _ => HQ) (fun h => (zz_ni hk (by omega) rfl h).elim)
  have inY : ∀ {Q : Int32 → Prop}, Q 1 → wpY_in Q (nI k) 19 := fun HQ => zy_in (n := 19) (by omega) (fun _ _ _ => HQ) (fun h => (zz_ni hk (by omega) rfl h).elim)
  by_cases hf : d = 48
  · subst hf
    refine ⟨-1, _, _, same, fun post HP => ?_, fun post HP => zy_limit k hk ?_⟩
    · unfold wpX_token
      exact inX (br_f (by decide) (br_t rfl HP))
    · have h76 : wY_token_76 post (nI k) v2 yenvs yclosures ywork ybuffer ysteps ymode yat yenv ykind yvalue ycode ytag yresultKind yresultValue Ykinds Ynumbers Yends Ylengths Yparameters Yspecial YplaceKind YplaceValue Ythere YsymbolOf YplaceOf YnextOf YclosureSymbol YclosureBody YclosureEnv YworkToken YworkPhase YworkEnv YkeptKind YkeptValue YboundPlace YoldKind YoldValue YoldBuffer := br_t (by rw [eL]; rfl) HP
      unfold wY_token_54
      refine inY (br_f (by decide) (br_c (fun _ => h76) (fun _ => ?_)))
      exact zy_in (by omega) (fun _ _ _ => br_f (by decide) h76) (fun _ => br_t rfl HP)
  have hd2 : d < 48 := by omega
  have nd : ¬ nI d = 48 := by rw [show (48 : Int32) = nI 48 from rfl, nI_eq (by omega) (by omega)]; exact hf
  -- the token is taken
  have take : zc_V k v2 → zz_Rel (nI (d + 1), xspecial, xdefined, xhere, xdepth, xscoped, xcells, xclosures, xtop, xundo, xpc, xenv, xbuffer, xtaken, xoutcome, xrunning, xgiven, xclosed, upd Xdraft d (nI k), upd XdraftValues d v2, Xop, Xarg, Xparameter, Xwaiting, Xdone, Xhole, Xscope, Xplace, Xlocals, Xstack, Xcell, Xparent, Xbodies, Xbinds, Xscopes, Xwhat, Xfirst, Xsecond, Xthird, Xkept) (yenvs, yclosures, ywork, ybuffer, ysteps, ymode, yat, yenv, ykind, yvalue, ycode, ytag, yresultKind, yresultValue, upd Ykinds (192 + d) (nI k), upd Ynumbers (192 + d) v2, Yends, upd Ylengths 4 (nI (d + 1)), Yparameters, Yspecial, YplaceKind, YplaceValue, Ythere, YsymbolOf, YplaceOf, YnextOf, YclosureSymbol, YclosureBody, YclosureEnv, YworkToken, YworkPhase, YworkEnv, YkeptKind, YkeptValue, YboundPlace, YoldKind, YoldValue, YoldBuffer) := by
    intro hv
    refine ⟨⟨⟨d + 1, by omega, rfl, pk_us, fun j hj => ?_⟩, hSP, zz_FNl (zz_FNc (fun q hq _ => ⟨fun t h1 h2 => ⟨pk_un (by omega), pk_un (by omega), rfl⟩, fun i _ _ => ⟨rfl, rfl⟩⟩) hFN)⟩, hPL, hLO, hRS, hts⟩
    by_cases z : j = d
    · subst z
      rw [pk_us, pk_us, pk_us, pk_us]
      exact ⟨k, hk, rfl, rfl, rfl, hv⟩
    · rw [pk_un z, pk_un z, pk_un (by omega), pk_un (by omega)]
      exact hT j (by omega)
  have tX : ∀ post : Int32 → SX → Prop, post (nI (d + 1)) (nI (d + 1), xspecial, xdefined, xhere, xdepth, xscoped, xcells, xclosures, xtop, xundo, xpc, xenv, xbuffer, xtaken, xoutcome, xrunning, xgiven, xclosed, upd Xdraft d (nI k), upd XdraftValues d v2, Xop, Xarg, Xparameter, Xwaiting, Xdone, Xhole, Xscope, Xplace, Xlocals, Xstack, Xcell, Xparent, Xbodies, Xbinds, Xscopes, Xwhat, Xfirst, Xsecond, Xthird, Xkept) → wX_token_39 post (nI k) v2 (nI d) xspecial xdefined xhere xdepth xscoped xcells xclosures xtop xundo xpc xenv xbuffer xtaken xoutcome xrunning xgiven xclosed Xdraft XdraftValues Xop Xarg Xparameter Xwaiting Xdone Xhole Xscope Xplace Xlocals Xstack Xcell Xparent Xbodies Xbinds Xscopes Xwhat Xfirst Xsecond Xthird Xkept := by
    intro post HP
    have id : vp_in (nI d) 48 := vp_in_nI hd2 (by omega)
    have ed : (nI d).toNatClampNeg = d := nI_clamp (by omega)
    exact And.intro id (nm_r (e' := upd Xdraft d (nI k)) (by rw [ed, zz_vb (by omega)]) (nm_r (nI_1 d) (And.intro id (nm_r (e' := upd XdraftValues d v2) (by rw [ed]) HP))))
  have tY : ∀ post : Int32 → SY → Prop, post (nI (d + 1)) (yenvs, yclosures, ywork, ybuffer, ysteps, ymode, yat, yenv, ykind, yvalue, ycode, ytag, yresultKind, yresultValue, upd Ykinds (192 + d) (nI k), upd Ynumbers (192 + d) v2, Yends, upd Ylengths 4 (nI (d + 1)), Yparameters, Yspecial, YplaceKind, YplaceValue, Ythere, YsymbolOf, YplaceOf, YnextOf, YclosureSymbol, YclosureBody, YclosureEnv, YworkToken, YworkPhase, YworkEnv, YkeptKind, YkeptValue, YboundPlace, YoldKind, YoldValue, YoldBuffer) → wY_token_76 post (nI k) v2 yenvs yclosures ywork ybuffer ysteps ymode yat yenv ykind yvalue ycode ytag yresultKind yresultValue Ykinds Ynumbers Yends Ylengths Yparameters Yspecial YplaceKind YplaceValue Ythere YsymbolOf YplaceOf YnextOf YclosureSymbol YclosureBody YclosureEnv YworkToken YworkPhase YworkEnv YkeptKind YkeptValue YboundPlace YoldKind YoldValue YoldBuffer := by
    intro post HP
    have e1 : (192 : Int32) + Ylengths 4 = nI (192 + d) := by rw [eL]; exact nI_add 192 d
    have ii : vp_in ((192 : Int32) + Ylengths 4) 240 := by rw [e1]; exact vp_in_nI (by omega) (by omega)
    have ec : ((192 : Int32) + Ylengths 4).toNatClampNeg = 192 + d := by rw [e1]; exact nI_clamp (by omega)
    refine br_f (by rw [eL]; exact nd) (And.intro ii (nm_r (e' := upd Ykinds (192 + d) (nI k)) (by rw [ec]) (And.intro ii (nm_r (e' := upd Ynumbers (192 + d) v2) (by rw [ec]) (nm_r (e' := upd Ylengths 4 (nI (d + 1))) (by rw [eL, nI_1]) ?_)))))
    rw [pk_us]
    exact HP
  by_cases hz : zz_lm k = 0
  · refine ⟨nI (d + 1), _, _, take (fun h => by omega), fun post HP => ?_, fun post HP => zy_limit k hk ?_⟩
    · unfold wpX_token
      exact inX (br_f (by decide) (br_f nd (zx_limit k hk (br_t (by rw [hz]; decide) (tX post HP)))))
    · unfold wY_token_54
      exact inY (br_f (by decide) (br_t (by rw [hz]; decide) (tY post HP)))
  have hnz : ¬ nI (zz_lm k) ≤ 0 := nI_nle (by omega) (by omega)
  rcases pk_ix v2 (n := zz_lm k) (by omega) with h | h | ⟨s, hs, es⟩
  · refine ⟨-1, _, _, same, fun post HP => ?_, fun post HP => zy_limit k hk ?_⟩
    · unfold wpX_token
      refine inX (br_f (by decide) (br_f nd (zx_limit k hk (br_f hnz ?_))))
      exact zx_in (by omega) (fun j hj e => (zz_ni hj (by omega) e (Or.inl h)).elim) (fun _ => br_t rfl HP)
    · unfold wY_token_54
      refine inY (br_f (by decide) (br_f hnz ?_))
      exact zy_in (by omega) (fun j hj e => (zz_ni hj (by omega) e (Or.inl h)).elim) (fun _ => br_t rfl HP)
  · refine ⟨-1, _, _, same, fun post HP => ?_, fun post HP => zy_limit k hk ?_⟩
    · unfold wpX_token
      refine inX (br_f (by decide) (br_f nd (zx_limit k hk (br_f hnz ?_))))
      exact zx_in (by omega) (fun j hj e => (zz_ni hj (by omega) e (Or.inr h)).elim) (fun _ => br_t rfl HP)
    · unfold wY_token_54
      refine inY (br_f (by decide) (br_f hnz ?_))
      exact zy_in (by omega) (fun j hj e => (zz_ni hj (by omega) e (Or.inr h)).elim) (fun _ => br_t rfl HP)
  · refine ⟨nI (d + 1), _, _, take (fun _ => ⟨s, hs, es⟩), fun post HP => ?_, fun post HP => zy_limit k hk ?_⟩
    · unfold wpX_token
      refine inX (br_f (by decide) (br_f nd (zx_limit k hk (br_f hnz ?_))))
      exact zx_in (by omega) (fun _ _ _ => br_f (by decide) (tX post HP)) (fun h => (zz_ni hs (by omega) es h).elim)
    · unfold wY_token_54
      refine inY (br_f (by decide) (br_f hnz ?_))
      exact zy_in (by omega) (fun _ _ _ => br_f (by decide) (tY post HP)) (fun h => (zz_ni hs (by omega) es h).elim)
end
end
section
theorem zz_up {u : SX} {v : SY} {P : SX → SY → Prop} (I : zz_Rel u v) (h : ∀ (xdrafted : Int32) (xspecial : Int32) (xdefined : Int32) (xhere : Int32) (xdepth : Int32) (xscoped : Int32) (xcells : Int32) (xclosures : Int32) (xtop : Int32) (xundo : Int32) (xpc : Int32) (xenv : Int32) (xbuffer : Int32) (xtaken : Int32) (xoutcome : Int32) (xrunning : Int32) (xgiven : Int64) (xclosed : Int32) (Xdraft : Nat → Int32) (XdraftValues : Nat → Int32) (Xop : Nat → Int32) (Xarg : Nat → Int32) (Xparameter : Nat → Int32) (Xwaiting : Nat → Int32) (Xdone : Nat → Int32) (Xhole : Nat → Int32) (Xscope : Nat → Int32) (Xplace : Nat → Int64) (Xlocals : Nat → Int32) (Xstack : Nat → Int64) (Xcell : Nat → Int64) (Xparent : Nat → Int32) (Xbodies : Nat → Int32) (Xbinds : Nat → Int32) (Xscopes : Nat → Int32) (Xwhat : Nat → Int32) (Xfirst : Nat → Int32) (Xsecond : Nat → Int32) (Xthird : Nat → Int32) (Xkept : Nat → Int64) (yenvs : Int32) (yclosures : Int32) (ywork : Int32) (ybuffer : Int32) (ysteps : Int32) (ymode : Int32) (yat : Int32) (yenv : Int32) (ykind : Int32) (yvalue : Int32) (ycode : Int32) (ytag : Int32) (yresultKind : Int32) (yresultValue : Int32) (Ykinds : Nat → Int32) (Ynumbers : Nat → Int32) (Yends : Nat → Int32) (Ylengths : Nat → Int32) (Yparameters : Nat → Int32) (Yspecial : Nat → Int32) (YplaceKind : Nat → Int32) (YplaceValue : Nat → Int32) (Ythere : Nat → Int32) (YsymbolOf : Nat → Int32) (YplaceOf : Nat → Int32) (YnextOf : Nat → Int32) (YclosureSymbol : Nat → Int32) (YclosureBody : Nat → Int32) (YclosureEnv : Nat → Int32) (YworkToken : Nat → Int32) (YworkPhase : Nat → Int32) (YworkEnv : Nat → Int32) (YkeptKind : Nat → Int32) (YkeptValue : Nat → Int32) (YboundPlace : Nat → Int32) (YoldKind : Nat → Int32) (YoldValue : Nat → Int32) (YoldBuffer : Nat → Int32), zz_ST xdrafted xspecial xdefined Xdraft XdraftValues Xop Xarg Xparameter Ykinds Ynumbers Yends Ylengths Yparameters Yspecial → zz_PL 0 Xplace YplaceKind YplaceValue Ythere → zz_LO Xlocals Ythere → zz_RS xgiven xclosed yresultKind yresultValue → xtaken = ysteps → P (xdrafted, xspecial, xdefined, xhere, xdepth, xscoped, xcells, xclosures, xtop, xundo, xpc, xenv, xbuffer, xtaken, xoutcome, xrunning, xgiven, xclosed, Xdraft, XdraftValues, Xop, Xarg, Xparameter, Xwaiting, Xdone, Xhole, Xscope, Xplace, Xlocals, Xstack, Xcell, Xparent, Xbodies, Xbinds, Xscopes, Xwhat, Xfirst, Xsecond, Xthird, Xkept) (yenvs, yclosures, ywork, ybuffer, ysteps, ymode, yat, yenv, ykind, yvalue, ycode, ytag, yresultKind, yresultValue, Ykinds, Ynumbers, Yends, Ylengths, Yparameters, Yspecial, YplaceKind, YplaceValue, Ythere, YsymbolOf, YplaceOf, YnextOf, YclosureSymbol, YclosureBody, YclosureEnv, YworkToken, YworkPhase, YworkEnv, YkeptKind, YkeptValue, YboundPlace, YoldKind, YoldValue, YoldBuffer)) : P u v := by
  obtain ⟨xdrafted, xspecial, xdefined, xhere, xdepth, xscoped, xcells, xclosures, xtop, xundo, xpc, xenv, xbuffer, xtaken, xoutcome, xrunning, xgiven, xclosed, Xdraft, XdraftValues, Xop, Xarg, Xparameter, Xwaiting, Xdone, Xhole, Xscope, Xplace, Xlocals, Xstack, Xcell, Xparent, Xbodies, Xbinds, Xscopes, Xwhat, Xfirst, Xsecond, Xthird, Xkept⟩ := u
  obtain ⟨yenvs, yclosures, ywork, ybuffer, ysteps, ymode, yat, yenv, ykind, yvalue, ycode, ytag, yresultKind, yresultValue, Ykinds, Ynumbers, Yends, Ylengths, Yparameters, Yspecial, YplaceKind, YplaceValue, Ythere, YsymbolOf, YplaceOf, YnextOf, YclosureSymbol, YclosureBody, YclosureEnv, YworkToken, YworkPhase, YworkEnv, YkeptKind, YkeptValue, YboundPlace, YoldKind, YoldValue, YoldBuffer⟩ := v
  obtain ⟨h1, h2, h3, h4, h5⟩ := I
  exact h xdrafted xspecial xdefined xhere xdepth xscoped xcells xclosures xtop xundo xpc xenv xbuffer xtaken xoutcome xrunning xgiven xclosed Xdraft XdraftValues Xop Xarg Xparameter Xwaiting Xdone Xhole Xscope Xplace Xlocals Xstack Xcell Xparent Xbodies Xbinds Xscopes Xwhat Xfirst Xsecond Xthird Xkept yenvs yclosures ywork ybuffer ysteps ymode yat yenv ykind yvalue ycode ytag yresultKind yresultValue Ykinds Ynumbers Yends Ylengths Yparameters Yspecial YplaceKind YplaceValue Ythere YsymbolOf YplaceOf YnextOf YclosureSymbol YclosureBody YclosureEnv YworkToken YworkPhase YworkEnv YkeptKind YkeptValue YboundPlace YoldKind YoldValue YoldBuffer h1 h2 h3 h4 h5
theorem zz_RSc {gv : Int64} {cl k v : Int32} (h : zz_RS gv cl k v) : cl = 0 ∨ cl = 1 := by
  obtain ⟨_, h⟩ := h
  by_cases z : k = 1
  · rw [if_pos z] at h; exact Or.inr h
  · rw [if_neg z] at h; exact Or.inl h
section
variable {xdrafted xspecial xdefined xhere xdepth xscoped xcells xclosures xtop xundo xpc xenv xbuffer xtaken xoutcome xrunning xclosed : Int32} {xgiven : Int64} {Xdraft XdraftValues Xop Xarg Xparameter Xwaiting Xdone Xhole Xscope Xlocals Xparent Xbodies Xbinds Xscopes Xwhat Xfirst Xsecond Xthird : Nat → Int32} {Xplace Xstack Xcell Xkept : Nat → Int64} {yenvs yclosures ywork ybuffer ysteps ymode yat yenv ykind yvalue ycode ytag yresultKind yresultValue : Int32} {Ykinds Ynumbers Yends Ylengths Yparameters Yspecial YplaceKind YplaceValue Ythere YsymbolOf YplaceOf YnextOf YclosureSymbol YclosureBody YclosureEnv YworkToken YworkPhase YworkEnv YkeptKind YkeptValue YboundPlace YoldKind YoldValue YoldBuffer : Nat → Int32}
theorem zw_special (hST : zz_ST xdrafted xspecial xdefined Xdraft XdraftValues Xop Xarg Xparameter Ykinds Ynumbers Yends Ylengths Yparameters Yspecial) (hPL : zz_PL 0 Xplace YplaceKind YplaceValue Ythere) (hLO : zz_LO Xlocals Ythere) (hRS : zz_RS xgiven xclosed yresultKind yresultValue) (hts : xtaken = ysteps) (v1 v2 : Int32) (h2 : v2 = 0 ∨ v2 = 1) : ∃ (r : Int32) (u' : SX) (v' : SY), zz_Rel u' v' ∧ (∀ post : Int32 → SX → Prop, post r u' → wpX_special post (xdrafted, xspecial, xdefined, xhere, xdepth, xscoped, xcells, xclosures, xtop, xundo, xpc, xenv, xbuffer, xtaken, xoutcome, xrunning, xgiven, xclosed, Xdraft, XdraftValues, Xop, Xarg, Xparameter, Xwaiting, Xdone, Xhole, Xscope, Xplace, Xlocals, Xstack, Xcell, Xparent, Xbodies, Xbinds, Xscopes, Xwhat, Xfirst, Xsecond, Xthird, Xkept) v1 v2) ∧ (∀ post : Int32 → SY → Prop, post r v' → wpY_special post (yenvs, yclosures, ywork, ybuffer, ysteps, ymode, yat, yenv, ykind, yvalue, ycode, ytag, yresultKind, yresultValue, Ykinds, Ynumbers, Yends, Ylengths, Yparameters, Yspecial, YplaceKind, YplaceValue, Ythere, YsymbolOf, YplaceOf, YnextOf, YclosureSymbol, YclosureBody, YclosureEnv, YworkToken, YworkPhase, YworkEnv, YkeptKind, YkeptValue, YboundPlace, YoldKind, YoldValue, YoldBuffer) v1 v2) := by
  have same : zz_Rel (xdrafted, xspecial, xdefined, xhere, xdepth, xscoped, xcells, xclosures, xtop, xundo, xpc, xenv, xbuffer, xtaken, xoutcome, xrunning, xgiven, xclosed, Xdraft, XdraftValues, Xop, Xarg, Xparameter, Xwaiting, Xdone, Xhole, Xscope, Xplace, Xlocals, Xstack, Xcell, Xparent, Xbodies, Xbinds, Xscopes, Xwhat, Xfirst, Xsecond, Xthird, Xkept) (yenvs, yclosures, ywork, ybuffer, ysteps, ymode, yat, yenv, ykind, yvalue, ycode, ytag, yresultKind, yresultValue, Ykinds, Ynumbers, Yends, Ylengths, Yparameters, Yspecial, YplaceKind, YplaceValue, Ythere, YsymbolOf, YplaceOf, YnextOf, YclosureSymbol, YclosureBody, YclosureEnv, YworkToken, YworkPhase, YworkEnv, YkeptKind, YkeptValue, YboundPlace, YoldKind, YoldValue, YoldBuffer) := ⟨hST, hPL, hLO, hRS, hts⟩
  rcases pk_ix v1 (n := 8) (by omega) with h | h | ⟨s, hs, es⟩
  · refine ⟨0, _, _, same, fun post HP => ?_, fun post HP => ?_⟩
    · unfold wpX_special
      exact zx_in (n := 8) (by omega) (fun j hj e => (zz_ni hj (by omega) e (Or.inl h)).elim) (fun _ => br_t rfl HP)
    · unfold wpY_special
      exact zy_in (n := 8) (by omega) (fun j hj e => (zz_ni hj (by omega) e (Or.inl h)).elim) (fun _ => br_t rfl HP)
  · refine ⟨0, _, _, same, fun post HP => ?_, fun post HP => ?_⟩
    · unfold wpX_special
      exact zx_in (n := 8) (by omega) (fun j hj e => (zz_ni hj (by omega) e (Or.inr h)).elim) (fun _ => br_t rfl HP)
    · unfold wpY_special
      exact zy_in (n := 8) (by omega) (fun j hj e => (zz_ni hj (by omega) e (Or.inr h)).elim) (fun _ => br_t rfl HP)
  · subst es
    obtain ⟨hDR, hSP, hFN⟩ := hST
    obtain ⟨d, hd, ed, eL, hT⟩ := hDR
    have inX : ∀ {Q : Int32 → Prop}, Q 1 → wpX_in Q (nI s) 8 := fun HQ => zx_in (n := 8) (by omega) (fun _ _ _ => HQ) (fun h => (zz_ni hs (by omega) rfl h).elim)
    have inY : ∀ {Q : Int32 → Prop}, Q 1 → wpY_in Q (nI s) 8 := fun HQ => zy_in (n := 8) (by omega) (fun _ _ _ => HQ) (fun h => (zz_ni hs (by omega) rfl h).elim)
    have nb : vp_nar .boolean v2 = v2 := by rcases h2 with h | h <;> subst h <;> rfl
    obtain ⟨le', pk', th', g1, g2, g3, g4⟩ := zy_sp20 (Ylengths := Ylengths) (Yspecial := upd Yspecial s v2) (yenvs := yenvs) (yclosures := yclosures) (ywork := ywork) (ybuffer := ybuffer) (ysteps := ysteps) (ymode := ymode) (yat := yat) (yenv := yenv) (ykind := ykind) (yvalue := yvalue) (ycode := ycode) (ytag := ytag) (yresultKind := yresultKind) (yresultValue := yresultValue) (Ykinds := Ykinds) (Ynumbers := Ynumbers) (Yends := Yends) (Yparameters := Yparameters) (YplaceKind := YplaceKind) (YplaceValue := YplaceValue) (Ythere := Ythere) (YsymbolOf := YsymbolOf) (YplaceOf := YplaceOf) (YnextOf := YnextOf) (YclosureSymbol := YclosureSymbol) (YclosureBody := YclosureBody) (YclosureEnv := YclosureEnv) (YworkToken := YworkToken) (YworkPhase := YworkPhase) (YworkEnv := YworkEnv) (YkeptKind := YkeptKind) (YkeptValue := YkeptValue) (YboundPlace := YboundPlace) (YoldKind := YoldKind) (YoldValue := YoldValue) (YoldBuffer := YoldBuffer) 4 0 Ylengths (by omega) (fun p hp => by omega) rfl
    have fin : ∀ (sp : Int32) (pl' : Nat → Int64) (lo' : Nat → Int32), zz_SP sp (upd Yspecial s v2) → (∀ p, p < 8 → pl' p = 20000000000) → (∀ p, p < 3 → lo' p = 0) → zz_Rel (xdrafted, sp, 0, xhere, xdepth, xscoped, xcells, xclosures, xtop, xundo, xpc, xenv, xbuffer, xtaken, xoutcome, xrunning, xgiven, xclosed, Xdraft, XdraftValues, Xop, Xarg, Xparameter, Xwaiting, Xdone, Xhole, Xscope, pl', lo', Xstack, Xcell, Xparent, Xbodies, Xbinds, Xscopes, Xwhat, Xfirst, Xsecond, Xthird, Xkept) (yenvs, yclosures, ywork, ybuffer, ysteps, ymode, yat, yenv, ykind, yvalue, ycode, ytag, yresultKind, yresultValue, Ykinds, Ynumbers, Yends, le', Yparameters, upd Yspecial s v2, pk', YplaceValue, th', YsymbolOf, YplaceOf, YnextOf, YclosureSymbol, YclosureBody, YclosureEnv, YworkToken, YworkPhase, YworkEnv, YkeptKind, YkeptValue, YboundPlace, YoldKind, YoldValue, YoldBuffer) := by
      intro sp pl' lo' hsp h8 h3
      refine ⟨⟨⟨d, hd, ed, by rw [g2]; exact eL, hT⟩, hsp, fun q hq => ?_⟩, fun p hp hv => ?_, fun b s' hb hs' => ?_, hRS, hts⟩
      · rw [g1 q hq, b_0]
        exact ⟨⟨fun h => (by cases h), fun h => absurd rfl h⟩, fun h => absurd rfl h⟩
      · have hp8 : p < 8 := by
          rcases hv with h | h
          · exact h
          · exact absurd (g3 p hp).2 h
        rw [h8 p hp8, (g3 p hp).1]
        exact ⟨rfl, Or.inr rfl⟩
      · rw [h3 b hb, b_0, (g3 _ (by omega)).2]
        exact ⟨fun h => (by cases h), fun h => absurd rfl h⟩
    have yside : ∀ post : Int32 → SY → Prop, post 1 (yenvs, yclosures, ywork, ybuffer, ysteps, ymode, yat, yenv, ykind, yvalue, ycode, ytag, yresultKind, yresultValue, Ykinds, Ynumbers, Yends, le', Yparameters, upd Yspecial s v2, pk', YplaceValue, th', YsymbolOf, YplaceOf, YnextOf, YclosureSymbol, YclosureBody, YclosureEnv, YworkToken, YworkPhase, YworkEnv, YkeptKind, YkeptValue, YboundPlace, YoldKind, YoldValue, YoldBuffer) → wpY_special post (yenvs, yclosures, ywork, ybuffer, ysteps, ymode, yat, yenv, ykind, yvalue, ycode, ytag, yresultKind, yresultValue, Ykinds, Ynumbers, Yends, Ylengths, Yparameters, Yspecial, YplaceKind, YplaceValue, Ythere, YsymbolOf, YplaceOf, YnextOf, YclosureSymbol, YclosureBody, YclosureEnv, YworkToken, YworkPhase, YworkEnv, YkeptKind, YkeptValue, YboundPlace, YoldKind, YoldValue, YoldBuffer) (nI s) v2 := by
      intro post HP
      unfold wpY_special
      exact inY (br_f (by decide) (And.intro (vp_in_nI hs (by omega)) (nm_r (e' := upd Yspecial s v2) (by rw [nI_clamp (by omega), nb]) ⟨5, g4 post HP⟩)))
    rcases h2 with h | h
    · subst h
      obtain ⟨pl', lo', f1, f2, f3⟩ := zx_sp47 (xspecial := xspecial &&& (((1 : Int32) <<< (nI s &&& 31)) ^^^ (-1))) (xdefined := 0) (Xlocals := Xlocals) (xdrafted := xdrafted) (xhere := xhere) (xdepth := xdepth) (xscoped := xscoped) (xcells := xcells) (xclosures := xclosures) (xtop := xtop) (xundo := xundo) (xpc := xpc) (xenv := xenv) (xbuffer := xbuffer) (xtaken := xtaken) (xoutcome := xoutcome) (xrunning := xrunning) (xgiven := xgiven) (xclosed := xclosed) (Xdraft := Xdraft) (XdraftValues := XdraftValues) (Xop := Xop) (Xarg := Xarg) (Xparameter := Xparameter) (Xwaiting := Xwaiting) (Xdone := Xdone) (Xhole := Xhole) (Xscope := Xscope) (Xstack := Xstack) (Xcell := Xcell) (Xparent := Xparent) (Xbodies := Xbodies) (Xbinds := Xbinds) (Xscopes := Xscopes) (Xwhat := Xwhat) (Xfirst := Xfirst) (Xsecond := Xsecond) (Xthird := Xthird) (Xkept := Xkept) 8 0 Xplace (by omega) (fun p hp => by omega)
      refine ⟨1, _, _, fin (xspecial &&& (((1 : Int32) <<< (nI s &&& 31)) ^^^ (-1))) pl' lo' ?_ f1 f2, fun post HP => ?_, yside⟩
      · intro s' hs'
        rw [zz_clr (by omega) (by omega)]
        by_cases z : s' = s
        · subst z; rw [pk_us]; simp
        · rw [pk_un z, ← hSP s' hs']; simp [z]
      · unfold wpX_special
        exact inX (br_f (by decide) (br_t rfl (nm_e ⟨9, f3 post HP⟩)))
    · subst h
      obtain ⟨pl', lo', f1, f2, f3⟩ := zx_sp47 (xspecial := xspecial ||| ((1 : Int32) <<< (nI s &&& 31))) (xdefined := 0) (Xlocals := Xlocals) (xdrafted := xdrafted) (xhere := xhere) (xdepth := xdepth) (xscoped := xscoped) (xcells := xcells) (xclosures := xclosures) (xtop := xtop) (xundo := xundo) (xpc := xpc) (xenv := xenv) (xbuffer := xbuffer) (xtaken := xtaken) (xoutcome := xoutcome) (xrunning := xrunning) (xgiven := xgiven) (xclosed := xclosed) (Xdraft := Xdraft) (XdraftValues := XdraftValues) (Xop := Xop) (Xarg := Xarg) (Xparameter := Xparameter) (Xwaiting := Xwaiting) (Xdone := Xdone) (Xhole := Xhole) (Xscope := Xscope) (Xstack := Xstack) (Xcell := Xcell) (Xparent := Xparent) (Xbodies := Xbodies) (Xbinds := Xbinds) (Xscopes := Xscopes) (Xwhat := Xwhat) (Xfirst := Xfirst) (Xsecond := Xsecond) (Xthird := Xthird) (Xkept := Xkept) 8 0 Xplace (by omega) (fun p hp => by omega)
      refine ⟨1, _, _, fin (xspecial ||| ((1 : Int32) <<< (nI s &&& 31))) pl' lo' ?_ f1 f2, fun post HP => ?_, yside⟩
      · intro s' hs'
        rw [zz_set (by omega) (by omega)]
        by_cases z : s' = s
        · subst z; rw [pk_us]; simp
        · rw [pk_un z, ← hSP s' hs']; simp [z]
      · unfold wpX_special
        exact inX (br_f (by decide) (br_f (by decide) (nm_e ⟨9, f3 post HP⟩)))
end
def i_Rel (_ : Nat) (u : SX) (v : SY) : Prop := zz_Rel u v
theorem i_up {k : Nat} {u : SX} {v : SY} (h : i_Rel k u v) : i_Rel (k + 3) u v := h
theorem i_vc0 : wpX_init (fun u => wpY_init (fun v => i_Rel 0 u v)) := by
  obtain ⟨pl', h1, h2⟩ := zx_ini (pl := fun _ => 0) (xdrafted := 0) (xspecial := 0) (xdefined := 0) (xhere := 0) (xdepth := 0) (xscoped := 0) (xcells := 0) (xclosures := 0) (xtop := 0) (xundo := 0) (xpc := 0) (xenv := 0) (xbuffer := 0) (xtaken := 0) (xoutcome := 0) (xrunning := 0) (xgiven := 10000000000) (xclosed := 0) (Xdraft := fun _ => 0) (XdraftValues := fun _ => 0) (Xop := fun _ => 0) (Xarg := fun _ => 0) (Xparameter := fun _ => 0) (Xwaiting := fun _ => 0) (Xdone := fun _ => 0) (Xhole := fun _ => 0) (Xscope := fun _ => 0) (Xlocals := fun _ => 0) (Xstack := fun _ => 0) (Xcell := fun _ => 0) (Xparent := fun _ => 0) (Xbodies := fun _ => 0) (Xbinds := fun _ => 0) (Xscopes := fun _ => 0) (Xwhat := fun _ => 0) (Xfirst := fun _ => 0) (Xsecond := fun _ => 0) (Xthird := fun _ => 0) (Xkept := fun _ => 0) 32 0 (fun _ => 0) (by omega) (fun p hp => by omega)
  obtain ⟨pk', g1, g2⟩ := zy_ini (yenvs := 0) (yclosures := 0) (ywork := 0) (ybuffer := 0) (ysteps := 0) (ymode := 0) (yat := 0) (yenv := 0) (ykind := 0) (yvalue := 0) (ycode := 0) (ytag := 0) (yresultKind := 2) (yresultValue := 0) (Ykinds := fun _ => 0) (Ynumbers := fun _ => 0) (Yends := fun _ => 0) (Ylengths := fun _ => 0) (Yparameters := fun _ => 0) (Yspecial := fun _ => 0) (YplaceValue := fun _ => 0) (Ythere := fun _ => 0) (YsymbolOf := fun _ => 0) (YplaceOf := fun _ => 0) (YnextOf := fun _ => 0) (YclosureSymbol := fun _ => 0) (YclosureBody := fun _ => 0) (YclosureEnv := fun _ => 0) (YworkToken := fun _ => 0) (YworkPhase := fun _ => 0) (YworkEnv := fun _ => 0) (YkeptKind := fun _ => 0) (YkeptValue := fun _ => 0) (YboundPlace := fun _ => 0) (YoldKind := fun _ => 0) (YoldValue := fun _ => 0) (YoldBuffer := fun _ => 0) 32 0 (fun _ => 0) (by omega) (fun p hp => by omega)
  refine ⟨33, h2 _ ⟨33, g2 _ ?_⟩⟩
  refine ⟨⟨⟨0, by omega, rfl, rfl, fun j hj => by omega⟩, fun s hs => ?_, fun q hq => ?_⟩, fun p hp hv => ?_, fun b s hb hs => ?_, ⟨rfl, rfl⟩, rfl⟩
  · rw [b_0]; exact ⟨fun h => (by cases h), fun h => absurd rfl h⟩
  · rw [b_0]; exact ⟨⟨fun h => (by cases h), fun h => absurd rfl h⟩, fun h => absurd rfl h⟩
  · rw [h1 p hp, g1 p hp]; exact ⟨rfl, Or.inr rfl⟩
  · rw [b_0]; exact ⟨fun h => (by cases h), fun h => absurd rfl h⟩
theorem i_vc_token {k : Nat} {u : SX} {v : SY} (I : i_Rel k u v) (hk : k + 3 ≤ 1536) (v1 : Int32) (v2 : Int32) : wpX_token (fun r u' => wpY_token (fun r' v' => r' = r ∧ i_Rel (k + 3) u' v') v v1 v2) u v1 v2 := by
  refine zz_up (P := fun u v => wpX_token (fun r u' => wpY_token (fun r' v' => r' = r ∧ i_Rel (k + 3) u' v') v v1 v2) u v1 v2) I ?_
  intro xdrafted xspecial xdefined xhere xdepth xscoped xcells xclosures xtop xundo xpc xenv xbuffer xtaken xoutcome xrunning xgiven xclosed Xdraft XdraftValues Xop Xarg Xparameter Xwaiting Xdone Xhole Xscope Xplace Xlocals Xstack Xcell Xparent Xbodies Xbinds Xscopes Xwhat Xfirst Xsecond Xthird Xkept yenvs yclosures ywork ybuffer ysteps ymode yat yenv ykind yvalue ycode ytag yresultKind yresultValue Ykinds Ynumbers Yends Ylengths Yparameters Yspecial YplaceKind YplaceValue Ythere YsymbolOf YplaceOf YnextOf YclosureSymbol YclosureBody YclosureEnv YworkToken YworkPhase YworkEnv YkeptKind YkeptValue YboundPlace YoldKind YoldValue YoldBuffer h1 h2 h3 h4 h5
  obtain ⟨r, u', v', hR, hX, hY⟩ := zw_token h1 h2 h3 h4 h5 v1 v2
  exact hX _ (hY _ ⟨rfl, hR⟩)
theorem i_vc_wipe {k : Nat} {u : SX} {v : SY} (I : i_Rel k u v) (hk : k + 3 ≤ 1536) : wpX_wipe (fun r u' => wpY_wipe (fun r' v' => r' = r ∧ i_Rel (k + 3) u' v') v) u := by
  refine zz_up (P := fun u v => wpX_wipe (fun r u' => wpY_wipe (fun r' v' => r' = r ∧ i_Rel (k + 3) u' v') v) u) I ?_
  intro xdrafted xspecial xdefined xhere xdepth xscoped xcells xclosures xtop xundo xpc xenv xbuffer xtaken xoutcome xrunning xgiven xclosed Xdraft XdraftValues Xop Xarg Xparameter Xwaiting Xdone Xhole Xscope Xplace Xlocals Xstack Xcell Xparent Xbodies Xbinds Xscopes Xwhat Xfirst Xsecond Xthird Xkept yenvs yclosures ywork ybuffer ysteps ymode yat yenv ykind yvalue ycode ytag yresultKind yresultValue Ykinds Ynumbers Yends Ylengths Yparameters Yspecial YplaceKind YplaceValue Ythere YsymbolOf YplaceOf YnextOf YclosureSymbol YclosureBody YclosureEnv YworkToken YworkPhase YworkEnv YkeptKind YkeptValue YboundPlace YoldKind YoldValue YoldBuffer h1 h2 h3 h4 h5
  obtain ⟨⟨d, hd, ed, eL, hT⟩, hSP, hFN⟩ := h1
  exact nm_e (nm_e ⟨eL.trans ed.symm, ⟨⟨0, by omega, rfl, pk_us, fun j hj => by omega⟩, hSP, zz_FNl hFN⟩, h2, h3, h4, h5⟩)
theorem i_vc_special {k : Nat} {u : SX} {v : SY} (I : i_Rel k u v) (hk : k + 3 ≤ 1536) (v1 : Int32) (v2 : Int32) : wpX_special (fun r u' => wpY_special (fun r' v' => r' = r ∧ i_Rel (k + 3) u' v') v v1 (lw_bz v2)) u v1 (lw_bz v2) := by
  refine zz_up (P := fun u v => wpX_special (fun r u' => wpY_special (fun r' v' => r' = r ∧ i_Rel (k + 3) u' v') v v1 (lw_bz v2)) u v1 (lw_bz v2)) I ?_
  intro xdrafted xspecial xdefined xhere xdepth xscoped xcells xclosures xtop xundo xpc xenv xbuffer xtaken xoutcome xrunning xgiven xclosed Xdraft XdraftValues Xop Xarg Xparameter Xwaiting Xdone Xhole Xscope Xplace Xlocals Xstack Xcell Xparent Xbodies Xbinds Xscopes Xwhat Xfirst Xsecond Xthird Xkept yenvs yclosures ywork ybuffer ysteps ymode yat yenv ykind yvalue ycode ytag yresultKind yresultValue Ykinds Ynumbers Yends Ylengths Yparameters Yspecial YplaceKind YplaceValue Ythere YsymbolOf YplaceOf YnextOf YclosureSymbol YclosureBody YclosureEnv YworkToken YworkPhase YworkEnv YkeptKind YkeptValue YboundPlace YoldKind YoldValue YoldBuffer h1 h2 h3 h4 h5
  obtain ⟨r, u', v', hR, hX, hY⟩ := zw_special h1 h2 h3 h4 h5 v1 (lw_bz v2) (lw_bz_01 v2)
  exact hX _ (hY _ ⟨rfl, hR⟩)
theorem i_vc_define {k : Nat} {u : SX} {v : SY} (I : i_Rel k u v) (hk : k + 3 ≤ 1536) (v1 : Int32) (v2 : Int32) : wpX_define (fun r u' => wpY_define (fun r' v' => r' = r ∧ i_Rel (k + 3) u' v') v v1 v2) u v1 v2 := by
  refine zz_up (P := fun u v => wpX_define (fun r u' => wpY_define (fun r' v' => r' = r ∧ i_Rel (k + 3) u' v') v v1 v2) u v1 v2) I ?_
  intro xdrafted xspecial xdefined xhere xdepth xscoped xcells xclosures xtop xundo xpc xenv xbuffer xtaken xoutcome xrunning xgiven xclosed Xdraft XdraftValues Xop Xarg Xparameter Xwaiting Xdone Xhole Xscope Xplace Xlocals Xstack Xcell Xparent Xbodies Xbinds Xscopes Xwhat Xfirst Xsecond Xthird Xkept yenvs yclosures ywork ybuffer ysteps ymode yat yenv ykind yvalue ycode ytag yresultKind yresultValue Ykinds Ynumbers Yends Ylengths Yparameters Yspecial YplaceKind YplaceValue Ythere YsymbolOf YplaceOf YnextOf YclosureSymbol YclosureBody YclosureEnv YworkToken YworkPhase YworkEnv YkeptKind YkeptValue YboundPlace YoldKind YoldValue YoldBuffer h1 h2 h3 h4 h5
  have same : zz_Rel (xdrafted, xspecial, xdefined, xhere, xdepth, xscoped, xcells, xclosures, xtop, xundo, xpc, xenv, xbuffer, xtaken, xoutcome, xrunning, xgiven, xclosed, Xdraft, XdraftValues, Xop, Xarg, Xparameter, Xwaiting, Xdone, Xhole, Xscope, Xplace, Xlocals, Xstack, Xcell, Xparent, Xbodies, Xbinds, Xscopes, Xwhat, Xfirst, Xsecond, Xthird, Xkept) (yenvs, yclosures, ywork, ybuffer, ysteps, ymode, yat, yenv, ykind, yvalue, ycode, ytag, yresultKind, yresultValue, Ykinds, Ynumbers, Yends, Ylengths, Yparameters, Yspecial, YplaceKind, YplaceValue, Ythere, YsymbolOf, YplaceOf, YnextOf, YclosureSymbol, YclosureBody, YclosureEnv, YworkToken, YworkPhase, YworkEnv, YkeptKind, YkeptValue, YboundPlace, YoldKind, YoldValue, YoldBuffer) := ⟨h1, h2, h3, h4, h5⟩
  have no1 : (v1 < 0 ∨ nI 4 ≤ v1) → wpX_define (fun r u' => wpY_define (fun r' v' => r' = r ∧ i_Rel (k + 3) u' v') (yenvs, yclosures, ywork, ybuffer, ysteps, ymode, yat, yenv, ykind, yvalue, ycode, ytag, yresultKind, yresultValue, Ykinds, Ynumbers, Yends, Ylengths, Yparameters, Yspecial, YplaceKind, YplaceValue, Ythere, YsymbolOf, YplaceOf, YnextOf, YclosureSymbol, YclosureBody, YclosureEnv, YworkToken, YworkPhase, YworkEnv, YkeptKind, YkeptValue, YboundPlace, YoldKind, YoldValue, YoldBuffer) v1 v2) (xdrafted, xspecial, xdefined, xhere, xdepth, xscoped, xcells, xclosures, xtop, xundo, xpc, xenv, xbuffer, xtaken, xoutcome, xrunning, xgiven, xclosed, Xdraft, XdraftValues, Xop, Xarg, Xparameter, Xwaiting, Xdone, Xhole, Xscope, Xplace, Xlocals, Xstack, Xcell, Xparent, Xbodies, Xbinds, Xscopes, Xwhat, Xfirst, Xsecond, Xthird, Xkept) v1 v2 := by
    intro h
    unfold wpX_define
    refine zx_in (n := 4) (by omega) (fun j hj e => (zz_ni hj (by omega) e h).elim) (fun _ => br_t rfl ?_)
    unfold wpY_define
    exact zy_in (n := 4) (by omega) (fun j hj e => (zz_ni hj (by omega) e h).elim) (fun _ => br_t rfl ⟨rfl, same⟩)
  rcases pk_ix v1 (n := 4) (by omega) with h | h | ⟨q, hq, eq⟩
  · exact no1 (Or.inl h)
  · exact no1 (Or.inr h)
  have no2 : (v2 < 0 ∨ nI 8 ≤ v2) → wpX_define (fun r u' => wpY_define (fun r' v' => r' = r ∧ i_Rel (k + 3) u' v') (yenvs, yclosures, ywork, ybuffer, ysteps, ymode, yat, yenv, ykind, yvalue, ycode, ytag, yresultKind, yresultValue, Ykinds, Ynumbers, Yends, Ylengths, Yparameters, Yspecial, YplaceKind, YplaceValue, Ythere, YsymbolOf, YplaceOf, YnextOf, YclosureSymbol, YclosureBody, YclosureEnv, YworkToken, YworkPhase, YworkEnv, YkeptKind, YkeptValue, YboundPlace, YoldKind, YoldValue, YoldBuffer) v1 v2) (xdrafted, xspecial, xdefined, xhere, xdepth, xscoped, xcells, xclosures, xtop, xundo, xpc, xenv, xbuffer, xtaken, xoutcome, xrunning, xgiven, xclosed, Xdraft, XdraftValues, Xop, Xarg, Xparameter, Xwaiting, Xdone, Xhole, Xscope, Xplace, Xlocals, Xstack, Xcell, Xparent, Xbodies, Xbinds, Xscopes, Xwhat, Xfirst, Xsecond, Xthird, Xkept) v1 v2 := by
    intro h
    unfold wpX_define
    refine zx_in (n := 4) (by omega) (fun _ _ _ => br_f (by decide) ?_) (fun h => (zz_ni hq (by omega) eq h).elim)
    refine zx_in (n := 8) (by omega) (fun j hj e => (zz_ni hj (by omega) e h).elim) (fun _ => br_t rfl ?_)
    unfold wpY_define
    refine zy_in (n := 4) (by omega) (fun _ _ _ => br_f (by decide) ?_) (fun h => (zz_ni hq (by omega) eq h).elim)
    exact zy_in (n := 8) (by omega) (fun j hj e => (zz_ni hj (by omega) e h).elim) (fun _ => br_t rfl ⟨rfl, same⟩)
  rcases pk_ix v2 (n := 8) (by omega) with h | h | ⟨s, hs, es⟩
  · exact no2 (Or.inl h)
  · exact no2 (Or.inr h)
  subst eq es
  obtain ⟨r, u', v', hR, hX, hY⟩ := zw_define hq hs h1 h2 h3 h4 h5
  exact hX _ (hY _ ⟨rfl, hR⟩)
theorem i_vc_run {k : Nat} {u : SX} {v : SY} (I : i_Rel k u v) (hk : k + 3 ≤ 1536) : wpX_run (fun r u' => wpY_run (fun r' v' => r' = r ∧ i_Rel (k + 3) u' v') v) u := by
  refine zz_up (P := fun u v => wpX_run (fun r u' => wpY_run (fun r' v' => r' = r ∧ i_Rel (k + 3) u' v') v) u) I ?_
  intro xdrafted xspecial xdefined xhere xdepth xscoped xcells xclosures xtop xundo xpc xenv xbuffer xtaken xoutcome xrunning xgiven xclosed Xdraft XdraftValues Xop Xarg Xparameter Xwaiting Xdone Xhole Xscope Xplace Xlocals Xstack Xcell Xparent Xbodies Xbinds Xscopes Xwhat Xfirst Xsecond Xthird Xkept yenvs yclosures ywork ybuffer ysteps ymode yat yenv ykind yvalue ycode ytag yresultKind yresultValue Ykinds Ynumbers Yends Ylengths Yparameters Yspecial YplaceKind YplaceValue Ythere YsymbolOf YplaceOf YnextOf YclosureSymbol YclosureBody YclosureEnv YworkToken YworkPhase YworkEnv YkeptKind YkeptValue YboundPlace YoldKind YoldValue YoldBuffer h1 h2 h3 h4 h5
  obtain ⟨r, u', v', hR, hX, hY⟩ := zw_run h1 h2 h3 h4 h5
  exact hX _ (hY _ ⟨rfl, hR⟩)
theorem i_vc_result {k : Nat} {u : SX} {v : SY} (I : i_Rel k u v) (hk : k + 3 ≤ 1536) : wpX_result (fun r => wpY_result (fun r' => r' = r ∧ i_Rel (k + 3) u v) v) u := by
  refine zz_up (P := fun u v => wpX_result (fun r => wpY_result (fun r' => r' = r ∧ i_Rel (k + 3) u v) v) u) I ?_
  intro xdrafted xspecial xdefined xhere xdepth xscoped xcells xclosures xtop xundo xpc xenv xbuffer xtaken xoutcome xrunning xgiven xclosed Xdraft XdraftValues Xop Xarg Xparameter Xwaiting Xdone Xhole Xscope Xplace Xlocals Xstack Xcell Xparent Xbodies Xbinds Xscopes Xwhat Xfirst Xsecond Xthird Xkept yenvs yclosures ywork ybuffer ysteps ymode yat yenv ykind yvalue ycode ytag yresultKind yresultValue Ykinds Ynumbers Yends Ylengths Yparameters Yspecial YplaceKind YplaceValue Ythere YsymbolOf YplaceOf YnextOf YclosureSymbol YclosureBody YclosureEnv YworkToken YworkPhase YworkEnv YkeptKind YkeptValue YboundPlace YoldKind YoldValue YoldBuffer h1 h2 h3 h4 h5
  have same : zz_Rel (xdrafted, xspecial, xdefined, xhere, xdepth, xscoped, xcells, xclosures, xtop, xundo, xpc, xenv, xbuffer, xtaken, xoutcome, xrunning, xgiven, xclosed, Xdraft, XdraftValues, Xop, Xarg, Xparameter, Xwaiting, Xdone, Xhole, Xscope, Xplace, Xlocals, Xstack, Xcell, Xparent, Xbodies, Xbinds, Xscopes, Xwhat, Xfirst, Xsecond, Xthird, Xkept) (yenvs, yclosures, ywork, ybuffer, ysteps, ymode, yat, yenv, ykind, yvalue, ycode, ytag, yresultKind, yresultValue, Ykinds, Ynumbers, Yends, Ylengths, Yparameters, Yspecial, YplaceKind, YplaceValue, Ythere, YsymbolOf, YplaceOf, YnextOf, YclosureSymbol, YclosureBody, YclosureEnv, YworkToken, YworkPhase, YworkEnv, YkeptKind, YkeptValue, YboundPlace, YoldKind, YoldValue, YoldBuffer) := ⟨h1, h2, h3, h4, h5⟩
  refine br_c (fun z => ⟨?_, same⟩) (fun z => ⟨?_, same⟩)
  · have := h4.1; rw [if_pos z] at this; exact this.symm
  · have := h4.1; rw [if_neg z] at this; exact this.symm
theorem i_vc_closure {k : Nat} {u : SX} {v : SY} (I : i_Rel k u v) (hk : k + 3 ≤ 1536) : wpX_closure (fun r => wpY_closure (fun r' => r' = r ∧ i_Rel (k + 3) u v) v) u := by
  refine zz_up (P := fun u v => wpX_closure (fun r => wpY_closure (fun r' => r' = r ∧ i_Rel (k + 3) u v) v) u) I ?_
  intro xdrafted xspecial xdefined xhere xdepth xscoped xcells xclosures xtop xundo xpc xenv xbuffer xtaken xoutcome xrunning xgiven xclosed Xdraft XdraftValues Xop Xarg Xparameter Xwaiting Xdone Xhole Xscope Xplace Xlocals Xstack Xcell Xparent Xbodies Xbinds Xscopes Xwhat Xfirst Xsecond Xthird Xkept yenvs yclosures ywork ybuffer ysteps ymode yat yenv ykind yvalue ycode ytag yresultKind yresultValue Ykinds Ynumbers Yends Ylengths Yparameters Yspecial YplaceKind YplaceValue Ythere YsymbolOf YplaceOf YnextOf YclosureSymbol YclosureBody YclosureEnv YworkToken YworkPhase YworkEnv YkeptKind YkeptValue YboundPlace YoldKind YoldValue YoldBuffer h1 h2 h3 h4 h5
  have same : zz_Rel (xdrafted, xspecial, xdefined, xhere, xdepth, xscoped, xcells, xclosures, xtop, xundo, xpc, xenv, xbuffer, xtaken, xoutcome, xrunning, xgiven, xclosed, Xdraft, XdraftValues, Xop, Xarg, Xparameter, Xwaiting, Xdone, Xhole, Xscope, Xplace, Xlocals, Xstack, Xcell, Xparent, Xbodies, Xbinds, Xscopes, Xwhat, Xfirst, Xsecond, Xthird, Xkept) (yenvs, yclosures, ywork, ybuffer, ysteps, ymode, yat, yenv, ykind, yvalue, ycode, ytag, yresultKind, yresultValue, Ykinds, Ynumbers, Yends, Ylengths, Yparameters, Yspecial, YplaceKind, YplaceValue, Ythere, YsymbolOf, YplaceOf, YnextOf, YclosureSymbol, YclosureBody, YclosureEnv, YworkToken, YworkPhase, YworkEnv, YkeptKind, YkeptValue, YboundPlace, YoldKind, YoldValue, YoldBuffer) := ⟨h1, h2, h3, h4, h5⟩
  refine And.intro (by rcases zz_RSc h4 with h | h <;> rw [h] <;> rfl) (br_c (fun z => ⟨?_, same⟩) (fun z => ⟨?_, same⟩))
  · have := h4.2; rw [if_pos z] at this; exact this.symm
  · have := h4.2; rw [if_neg z] at this; exact this.symm
theorem i_vc_steps {k : Nat} {u : SX} {v : SY} (I : i_Rel k u v) (hk : k + 3 ≤ 1536) : wpX_steps (fun r => wpY_steps (fun r' => r' = r ∧ i_Rel (k + 3) u v) v) u := by
  refine zz_up (P := fun u v => wpX_steps (fun r => wpY_steps (fun r' => r' = r ∧ i_Rel (k + 3) u v) v) u) I ?_
  intro xdrafted xspecial xdefined xhere xdepth xscoped xcells xclosures xtop xundo xpc xenv xbuffer xtaken xoutcome xrunning xgiven xclosed Xdraft XdraftValues Xop Xarg Xparameter Xwaiting Xdone Xhole Xscope Xplace Xlocals Xstack Xcell Xparent Xbodies Xbinds Xscopes Xwhat Xfirst Xsecond Xthird Xkept yenvs yclosures ywork ybuffer ysteps ymode yat yenv ykind yvalue ycode ytag yresultKind yresultValue Ykinds Ynumbers Yends Ylengths Yparameters Yspecial YplaceKind YplaceValue Ythere YsymbolOf YplaceOf YnextOf YclosureSymbol YclosureBody YclosureEnv YworkToken YworkPhase YworkEnv YkeptKind YkeptValue YboundPlace YoldKind YoldValue YoldBuffer h1 h2 h3 h4 h5
  exact ⟨h5.symm, h1, h2, h3, h4, h5⟩
theorem i_vc_global {k : Nat} {u : SX} {v : SY} (I : i_Rel k u v) (hk : k + 3 ≤ 1536) (v1 : Int32) : wpX_global (fun r => wpY_global (fun r' => r' = r ∧ i_Rel (k + 3) u v) v v1) u v1 := by
  refine zz_up (P := fun u v => wpX_global (fun r => wpY_global (fun r' => r' = r ∧ i_Rel (k + 3) u v) v v1) u v1) I ?_
  intro xdrafted xspecial xdefined xhere xdepth xscoped xcells xclosures xtop xundo xpc xenv xbuffer xtaken xoutcome xrunning xgiven xclosed Xdraft XdraftValues Xop Xarg Xparameter Xwaiting Xdone Xhole Xscope Xplace Xlocals Xstack Xcell Xparent Xbodies Xbinds Xscopes Xwhat Xfirst Xsecond Xthird Xkept yenvs yclosures ywork ybuffer ysteps ymode yat yenv ykind yvalue ycode ytag yresultKind yresultValue Ykinds Ynumbers Yends Ylengths Yparameters Yspecial YplaceKind YplaceValue Ythere YsymbolOf YplaceOf YnextOf YclosureSymbol YclosureBody YclosureEnv YworkToken YworkPhase YworkEnv YkeptKind YkeptValue YboundPlace YoldKind YoldValue YoldBuffer h1 h2 h3 h4 h5
  have same : zz_Rel (xdrafted, xspecial, xdefined, xhere, xdepth, xscoped, xcells, xclosures, xtop, xundo, xpc, xenv, xbuffer, xtaken, xoutcome, xrunning, xgiven, xclosed, Xdraft, XdraftValues, Xop, Xarg, Xparameter, Xwaiting, Xdone, Xhole, Xscope, Xplace, Xlocals, Xstack, Xcell, Xparent, Xbodies, Xbinds, Xscopes, Xwhat, Xfirst, Xsecond, Xthird, Xkept) (yenvs, yclosures, ywork, ybuffer, ysteps, ymode, yat, yenv, ykind, yvalue, ycode, ytag, yresultKind, yresultValue, Ykinds, Ynumbers, Yends, Ylengths, Yparameters, Yspecial, YplaceKind, YplaceValue, Ythere, YsymbolOf, YplaceOf, YnextOf, YclosureSymbol, YclosureBody, YclosureEnv, YworkToken, YworkPhase, YworkEnv, YkeptKind, YkeptValue, YboundPlace, YoldKind, YoldValue, YoldBuffer) := ⟨h1, h2, h3, h4, h5⟩
  rcases Classical.em (v1 < 0 ∨ nI 8 ≤ v1) with h | h
  · unfold wpX_global
    refine zx_in (n := 8) (by omega) (fun j hj e => (zz_ni hj (by omega) e h).elim) (fun _ => br_t rfl ?_)
    unfold wpY_global
    exact zy_in (n := 8) (by omega) (fun j hj e => (zz_ni hj (by omega) e h).elim) (fun _ => br_t rfl ⟨rfl, same⟩)
  · rcases pk_ix v1 (n := 8) (by omega) with h' | h' | ⟨s, hs, es⟩
    · exact absurd (Or.inl h') h
    · exact absurd (Or.inr h') h
    subst es
    obtain ⟨r, hX, hY⟩ := zw_shown (p := s) (YplaceKind := YplaceKind) (YplaceValue := YplaceValue) (Ythere := Ythere) (Xplace := Xplace) (xdrafted := xdrafted) (xspecial := xspecial) (xdefined := xdefined) (xhere := xhere) (xdepth := xdepth) (xscoped := xscoped) (xcells := xcells) (xclosures := xclosures) (xtop := xtop) (xundo := xundo) (xpc := xpc) (xenv := xenv) (xbuffer := xbuffer) (xtaken := xtaken) (xoutcome := xoutcome) (xrunning := xrunning) (xgiven := xgiven) (xclosed := xclosed) (Xdraft := Xdraft) (XdraftValues := XdraftValues) (Xop := Xop) (Xarg := Xarg) (Xparameter := Xparameter) (Xwaiting := Xwaiting) (Xdone := Xdone) (Xhole := Xhole) (Xscope := Xscope) (Xlocals := Xlocals) (Xstack := Xstack) (Xcell := Xcell) (Xparent := Xparent) (Xbodies := Xbodies) (Xbinds := Xbinds) (Xscopes := Xscopes) (Xwhat := Xwhat) (Xfirst := Xfirst) (Xsecond := Xsecond) (Xthird := Xthird) (Xkept := Xkept) (yenvs := yenvs) (yclosures := yclosures) (ywork := ywork) (ybuffer := ybuffer) (ysteps := ysteps) (ymode := ymode) (yat := yat) (yenv := yenv) (ykind := ykind) (yvalue := yvalue) (ycode := ycode) (ytag := ytag) (yresultKind := yresultKind) (yresultValue := yresultValue) (Ykinds := Ykinds) (Ynumbers := Ynumbers) (Yends := Yends) (Ylengths := Ylengths) (Yparameters := Yparameters) (Yspecial := Yspecial) (YsymbolOf := YsymbolOf) (YplaceOf := YplaceOf) (YnextOf := YnextOf) (YclosureSymbol := YclosureSymbol) (YclosureBody := YclosureBody) (YclosureEnv := YclosureEnv) (YworkToken := YworkToken) (YworkPhase := YworkPhase) (YworkEnv := YworkEnv) (YkeptKind := YkeptKind) (YkeptValue := YkeptValue) (YboundPlace := YboundPlace) (YoldKind := YoldKind) (YoldValue := YoldValue) (YoldBuffer := YoldBuffer) (by omega) (Or.inl hs) h2
    unfold wpX_global
    refine zx_in (n := 8) (by omega) (fun _ _ _ => br_f (by decide) (hX _ ?_)) (fun h => (zz_ni hs (by omega) rfl h).elim)
    unfold wpY_global
    exact zy_in (n := 8) (by omega) (fun _ _ _ => br_f (by decide) (hY _ ⟨rfl, same⟩)) (fun h => (zz_ni hs (by omega) rfl h).elim)
theorem i_vc_local {k : Nat} {u : SX} {v : SY} (I : i_Rel k u v) (hk : k + 3 ≤ 1536) (v1 : Int32) (v2 : Int32) : wpX_local (fun r => wpY_local (fun r' => r' = r ∧ i_Rel (k + 3) u v) v v1 v2) u v1 v2 := by
  refine zz_up (P := fun u v => wpX_local (fun r => wpY_local (fun r' => r' = r ∧ i_Rel (k + 3) u v) v v1 v2) u v1 v2) I ?_
  intro xdrafted xspecial xdefined xhere xdepth xscoped xcells xclosures xtop xundo xpc xenv xbuffer xtaken xoutcome xrunning xgiven xclosed Xdraft XdraftValues Xop Xarg Xparameter Xwaiting Xdone Xhole Xscope Xplace Xlocals Xstack Xcell Xparent Xbodies Xbinds Xscopes Xwhat Xfirst Xsecond Xthird Xkept yenvs yclosures ywork ybuffer ysteps ymode yat yenv ykind yvalue ycode ytag yresultKind yresultValue Ykinds Ynumbers Yends Ylengths Yparameters Yspecial YplaceKind YplaceValue Ythere YsymbolOf YplaceOf YnextOf YclosureSymbol YclosureBody YclosureEnv YworkToken YworkPhase YworkEnv YkeptKind YkeptValue YboundPlace YoldKind YoldValue YoldBuffer h1 h2 h3 h4 h5
  have same : zz_Rel (xdrafted, xspecial, xdefined, xhere, xdepth, xscoped, xcells, xclosures, xtop, xundo, xpc, xenv, xbuffer, xtaken, xoutcome, xrunning, xgiven, xclosed, Xdraft, XdraftValues, Xop, Xarg, Xparameter, Xwaiting, Xdone, Xhole, Xscope, Xplace, Xlocals, Xstack, Xcell, Xparent, Xbodies, Xbinds, Xscopes, Xwhat, Xfirst, Xsecond, Xthird, Xkept) (yenvs, yclosures, ywork, ybuffer, ysteps, ymode, yat, yenv, ykind, yvalue, ycode, ytag, yresultKind, yresultValue, Ykinds, Ynumbers, Yends, Ylengths, Yparameters, Yspecial, YplaceKind, YplaceValue, Ythere, YsymbolOf, YplaceOf, YnextOf, YclosureSymbol, YclosureBody, YclosureEnv, YworkToken, YworkPhase, YworkEnv, YkeptKind, YkeptValue, YboundPlace, YoldKind, YoldValue, YoldBuffer) := ⟨h1, h2, h3, h4, h5⟩
  obtain ⟨r, hr, hX, hY⟩ := zw_isLocal (Xlocals := Xlocals) (Ythere := Ythere) (xdrafted := xdrafted) (xspecial := xspecial) (xdefined := xdefined) (xhere := xhere) (xdepth := xdepth) (xscoped := xscoped) (xcells := xcells) (xclosures := xclosures) (xtop := xtop) (xundo := xundo) (xpc := xpc) (xenv := xenv) (xbuffer := xbuffer) (xtaken := xtaken) (xoutcome := xoutcome) (xrunning := xrunning) (xgiven := xgiven) (xclosed := xclosed) (Xdraft := Xdraft) (XdraftValues := XdraftValues) (Xop := Xop) (Xarg := Xarg) (Xparameter := Xparameter) (Xwaiting := Xwaiting) (Xdone := Xdone) (Xhole := Xhole) (Xscope := Xscope) (Xplace := Xplace) (Xstack := Xstack) (Xcell := Xcell) (Xparent := Xparent) (Xbodies := Xbodies) (Xbinds := Xbinds) (Xscopes := Xscopes) (Xwhat := Xwhat) (Xfirst := Xfirst) (Xsecond := Xsecond) (Xthird := Xthird) (Xkept := Xkept) (yenvs := yenvs) (yclosures := yclosures) (ywork := ywork) (ybuffer := ybuffer) (ysteps := ysteps) (ymode := ymode) (yat := yat) (yenv := yenv) (ykind := ykind) (yvalue := yvalue) (ycode := ycode) (ytag := ytag) (yresultKind := yresultKind) (yresultValue := yresultValue) (Ykinds := Ykinds) (Ynumbers := Ynumbers) (Yends := Yends) (Ylengths := Ylengths) (Yparameters := Yparameters) (Yspecial := Yspecial) (YplaceKind := YplaceKind) (YplaceValue := YplaceValue) (YsymbolOf := YsymbolOf) (YplaceOf := YplaceOf) (YnextOf := YnextOf) (YclosureSymbol := YclosureSymbol) (YclosureBody := YclosureBody) (YclosureEnv := YclosureEnv) (YworkToken := YworkToken) (YworkPhase := YworkPhase) (YworkEnv := YworkEnv) (YkeptKind := YkeptKind) (YkeptValue := YkeptValue) (YboundPlace := YboundPlace) (YoldKind := YoldKind) (YoldValue := YoldValue) (YoldBuffer := YoldBuffer) h3 v1 v2
  rcases hr with hr | ⟨hr, b, s, hb, hs, e1, e2, ht⟩
  · subst hr
    unfold wpX_local
    refine hX _ (br_t rfl ?_)
    unfold wpY_local
    exact hY _ (br_t rfl ⟨rfl, same⟩)
  · subst hr e1 e2
    have e8 : ((8 : Int32) + 8 * nI b) + nI s = nI (8 + 8 * b + s) := by rw [show (8 : Int32) = nI 8 from rfl, pk_mul, nI_add, nI_add]
    obtain ⟨r, gX, gY⟩ := zw_shown (p := 8 + 8 * b + s) (YplaceKind := YplaceKind) (YplaceValue := YplaceValue) (Ythere := Ythere) (Xplace := Xplace) (xdrafted := xdrafted) (xspecial := xspecial) (xdefined := xdefined) (xhere := xhere) (xdepth := xdepth) (xscoped := xscoped) (xcells := xcells) (xclosures := xclosures) (xtop := xtop) (xundo := xundo) (xpc := xpc) (xenv := xenv) (xbuffer := xbuffer) (xtaken := xtaken) (xoutcome := xoutcome) (xrunning := xrunning) (xgiven := xgiven) (xclosed := xclosed) (Xdraft := Xdraft) (XdraftValues := XdraftValues) (Xop := Xop) (Xarg := Xarg) (Xparameter := Xparameter) (Xwaiting := Xwaiting) (Xdone := Xdone) (Xhole := Xhole) (Xscope := Xscope) (Xlocals := Xlocals) (Xstack := Xstack) (Xcell := Xcell) (Xparent := Xparent) (Xbodies := Xbodies) (Xbinds := Xbinds) (Xscopes := Xscopes) (Xwhat := Xwhat) (Xfirst := Xfirst) (Xsecond := Xsecond) (Xthird := Xthird) (Xkept := Xkept) (yenvs := yenvs) (yclosures := yclosures) (ywork := ywork) (ybuffer := ybuffer) (ysteps := ysteps) (ymode := ymode) (yat := yat) (yenv := yenv) (ykind := ykind) (yvalue := yvalue) (ycode := ycode) (ytag := ytag) (yresultKind := yresultKind) (yresultValue := yresultValue) (Ykinds := Ykinds) (Ynumbers := Ynumbers) (Yends := Yends) (Ylengths := Ylengths) (Yparameters := Yparameters) (Yspecial := Yspecial) (YsymbolOf := YsymbolOf) (YplaceOf := YplaceOf) (YnextOf := YnextOf) (YclosureSymbol := YclosureSymbol) (YclosureBody := YclosureBody) (YclosureEnv := YclosureEnv) (YworkToken := YworkToken) (YworkPhase := YworkPhase) (YworkEnv := YworkEnv) (YkeptKind := YkeptKind) (YkeptValue := YkeptValue) (YboundPlace := YboundPlace) (YoldKind := YoldKind) (YoldValue := YoldValue) (YoldBuffer := YoldBuffer) (by omega) (Or.inr ht) h2
    unfold wpX_local
    refine hX _ (br_f (by decide) ?_)
    rw [e8]
    refine gX _ ?_
    unfold wpY_local
    refine hY _ (br_f (by decide) ?_)
    rw [e8]
    exact gY _ ⟨rfl, same⟩
theorem i_vc_isLocal {k : Nat} {u : SX} {v : SY} (I : i_Rel k u v) (hk : k + 3 ≤ 1536) (v1 : Int32) (v2 : Int32) : wpX_isLocal (fun r => wpY_isLocal (fun r' => r' = r ∧ i_Rel (k + 3) u v) v v1 v2) u v1 v2 := by
  refine zz_up (P := fun u v => wpX_isLocal (fun r => wpY_isLocal (fun r' => r' = r ∧ i_Rel (k + 3) u v) v v1 v2) u v1 v2) I ?_
  intro xdrafted xspecial xdefined xhere xdepth xscoped xcells xclosures xtop xundo xpc xenv xbuffer xtaken xoutcome xrunning xgiven xclosed Xdraft XdraftValues Xop Xarg Xparameter Xwaiting Xdone Xhole Xscope Xplace Xlocals Xstack Xcell Xparent Xbodies Xbinds Xscopes Xwhat Xfirst Xsecond Xthird Xkept yenvs yclosures ywork ybuffer ysteps ymode yat yenv ykind yvalue ycode ytag yresultKind yresultValue Ykinds Ynumbers Yends Ylengths Yparameters Yspecial YplaceKind YplaceValue Ythere YsymbolOf YplaceOf YnextOf YclosureSymbol YclosureBody YclosureEnv YworkToken YworkPhase YworkEnv YkeptKind YkeptValue YboundPlace YoldKind YoldValue YoldBuffer h1 h2 h3 h4 h5
  obtain ⟨r, hr, hX, hY⟩ := zw_isLocal (Xlocals := Xlocals) (Ythere := Ythere) (xdrafted := xdrafted) (xspecial := xspecial) (xdefined := xdefined) (xhere := xhere) (xdepth := xdepth) (xscoped := xscoped) (xcells := xcells) (xclosures := xclosures) (xtop := xtop) (xundo := xundo) (xpc := xpc) (xenv := xenv) (xbuffer := xbuffer) (xtaken := xtaken) (xoutcome := xoutcome) (xrunning := xrunning) (xgiven := xgiven) (xclosed := xclosed) (Xdraft := Xdraft) (XdraftValues := XdraftValues) (Xop := Xop) (Xarg := Xarg) (Xparameter := Xparameter) (Xwaiting := Xwaiting) (Xdone := Xdone) (Xhole := Xhole) (Xscope := Xscope) (Xplace := Xplace) (Xstack := Xstack) (Xcell := Xcell) (Xparent := Xparent) (Xbodies := Xbodies) (Xbinds := Xbinds) (Xscopes := Xscopes) (Xwhat := Xwhat) (Xfirst := Xfirst) (Xsecond := Xsecond) (Xthird := Xthird) (Xkept := Xkept) (yenvs := yenvs) (yclosures := yclosures) (ywork := ywork) (ybuffer := ybuffer) (ysteps := ysteps) (ymode := ymode) (yat := yat) (yenv := yenv) (ykind := ykind) (yvalue := yvalue) (ycode := ycode) (ytag := ytag) (yresultKind := yresultKind) (yresultValue := yresultValue) (Ykinds := Ykinds) (Ynumbers := Ynumbers) (Yends := Yends) (Ylengths := Ylengths) (Yparameters := Yparameters) (Yspecial := Yspecial) (YplaceKind := YplaceKind) (YplaceValue := YplaceValue) (YsymbolOf := YsymbolOf) (YplaceOf := YplaceOf) (YnextOf := YnextOf) (YclosureSymbol := YclosureSymbol) (YclosureBody := YclosureBody) (YclosureEnv := YclosureEnv) (YworkToken := YworkToken) (YworkPhase := YworkPhase) (YworkEnv := YworkEnv) (YkeptKind := YkeptKind) (YkeptValue := YkeptValue) (YboundPlace := YboundPlace) (YoldKind := YoldKind) (YoldValue := YoldValue) (YoldBuffer := YoldBuffer) h3 v1 v2
  exact hX _ (hY _ ⟨rfl, h1, h2, h3, h4, h5⟩)
theorem i_vc_set {k : Nat} {u : SX} {v : SY} (I : i_Rel k u v) (hk : k + 3 ≤ 1536) (v1 : Int32) (v2 : Int32) : wpX_set (fun r u' => wpY_set (fun r' v' => r' = r ∧ i_Rel (k + 3) u' v') v v1 v2) u v1 v2 := by
  refine zz_up (P := fun u v => wpX_set (fun r u' => wpY_set (fun r' v' => r' = r ∧ i_Rel (k + 3) u' v') v v1 v2) u v1 v2) I ?_
  intro xdrafted xspecial xdefined xhere xdepth xscoped xcells xclosures xtop xundo xpc xenv xbuffer xtaken xoutcome xrunning xgiven xclosed Xdraft XdraftValues Xop Xarg Xparameter Xwaiting Xdone Xhole Xscope Xplace Xlocals Xstack Xcell Xparent Xbodies Xbinds Xscopes Xwhat Xfirst Xsecond Xthird Xkept yenvs yclosures ywork ybuffer ysteps ymode yat yenv ykind yvalue ycode ytag yresultKind yresultValue Ykinds Ynumbers Yends Ylengths Yparameters Yspecial YplaceKind YplaceValue Ythere YsymbolOf YplaceOf YnextOf YclosureSymbol YclosureBody YclosureEnv YworkToken YworkPhase YworkEnv YkeptKind YkeptValue YboundPlace YoldKind YoldValue YoldBuffer h1 h2 h3 h4 h5
  have same : zz_Rel (xdrafted, xspecial, xdefined, xhere, xdepth, xscoped, xcells, xclosures, xtop, xundo, xpc, xenv, xbuffer, xtaken, xoutcome, xrunning, xgiven, xclosed, Xdraft, XdraftValues, Xop, Xarg, Xparameter, Xwaiting, Xdone, Xhole, Xscope, Xplace, Xlocals, Xstack, Xcell, Xparent, Xbodies, Xbinds, Xscopes, Xwhat, Xfirst, Xsecond, Xthird, Xkept) (yenvs, yclosures, ywork, ybuffer, ysteps, ymode, yat, yenv, ykind, yvalue, ycode, ytag, yresultKind, yresultValue, Ykinds, Ynumbers, Yends, Ylengths, Yparameters, Yspecial, YplaceKind, YplaceValue, Ythere, YsymbolOf, YplaceOf, YnextOf, YclosureSymbol, YclosureBody, YclosureEnv, YworkToken, YworkPhase, YworkEnv, YkeptKind, YkeptValue, YboundPlace, YoldKind, YoldValue, YoldBuffer) := ⟨h1, h2, h3, h4, h5⟩
  rcases Classical.em (v1 < 0 ∨ nI 8 ≤ v1) with h | h
  · unfold wpX_set
    refine zx_in (n := 8) (by omega) (fun j hj e => (zz_ni hj (by omega) e h).elim) (fun _ => br_t rfl ?_)
    unfold wpY_set
    exact zy_in (n := 8) (by omega) (fun j hj e => (zz_ni hj (by omega) e h).elim) (fun _ => br_t rfl ⟨rfl, same⟩)
  · rcases pk_ix v1 (n := 8) (by omega) with h' | h' | ⟨s, hs, es⟩
    · exact absurd (Or.inl h') h
    · exact absurd (Or.inr h') h
    subst es
    have ec : (nI s).toNatClampNeg = s := nI_clamp (by omega)
    unfold wpX_set
    refine zx_in (n := 8) (by omega) (fun _ _ _ => br_f (by decide) (And.intro (vp_in_nI (by omega) (by omega)) (nm_r (e' := vp_updL Xplace s v2.toInt64) (by rw [ec]) ?_))) (fun h => (zz_ni hs (by omega) rfl h).elim)
    unfold wpY_set
    have iy : vp_in (nI s) 340 := vp_in_nI (by omega) (by omega)
    refine zy_in (n := 8) (by omega) (fun _ _ _ => br_f (by decide) (And.intro iy (nm_r (e' := upd YplaceKind s 0) (by rw [ec]) (And.intro iy (nm_r (e' := upd YplaceValue s v2) (by rw [ec]) ⟨rfl, h1, zz_PLu (k := 0) rfl (Or.inl (Or.inl rfl)) h2, h3, h4, h5⟩))))) (fun h => (zz_ni hs (by omega) rfl h).elim)
theorem i_vc_kill {k : Nat} {u : SX} {v : SY} (I : i_Rel k u v) (hk : k + 3 ≤ 1536) (v1 : Int32) (v2 : Int32) : wpX_kill (fun r u' => wpY_kill (fun r' v' => r' = r ∧ i_Rel (k + 3) u' v') v v1 v2) u v1 v2 := by
  refine zz_up (P := fun u v => wpX_kill (fun r u' => wpY_kill (fun r' v' => r' = r ∧ i_Rel (k + 3) u' v') v v1 v2) u v1 v2) I ?_
  intro xdrafted xspecial xdefined xhere xdepth xscoped xcells xclosures xtop xundo xpc xenv xbuffer xtaken xoutcome xrunning xgiven xclosed Xdraft XdraftValues Xop Xarg Xparameter Xwaiting Xdone Xhole Xscope Xplace Xlocals Xstack Xcell Xparent Xbodies Xbinds Xscopes Xwhat Xfirst Xsecond Xthird Xkept yenvs yclosures ywork ybuffer ysteps ymode yat yenv ykind yvalue ycode ytag yresultKind yresultValue Ykinds Ynumbers Yends Ylengths Yparameters Yspecial YplaceKind YplaceValue Ythere YsymbolOf YplaceOf YnextOf YclosureSymbol YclosureBody YclosureEnv YworkToken YworkPhase YworkEnv YkeptKind YkeptValue YboundPlace YoldKind YoldValue YoldBuffer h1 h2 h3 h4 h5
  have same : zz_Rel (xdrafted, xspecial, xdefined, xhere, xdepth, xscoped, xcells, xclosures, xtop, xundo, xpc, xenv, xbuffer, xtaken, xoutcome, xrunning, xgiven, xclosed, Xdraft, XdraftValues, Xop, Xarg, Xparameter, Xwaiting, Xdone, Xhole, Xscope, Xplace, Xlocals, Xstack, Xcell, Xparent, Xbodies, Xbinds, Xscopes, Xwhat, Xfirst, Xsecond, Xthird, Xkept) (yenvs, yclosures, ywork, ybuffer, ysteps, ymode, yat, yenv, ykind, yvalue, ycode, ytag, yresultKind, yresultValue, Ykinds, Ynumbers, Yends, Ylengths, Yparameters, Yspecial, YplaceKind, YplaceValue, Ythere, YsymbolOf, YplaceOf, YnextOf, YclosureSymbol, YclosureBody, YclosureEnv, YworkToken, YworkPhase, YworkEnv, YkeptKind, YkeptValue, YboundPlace, YoldKind, YoldValue, YoldBuffer) := ⟨h1, h2, h3, h4, h5⟩
  obtain ⟨r, hr, hX, hY⟩ := zw_isLocal (Xlocals := Xlocals) (Ythere := Ythere) (xdrafted := xdrafted) (xspecial := xspecial) (xdefined := xdefined) (xhere := xhere) (xdepth := xdepth) (xscoped := xscoped) (xcells := xcells) (xclosures := xclosures) (xtop := xtop) (xundo := xundo) (xpc := xpc) (xenv := xenv) (xbuffer := xbuffer) (xtaken := xtaken) (xoutcome := xoutcome) (xrunning := xrunning) (xgiven := xgiven) (xclosed := xclosed) (Xdraft := Xdraft) (XdraftValues := XdraftValues) (Xop := Xop) (Xarg := Xarg) (Xparameter := Xparameter) (Xwaiting := Xwaiting) (Xdone := Xdone) (Xhole := Xhole) (Xscope := Xscope) (Xplace := Xplace) (Xstack := Xstack) (Xcell := Xcell) (Xparent := Xparent) (Xbodies := Xbodies) (Xbinds := Xbinds) (Xscopes := Xscopes) (Xwhat := Xwhat) (Xfirst := Xfirst) (Xsecond := Xsecond) (Xthird := Xthird) (Xkept := Xkept) (yenvs := yenvs) (yclosures := yclosures) (ywork := ywork) (ybuffer := ybuffer) (ysteps := ysteps) (ymode := ymode) (yat := yat) (yenv := yenv) (ykind := ykind) (yvalue := yvalue) (ycode := ycode) (ytag := ytag) (yresultKind := yresultKind) (yresultValue := yresultValue) (Ykinds := Ykinds) (Ynumbers := Ynumbers) (Yends := Yends) (Ylengths := Ylengths) (Yparameters := Yparameters) (Yspecial := Yspecial) (YplaceKind := YplaceKind) (YplaceValue := YplaceValue) (YsymbolOf := YsymbolOf) (YplaceOf := YplaceOf) (YnextOf := YnextOf) (YclosureSymbol := YclosureSymbol) (YclosureBody := YclosureBody) (YclosureEnv := YclosureEnv) (YworkToken := YworkToken) (YworkPhase := YworkPhase) (YworkEnv := YworkEnv) (YkeptKind := YkeptKind) (YkeptValue := YkeptValue) (YboundPlace := YboundPlace) (YoldKind := YoldKind) (YoldValue := YoldValue) (YoldBuffer := YoldBuffer) h3 v1 v2
  rcases hr with hr | ⟨hr, b, s, hb, hs, e1, e2, ht⟩
  · subst hr
    unfold wpX_kill
    refine hX _ (br_t rfl ?_)
    unfold wpY_kill
    exact hY _ (br_t rfl ⟨rfl, same⟩)
  · subst hr e1 e2
    have e8 : ((8 : Int32) + 8 * nI b) + nI s = nI (8 + 8 * b + s) := by rw [show (8 : Int32) = nI 8 from rfl, pk_mul, nI_add, nI_add]
    have ib : vp_in (nI b) 3 := vp_in_nI hb (by omega)
    have eb : (nI b).toNatClampNeg = b := nI_clamp (by omega)
    unfold wpX_kill
    refine hX _ (br_f (by decide) (And.intro ib (And.intro ib (nm_r (e' := upd Xlocals b ((Xlocals b) &&& (((1 : Int32) <<< (nI s &&& 31)) ^^^ (-1)))) (by rw [eb]) ?_))))
    unfold wpY_kill
    refine hY _ (br_f (by decide) (And.intro (by rw [e8]; exact vp_in_nI (by omega) (by omega)) (nm_r (e' := upd Ythere (8 + 8 * b + s) 0) (by rw [e8, nI_clamp (by omega)]; rfl) ⟨rfl, h1, fun p hp hv => ?_, fun b' s' hb' hs' => ?_, h4, h5⟩)))
    · refine h2 p hp ?_
      rcases hv with h | h
      · exact Or.inl h
      · by_cases z : p = 8 + 8 * b + s
        · subst z; exact Or.inr ht
        · rw [pk_un z] at h; exact Or.inr h
    · have h := h3 b' s' hb' hs'
      by_cases z : b' = b
      · subst z
        rw [pk_us, zz_clr (by omega) (by omega)]
        by_cases w : s' = s
        · subst w; rw [pk_us]; simp
        · rw [pk_un (by omega), ← h]; simp [w]
      · rw [pk_un z, pk_un (by omega)]
        exact h
end
