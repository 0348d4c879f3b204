section
/-! pure rows to paste: stores, nI and lN arithmetic, masks, shifts, narrowing, branches by naturals (pk_le, pk_lt, pk_eq), loops (lp1 .. lp16: the measure of the state; rp1 ..: recursion), negatives. Take what you need -/
theorem pk_us {f : Nat → Int32} {k : Nat} {x : Int32} : upd f k x k = x := if_pos rfl
theorem pk_un {f : Nat → Int32} {k j : Nat} {x : Int32} (h : j ≠ k) : upd f k x j = f j := if_neg h
theorem pk_uLs {f : Nat → Int64} {k : Nat} {x : Int64} : vp_updL f k x k = x := if_pos rfl
theorem pk_uLn {f : Nat → Int64} {k j : Nat} {x : Int64} (h : j ≠ k) : vp_updL f k x j = f j := if_neg h
theorem pk_sub {a b : Nat} (h : b ≤ a) : nI a - nI b = nI (a - b) := by
  obtain ⟨c, rfl⟩ : ∃ c, a = c + b := ⟨a - b, by omega⟩
  rw [← nI_add, Int32.add_sub_cancel, Nat.add_sub_cancel]
theorem pk_m1 (n : Nat) : nI (n + 1) + (-1) = nI n := by
  rw [← nI_1, Int32.add_assoc, show (1 : Int32) + (-1) = 0 from rfl, Int32.add_zero]
theorem pk_mul (a b : Nat) : nI a * nI b = nI (a * b) := (Int32.ofNat_mul a b).symm
theorem pk_div {a d : Nat} (ha : a < 2 ^ 31) (h0 : 0 < d) (hd : d < 2 ^ 31) : nI a / nI d = nI (a / d) := by
  apply Int32.toInt_inj.mp
  rw [lg_idiv_nonneg (by rw [nI_toInt ha]; omega) (by rw [nI_toInt hd]; omega), nI_toInt ha, nI_toInt hd, nI_toInt (Nat.lt_of_le_of_lt (Nat.div_le_self a d) ha)]
  first | rfl | exact (Int.natCast_ediv _ _).symm
theorem pk_rem {a d : Nat} (ha : a < 2 ^ 31) (h0 : 0 < d) (hd : d < 2 ^ 31) : nI a - nI a / nI d * nI d = nI (a % d) := by
  rw [pk_div ha h0 hd, pk_mul, pk_sub (Nat.div_mul_le_self a d)]
  exact congrArg nI (by have := Nat.div_add_mod' a d; omega)
theorem pk_sub_toInt {a b : Nat} (ha : a < 2 ^ 30) (hb : b < 2 ^ 30) : (nI a - nI b).toInt = (a : Int) - b := by
  rw [Int32.toInt_sub, nI_toInt (by omega), nI_toInt (by omega)]
  exact Int.bmod_eq_of_le (by omega) (by omega)
theorem pk_sneg {a b : Nat} (hb : b < 2 ^ 30) (h : a < b) : nI a - nI b < 0 := by
  rw [Int32.lt_iff_toInt_lt, pk_sub_toInt (by omega) hb, show (0 : Int32).toInt = 0 from by decide]
  omega
theorem pk_ix (x : Int32) {n : Nat} (hn : n < 2 ^ 31) : x < 0 ∨ nI n ≤ x ∨ ∃ j : Nat, j < n ∧ x = nI j := by
  by_cases h : x < 0
  · exact Or.inl h
  · obtain ⟨j, hj, rfl⟩ := nI_of h
    by_cases h2 : j < n
    · exact Or.inr (Or.inr ⟨j, h2, rfl⟩)
    · exact Or.inr (Or.inl (nI_le (by omega) hj))
theorem pk_le {x y : Int32} {A B : Prop} (a b : Nat) (f : a ≤ b → A) (g : b < a → B) (hx : x = nI a := by rfl) (hy : y = nI b := by rfl) (ha : a < 2 ^ 31 := by omega) (hb : b < 2 ^ 31 := by omega) : (x ≤ y → A) ∧ (¬ x ≤ y → B) := by
  subst hx hy
  rw [nI_leI ha hb]
  exact ⟨f, fun z => g (by omega)⟩
theorem pk_lt {x y : Int32} {A B : Prop} (a b : Nat) (f : a < b → A) (g : b ≤ a → B) (hx : x = nI a := by rfl) (hy : y = nI b := by rfl) (ha : a < 2 ^ 31 := by omega) (hb : b < 2 ^ 31 := by omega) : (x < y → A) ∧ (¬ x < y → B) := by
  subst hx hy
  rw [nI_ltI ha hb]
  exact ⟨f, fun z => g (by omega)⟩
theorem pk_eq {x y : Int32} {A B : Prop} (a b : Nat) (f : a = b → A) (g : a ≠ b → B) (hx : x = nI a := by rfl) (hy : y = nI b := by rfl) (ha : a < 2 ^ 31 := by omega) (hb : b < 2 ^ 31 := by omega) : (x = y → A) ∧ (¬ x = y → B) := by
  subst hx hy
  rw [nI_eq ha hb]
  exact ⟨f, g⟩
theorem pk_in {x : Int32} (n N : Nat) (h : n < N) (hx : x = nI n := by rfl) (hN : N < 2 ^ 31 := by omega) : vp_in x N := by
  subst hx
  exact vp_in_nI h hN
theorem pk_cl {x : Int32} (n : Nat) (hx : x = nI n := by rfl) (h : n < 2 ^ 31 := by omega) : x.toNatClampNeg = n := by
  subst hx
  exact nI_clamp h
theorem pk_tn {n : Nat} (h : n < 2 ^ 32) : (nI n).toBitVec.toNat = n := Nat.mod_eq_of_lt h
theorem pk_and (x : Int32) {m : Int32} (k : Nat) (hm : m.toBitVec.toNat = 2 ^ k - 1) : x &&& m = nI (x.toBitVec.toNat % 2 ^ k) := by
  apply Int32.toBitVec_inj.mp
  apply BitVec.eq_of_toNat_eq
  rw [Int32.toBitVec_and, BitVec.toNat_and, hm, Nat.and_two_pow_sub_one_eq_mod]
  show _ = (BitVec.ofNat 32 _).toNat
  rw [BitVec.toNat_ofNat]
  exact (Nat.mod_eq_of_lt (Nat.lt_of_le_of_lt (Nat.mod_le _ _) x.toBitVec.isLt)).symm
theorem pk_andN {n : Nat} (h : n < 2 ^ 32) {m : Int32} (k : Nat) (hm : m.toBitVec.toNat = 2 ^ k - 1) : nI n &&& m = nI (n % 2 ^ k) := by
  rw [pk_and _ k hm, pk_tn h]
theorem pk_andE (x : Int32) {m : Int32} (k : Nat) (hm : m.toBitVec.toNat = 2 ^ k - 1) : ∃ j : Nat, j < 2 ^ k ∧ x &&& m = nI j := ⟨_, Nat.mod_lt _ (Nat.two_pow_pos k), pk_and x k hm⟩
theorem pk_andIn (x : Int32) {m : Int32} (k : Nat) (hm : m.toBitVec.toNat = 2 ^ k - 1) (hk : k ≤ 30) : vp_in (x &&& m) (2 ^ k) := by
  obtain ⟨j, hj, e⟩ := pk_andE x k hm
  rw [e]
  exact vp_in_nI hj (Nat.lt_of_le_of_lt (Nat.pow_le_pow_right (by decide) hk) (by decide))
theorem pk_shl (a s : Int32) (k : Nat) (hs : (s.toBitVec.smod 32).toNat = k) : (a <<< s).toBitVec.toNat = a.toBitVec.toNat * 2 ^ k % 2 ^ 32 := by
  show (a.toBitVec <<< (s.toBitVec.smod 32).toNat).toNat = _
  rw [hs, BitVec.toNat_shiftLeft, Nat.shiftLeft_eq]
theorem pk_shlN {n : Nat} (s : Int32) (k : Nat) (hs : (s.toBitVec.smod 32).toNat = k) (h : n * 2 ^ k < 2 ^ 32) : nI n <<< s = nI (n * 2 ^ k) := by
  apply Int32.toBitVec_inj.mp
  apply BitVec.eq_of_toNat_eq
  have hn : n < 2 ^ 32 := Nat.lt_of_le_of_lt (Nat.le_mul_of_pos_right n (Nat.two_pow_pos k)) h
  rw [pk_shl _ _ k hs, pk_tn hn, pk_tn h, Nat.mod_eq_of_lt h]
theorem pk_shr (a s : Int32) (k : Nat) (hs : (s.toBitVec.smod 32).toNat = k) : (a >>> s).toInt = a.toInt >>> k := by
  show (a.toBitVec.sshiftRight (s.toBitVec.smod 32).toNat).toInt = _
  rw [hs, BitVec.toInt_sshiftRight]
  rfl
theorem pk_shrN {n : Nat} (h : n < 2 ^ 31) (s : Int32) (k : Nat) (hs : (s.toBitVec.smod 32).toNat = k) : nI n >>> s = nI (n / 2 ^ k) := by
  apply Int32.toInt_inj.mp
  have h2 : n / 2 ^ k ≤ n := Nat.div_le_self _ _
  rw [pk_shr _ _ k hs, nI_toInt h, nI_toInt (by omega), Int.shiftRight_eq_div_pow]
  rfl
theorem pk_ushr (x s : Int32) (k : Nat) (hs : ((s.toUInt32 &&& Int32.toUInt32 31).toBitVec % 32).toNat = k) : (x.toUInt32 >>> (s.toUInt32 &&& Int32.toUInt32 31)).toInt32.toBitVec.toNat = x.toBitVec.toNat / 2 ^ k := by
  have e : (x.toUInt32 >>> (s.toUInt32 &&& Int32.toUInt32 31)).toInt32.toBitVec = x.toBitVec >>> k := by
    rw [← hs]
    exact UInt32.toBitVec_shiftRight _ _
  rw [e, BitVec.toNat_ushiftRight, Nat.shiftRight_eq_div_pow]
theorem pk_ushrN {n : Nat} (hn : n < 2 ^ 32) (s : Int32) (k : Nat) (hs : ((s.toUInt32 &&& Int32.toUInt32 31).toBitVec % 32).toNat = k) : ((nI n).toUInt32 >>> (s.toUInt32 &&& Int32.toUInt32 31)).toInt32 = nI (n / 2 ^ k) := by
  apply Int32.toBitVec_inj.mp
  apply BitVec.eq_of_toNat_eq
  rw [pk_ushr _ s k hs, pk_tn hn, pk_tn (Nat.lt_of_le_of_lt (Nat.div_le_self _ _) hn)]
theorem pk_nb (z : Int32) : narrow .byte (.int z.toInt8.toInt32) = .int z.toInt8.toInt32 := congrArg Value.int (by simp)
theorem pk_ns (z : Int32) : narrow .short (.int z.toInt16.toInt32) = .int z.toInt16.toInt32 := congrArg Value.int (by simp)
theorem pk_fb (r : Int32) : fits .byte (.int r.toInt8.toInt32) = true := by
  have ⟨a, b⟩ := lg_i2b_range r
  have h1 : (-128 : Int32).toInt = -128 := by decide
  have h2 : (127 : Int32).toInt = 127 := by decide
  simp only [fits, Bool.and_eq_true, decide_eq_true_eq, Int32.le_iff_toInt_le, h1, h2]
  omega
theorem pk_fs (r : Int32) : fits .short (.int r.toInt16.toInt32) = true := by
  have ⟨a, b⟩ := lg_i2s_range r
  have h1 : (-32768 : Int32).toInt = -32768 := by decide
  have h2 : (32767 : Int32).toInt = 32767 := by decide
  simp only [fits, Bool.and_eq_true, decide_eq_true_eq, Int32.le_iff_toInt_le, h1, h2]
  omega
theorem pk_charN {q : Nat} (hq : q < 65536) : narrow .char (.int (nI q)) = .int (nI q) ∧ fits .char (.int (nI q)) = true := by
  constructor
  · have e : (nI q).toUInt32.toUInt16.toUInt32.toInt32 = nI q := by
      apply Int32.toBitVec_inj.mp
      apply BitVec.eq_of_toNat_eq
      show (nI q).toUInt32.toUInt16.toUInt32.toNat = q % 2 ^ 32
      rw [UInt16.toNat_toUInt32, UInt32.toNat_toUInt16, show (nI q).toUInt32.toNat = q % 2 ^ 32 from rfl]
      omega
    exact congrArg Value.int e
  · have a : (0 : Int32) ≤ nI q := nI_pos' (by omega)
    have b : nI q ≤ 65535 := nI_le (b := 65535) (by omega) (by decide)
    show (decide ((0 : Int32) ≤ nI q) && decide (nI q ≤ 65535)) = true
    rw [decide_eq_true a, decide_eq_true b]
    rfl
theorem pk_char (x : Int32) : (x.toUInt32 % 65536).toInt32 = nI (x.toBitVec.toNat % 65536) := by
  apply Int32.toBitVec_inj.mp
  apply BitVec.eq_of_toNat_eq
  rw [pk_tn (by omega)]
  show (x.toUInt32 % 65536).toNat = _
  rw [UInt32.toNat_mod]
  rfl
theorem pk_nc (x : Int32) : narrow .char (.int (x.toUInt32 % 65536).toInt32) = .int (x.toUInt32 % 65536).toInt32 := by
  rw [pk_char]
  exact (pk_charN (Nat.mod_lt _ (by decide))).1
theorem pk_fc (x : Int32) : fits .char (.int (x.toUInt32 % 65536).toInt32) = true := by
  rw [pk_char]
  exact (pk_charN (Nat.mod_lt _ (by decide))).2
theorem pk_vb (z : Int32) : vp_nar .byte z.toInt8.toInt32 = z.toInt8.toInt32 := by rw [vp_nar_byte]; simp
theorem pk_vs (z : Int32) : vp_nar .short z.toInt16.toInt32 = z.toInt16.toInt32 := by rw [vp_nar_short]; simp
theorem pk_vc (z : Int32) : vp_nar .char (z.toUInt32 % 65536).toInt32 = (z.toUInt32 % 65536).toInt32 := Value.int.inj (pk_nc z)
theorem pk_lT {n : Nat} (h : n < 2 ^ 63) : (lN n).toInt = (n : Int) := lg_ofNat_toInt h
theorem pk_lLT {a b : Nat} (ha : a < 2 ^ 63) (hb : b < 2 ^ 63) : lN a < lN b ↔ a < b := by
  rw [Int64.lt_iff_toInt_lt, pk_lT ha, pk_lT hb]; omega
theorem pk_lLE {a b : Nat} (ha : a < 2 ^ 63) (hb : b < 2 ^ 63) : lN a ≤ lN b ↔ a ≤ b := by
  rw [Int64.le_iff_toInt_le, pk_lT ha, pk_lT hb]; omega
theorem pk_lEQ {a b : Nat} (ha : a < 2 ^ 63) (hb : b < 2 ^ 63) : lN a = lN b ↔ a = b := by
  rw [← Int64.toInt_inj, pk_lT ha, pk_lT hb]; omega
theorem pk_lOf {x : Int64} (h : ¬ x < 0) : ∃ k : Nat, k < 2 ^ 63 ∧ x = lN k := by
  rw [Int64.lt_iff_toInt_lt] at h
  have h0 : (0 : Int64).toInt = 0 := by decide
  have hx := Int64.toInt_lt x
  refine ⟨x.toInt.toNat, by omega, Int64.toInt_inj.mp ?_⟩
  rw [pk_lT (by omega)]
  omega
theorem pk_lDiv {a b : Nat} (ha : a < 2 ^ 63) (h0 : 0 < b) (hb : b < 2 ^ 63) : lN a / lN b = lN (a / b) := by
  apply Int64.toInt_inj.mp
  rw [lg_ldiv_nonneg (by rw [pk_lT ha]; omega) (by rw [pk_lT hb]; omega), pk_lT ha, pk_lT hb, pk_lT (Nat.lt_of_le_of_lt (Nat.div_le_self a b) ha)]
  rfl
theorem pk_lRem {a b : Nat} (ha : a < 2 ^ 63) (h0 : 0 < b) (hb : b < 2 ^ 63) : lN a - lN a / lN b * lN b = lN (a % b) := by
  rw [pk_lDiv ha h0 hb, lN_mul, lN_sub (Nat.div_mul_le_self a b)]
  exact congrArg lN (by have := Nat.div_add_mod' a b; omega)
theorem pk_loop {σ : Type} (W : Nat → Nat → σ → Prop) (I : Nat → σ → Prop) (e i0 : Nat) (s : σ) (hi : i0 ≤ e) (h0 : I i0 s) (hx : ∀ n s, I e s → W (n + 1) e s)
    (hs : ∀ n i s, i < e → I i s → (∀ s', I (i + 1) s' → W n (i + 1) s') → W (n + 1) i s) : ∃ n, W n i0 s :=
  ⟨e + 1, loop_i W I e hx hs (e + 1) i0 s hi (by omega) h0⟩
theorem pk_loopD {σ : Type} (W : Nat → Nat → σ → Prop) (I : Nat → σ → Prop) (hx : ∀ n s, I 0 s → W (n + 1) 0 s)
    (hs : ∀ n i s, I (i + 1) s → (∀ s', I i s' → W n i s') → W (n + 1) (i + 1) s) : ∀ (e : Nat) (s : σ), I e s → W (e + 1) e s := by
  intro e
  induction e with
  | zero => exact fun s h => hx 0 s h
  | succ e ih => exact fun s h => hs (e + 1) e s h (fun s' h' => ih s' h')
theorem s_l : ∀ n, n < 32 → ((nI n &&& 31).toBitVec.smod 32).toNat = n := by decide +kernel
theorem nx_and (a b : Nat) : nI a &&& nI b = nI (a &&& b) := by
  apply Int32.toBitVec_inj.1
  show BitVec.ofNat 32 a &&& BitVec.ofNat 32 b = BitVec.ofNat 32 (a &&& b)
  apply BitVec.eq_of_getLsbD_eq
  intro i hi
  simp [hi]
theorem nx_or (a b : Nat) : nI a ||| nI b = nI (a ||| b) := by
  apply Int32.toBitVec_inj.1
  show BitVec.ofNat 32 a ||| BitVec.ofNat 32 b = BitVec.ofNat 32 (a ||| b)
  apply BitVec.eq_of_getLsbD_eq
  intro i hi
  simp [hi]
/-! ===== ints of any sign ===== -/
theorem zi_mn : Int32.minValue.toInt = -2147483648 := by decide
theorem zi_mx : Int32.maxValue.toInt = 2147483647 := by decide
theorem zl_mn : Int64.minValue.toInt = -9223372036854775808 := by decide
theorem zl_mx : Int64.maxValue.toInt = 9223372036854775807 := by decide
theorem zi_n (n : Nat) : nI n = Int32.ofInt (n : Int) := Int32.ofInt_eq_ofNat.symm
theorem zi_le {a b : Int} (ha : -2147483648 ≤ a) (ha' : a ≤ 2147483647) (hb : -2147483648 ≤ b) (hb' : b ≤ 2147483647) : Int32.ofInt a ≤ Int32.ofInt b ↔ a ≤ b :=
  Int32.ofInt_le_iff_le (by rw [zi_mn]; exact ha) (by rw [zi_mx]; exact ha') (by rw [zi_mn]; exact hb) (by rw [zi_mx]; exact hb')
theorem zi_lt {a b : Int} (ha : -2147483648 ≤ a) (ha' : a ≤ 2147483647) (hb : -2147483648 ≤ b) (hb' : b ≤ 2147483647) : Int32.ofInt a < Int32.ofInt b ↔ a < b :=
  Int32.ofInt_lt_iff_lt (by rw [zi_mn]; exact ha) (by rw [zi_mx]; exact ha') (by rw [zi_mn]; exact hb) (by rw [zi_mx]; exact hb')
theorem zi_t {a : Int} (ha : -2147483648 ≤ a) (ha' : a ≤ 2147483647) : (Int32.ofInt a).toInt = a := Int32.toInt_ofInt_of_le (by omega) (by omega)
theorem zl_t {a : Int} (ha : -9223372036854775808 ≤ a) (ha' : a ≤ 9223372036854775807) : (Int64.ofInt a).toInt = a := Int64.toInt_ofInt_of_le (by omega) (by omega)
theorem zi_eq {a b : Int} (ha : -2147483648 ≤ a) (ha' : a ≤ 2147483647) (hb : -2147483648 ≤ b) (hb' : b ≤ 2147483647) : Int32.ofInt a = Int32.ofInt b ↔ a = b :=
  ⟨fun h => by have := congrArg Int32.toInt h; rwa [zi_t ha ha', zi_t hb hb'] at this, fun h => by rw [h]⟩
theorem zl_le {a b : Int} (ha : -9223372036854775808 ≤ a) (ha' : a ≤ 9223372036854775807) (hb : -9223372036854775808 ≤ b) (hb' : b ≤ 9223372036854775807) : Int64.ofInt a ≤ Int64.ofInt b ↔ a ≤ b :=
  Int64.ofInt_le_iff_le (by rw [zl_mn]; exact ha) (by rw [zl_mx]; exact ha') (by rw [zl_mn]; exact hb) (by rw [zl_mx]; exact hb')
theorem zi_div {a b : Int} (ha : -2147483648 ≤ a) (ha' : a ≤ 2147483647) (hb : -2147483648 ≤ b) (hb' : b ≤ 2147483647) : Int32.ofInt a / Int32.ofInt b = Int32.ofInt (a.tdiv b) :=
  (Int32.ofInt_tdiv (by rw [zi_mn]; exact ha) (by rw [zi_mx]; exact ha') (by rw [zi_mn]; exact hb) (by rw [zi_mx]; exact hb')).symm
theorem zl_div {a b : Int} (ha : -9223372036854775808 ≤ a) (ha' : a ≤ 9223372036854775807) (hb : -9223372036854775808 ≤ b) (hb' : b ≤ 9223372036854775807) : Int64.ofInt a / Int64.ofInt b = Int64.ofInt (a.tdiv b) :=
  (Int64.ofInt_tdiv (by rw [zl_mn]; exact ha) (by rw [zl_mx]; exact ha') (by rw [zl_mn]; exact hb) (by rw [zl_mx]; exact hb')).symm
theorem zi_l {a : Int} (ha : -2147483648 ≤ a) (ha' : a ≤ 2147483647) : (Int32.ofInt a).toInt64 = Int64.ofInt a :=
  Int32.toInt64_ofInt (by rw [zi_mn]; exact ha) (by rw [zi_mx]; exact ha')
theorem zi_of (x : Int32) : ∃ a : Int, -2147483648 ≤ a ∧ a ≤ 2147483647 ∧ x = Int32.ofInt a :=
  ⟨x.toInt, by have := x.le_toInt; omega, by have := x.toInt_lt; omega, (Int32.ofInt_toInt x).symm⟩
theorem zi_1 (a : Int) : Int32.ofInt a + 1 = Int32.ofInt (a + 1) := by rw [Int32.ofInt_add]; rfl
end
section
/-! ===== trits: t i for i < 9; P t k: the places of the trits 1 as a number; V t k: the value ===== -/
def tt_T (t : Nat → Int) : Prop := (∀ i, t i = -1 ∨ t i = 0 ∨ t i = 1) ∧ ∀ i, 9 ≤ i → t i = 0
def tt_P (t : Nat → Int) : Nat → Nat
  | 0 => 0
  | k + 1 => tt_P t k + (if t k = 1 then 2 ^ k else 0)
def tt_V (t : Nat → Int) : Nat → Int
  | 0 => 0
  | k + 1 => tt_V t k + t k * 3 ^ k
def tt_n (t : Nat → Int) : Nat → Int := fun i => - t i
def tt_W (t : Nat → Int) (k : Nat) : Nat := tt_P t k + 512 * tt_P (tt_n t) k
theorem tt_nT {t : Nat → Int} (h : tt_T t) : tt_T (tt_n t) := by
  refine ⟨fun i => ?_, fun i hi => ?_⟩
  · show -t i = -1 ∨ -t i = 0 ∨ -t i = 1
    rcases h.1 i with e | e | e <;> rw [e] <;> omega
  · show -t i = 0
    rw [h.2 i hi]; rfl
theorem tt_Plt (t : Nat → Int) : ∀ k, tt_P t k < 2 ^ k := by
  intro k
  induction k with
  | zero => exact Nat.one_pos
  | succ k ih =>
    show tt_P t k + (if t k = 1 then 2 ^ k else 0) < 2 ^ (k + 1)
    rw [Nat.pow_succ]
    split <;> omega
theorem tt_Padd (t : Nat → Int) (a : Nat) : ∀ b, tt_P t (a + b) = tt_P t a + 2 ^ a * tt_P (fun i => t (a + i)) b := by
  intro b
  induction b with
  | zero => show tt_P t a = tt_P t a + 2 ^ a * 0; omega
  | succ b ih =>
    show tt_P t (a + b) + (if t (a + b) = 1 then 2 ^ (a + b) else 0) = tt_P t a + 2 ^ a * (tt_P (fun i => t (a + i)) b + (if t (a + b) = 1 then 2 ^ b else 0))
    rw [ih, Nat.mul_add]
    split
    · rw [Nat.pow_add]; omega
    · omega
theorem tt_Vadd (t : Nat → Int) (a : Nat) : ∀ b, tt_V t (a + b) = tt_V t a + 3 ^ a * tt_V (fun i => t (a + i)) b := by
  intro b
  induction b with
  | zero => show tt_V t a = tt_V t a + 3 ^ a * 0; omega
  | succ b ih =>
    show tt_V t (a + b) + t (a + b) * 3 ^ (a + b) = tt_V t a + 3 ^ a * (tt_V (fun i => t (a + i)) b + t (a + b) * 3 ^ b)
    rw [ih, Int.mul_add, Int.pow_add, Int.mul_left_comm]; omega
theorem tt_Vb {t : Nat → Int} (h : tt_T t) : ∀ k, -(3 ^ k : Int) < 2 * tt_V t k ∧ 2 * tt_V t k < 3 ^ k := by
  intro k
  induction k with
  | zero => show -(1 : Int) < 2 * 0 ∧ 2 * (0 : Int) < 1; decide
  | succ k ih =>
    show -(3 ^ (k + 1) : Int) < 2 * (tt_V t k + t k * 3 ^ k) ∧ 2 * (tt_V t k + t k * 3 ^ k) < 3 ^ (k + 1)
    rw [Int.pow_succ]
    rcases h.1 k with e | e | e <;> rw [e] <;> omega
theorem tt_Vb9 {t : Nat → Int} (h : tt_T t) : -9841 ≤ tt_V t 9 ∧ tt_V t 9 ≤ 9841 := by
  have := tt_Vb h 9
  have e : (3 : Int) ^ 9 = 19683 := by decide
  rw [e] at this
  omega
theorem tt_sg {t : Nat → Int} (h : tt_T t) : ∀ k, (0 < tt_V t k ↔ tt_P (tt_n t) k < tt_P t k) ∧ (tt_V t k < 0 ↔ tt_P t k < tt_P (tt_n t) k) := by
  intro k
  induction k with
  | zero => show ((0 : Int) < 0 ↔ (0 : Nat) < 0) ∧ ((0 : Int) < 0 ↔ (0 : Nat) < 0); decide
  | succ k ih =>
    have b := tt_Vb h k
    have p := tt_Plt t k
    have m := tt_Plt (tt_n t) k
    show (0 < tt_V t k + t k * 3 ^ k ↔ tt_P (tt_n t) k + (if -t k = 1 then 2 ^ k else 0) < tt_P t k + (if t k = 1 then 2 ^ k else 0)) ∧ (tt_V t k + t k * 3 ^ k < 0 ↔ tt_P t k + (if t k = 1 then 2 ^ k else 0) < tt_P (tt_n t) k + (if -t k = 1 then 2 ^ k else 0))
    rcases h.1 k with e | e | e <;> rw [e]
    · rw [if_pos (by decide), if_neg (by decide)]; omega
    · rw [if_neg (by decide), if_neg (by decide)]; omega
    · rw [if_neg (by decide), if_pos (by decide)]; omega
theorem tt_Pbit (t : Nat → Int) {i k : Nat} (h : i < k) : tt_P t k / 2 ^ i % 2 = if t i = 1 then 1 else 0 := by
  obtain ⟨b, rfl⟩ : ∃ b, k = i + (1 + b) := ⟨k - i - 1, by omega⟩
  rw [tt_Padd, Nat.add_mul_div_left _ _ (Nat.two_pow_pos i), Nat.div_eq_of_lt (tt_Plt t i), tt_Padd]
  show (0 + (0 + (if t (i + 0) = 1 then 2 ^ 0 else 0) + 2 ^ 1 * _)) % 2 = _
  rw [Nat.add_zero i]
  split <;> omega
theorem tt_c9 {Q : Nat → Prop} (h0 : Q 0) (h1 : Q 1) (h2 : Q 2) (h3 : Q 3) (h4 : Q 4) (h5 : Q 5) (h6 : Q 6) (h7 : Q 7) (h8 : Q 8) {i : Nat} (hi : i < 9) : Q i := by
  have : i = 0 ∨ i = 1 ∨ i = 2 ∨ i = 3 ∨ i = 4 ∨ i = 5 ∨ i = 6 ∨ i = 7 ∨ i = 8 := by omega
  rcases this with rfl | rfl | rfl | rfl | rfl | rfl | rfl | rfl | rfl <;> assumption
theorem tt_lo (p m : Nat) {i : Nat} (hi : i < 9) : (p + 512 * m) / 2 ^ i % 2 = p / 2 ^ i % 2 :=
  tt_c9 (Q := fun i => (p + 512 * m) / 2 ^ i % 2 = p / 2 ^ i % 2) (by omega) (by omega) (by omega) (by omega) (by omega) (by omega) (by omega) (by omega) (by omega) hi
theorem tt_hi {p : Nat} (m : Nat) (hp : p < 512) (i : Nat) : (p + 512 * m) / 2 ^ (9 + i) = m / 2 ^ i := by
  rw [Nat.pow_add, ← Nat.div_div_eq_div_mul]
  congr 1
  omega
theorem tt_Wlo (t : Nat → Int) {i : Nat} (hi : i < 9) : tt_W t 9 / 2 ^ i % 2 = if t i = 1 then 1 else 0 := by
  unfold tt_W
  rw [tt_lo _ _ hi, tt_Pbit t hi]
theorem tt_Whi (t : Nat → Int) {i : Nat} (hi : i < 9) : tt_W t 9 / 2 ^ (9 + i) % 2 = if t i = -1 then 1 else 0 := by
  unfold tt_W
  rw [tt_hi _ (tt_Plt t 9), tt_Pbit _ hi]
  show (if -t i = 1 then 1 else 0) = _
  by_cases h : t i = -1
  · rw [h]; rfl
  · rw [if_neg h, if_neg (by omega)]
theorem tt_Wlt (t : Nat → Int) : tt_W t 9 < 262144 := by
  have a : tt_P t 9 < 512 := tt_Plt t 9
  have b : tt_P (tt_n t) 9 < 512 := tt_Plt (tt_n t) 9
  unfold tt_W; omega
theorem tt_or {a k : Nat} (h : a / 2 ^ k % 2 = 0) : a ||| 2 ^ k = a + 2 ^ k := by
  have hr : a % 2 ^ k < 2 ^ k := Nat.mod_lt _ (Nat.two_pow_pos k)
  have e : a = 2 ^ (k + 1) * (a / 2 ^ k / 2) + a % 2 ^ k := by
    have e1 := Nat.div_add_mod a (2 ^ k)
    have e2 : a / 2 ^ k = 2 * (a / 2 ^ k / 2) := by omega
    rw [Nat.pow_succ, Nat.mul_assoc, ← e2, e1]
  have e3 : a % 2 ^ k ||| 2 ^ k = 2 ^ k + a % 2 ^ k := by
    have := Nat.two_pow_add_eq_or_of_lt hr 1
    rw [Nat.mul_one] at this
    rw [Nat.or_comm, this]
  have hlt : 2 ^ k + a % 2 ^ k < 2 ^ (k + 1) := by rw [Nat.pow_succ]; omega
  generalize a / 2 ^ k / 2 = q at e
  generalize a % 2 ^ k = r at *
  subst e
  rw [Nat.two_pow_add_eq_or_of_lt (by omega : r < 2 ^ (k + 1)), Nat.or_assoc, e3, ← Nat.two_pow_add_eq_or_of_lt hlt, ← Nat.two_pow_add_eq_or_of_lt (by omega : r < 2 ^ (k + 1))]
  omega
/-! the digits of a whole number -/
def tt_tr (z : Int) : Int := (z + 1) % 3 - 1
def tt_rr (z : Int) : Nat → Int
  | 0 => z
  | k + 1 => (tt_rr z k - tt_tr (tt_rr z k)) / 3
def tt_d (z : Int) : Nat → Int := fun i => if i < 9 then tt_tr (tt_rr z i) else 0
def tt_b (z : Int) : Int := (z + 9841) % 19683 - 9841
def tt_w (z : Int) : Int32 := nI (tt_W (tt_d z) 9)
theorem tt_tr3 (z : Int) : tt_tr z = -1 ∨ tt_tr z = 0 ∨ tt_tr z = 1 := by unfold tt_tr; omega
theorem tt_dT (z : Int) : tt_T (tt_d z) := by
  refine ⟨fun i => ?_, fun i hi => if_neg (by omega)⟩
  unfold tt_d
  split
  · exact tt_tr3 _
  · exact Or.inr (Or.inl rfl)
theorem tt_rs (z : Int) (k : Nat) : 3 * tt_rr z (k + 1) = tt_rr z k - tt_tr (tt_rr z k) := by
  show 3 * ((tt_rr z k - tt_tr (tt_rr z k)) / 3) = _
  unfold tt_tr; omega
theorem tt_dV (z : Int) : ∀ k, k ≤ 9 → tt_V (tt_d z) k + 3 ^ k * tt_rr z k = z := by
  intro k
  induction k with
  | zero => intro _; show (0 : Int) + 1 * z = z; omega
  | succ k ih =>
    intro hk
    have e := ih (by omega)
    have r := tt_rs z k
    have d : tt_d z k = tt_tr (tt_rr z k) := if_pos (by omega)
    show tt_V (tt_d z) k + tt_d z k * 3 ^ k + 3 ^ (k + 1) * tt_rr z (k + 1) = z
    rw [Int.pow_succ, Int.mul_assoc, r, d, Int.mul_sub, Int.mul_comm (tt_tr _)]
    omega
theorem tt_dV9 (z : Int) : tt_V (tt_d z) 9 = tt_b z := by
  have e := tt_dV z 9 (Nat.le_refl 9)
  have b := tt_Vb9 (tt_dT z)
  rw [show (3 : Int) ^ 9 = 19683 from by decide] at e
  unfold tt_b
  omega
theorem tt_bb (z : Int) : -9841 ≤ tt_b z ∧ tt_b z ≤ 9841 := by unfold tt_b; omega
theorem tt_bi {z : Int} (h : -9841 ≤ z) (h' : z ≤ 9841) : tt_b z = z := by unfold tt_b; omega
theorem tt_u {t : Nat → Int} (h : tt_T t) : ∀ i, i ≤ 9 → tt_rr (tt_V t 9) i = tt_V (fun j => t (i + j)) (9 - i) := by
  intro i
  induction i with
  | zero =>
    intro _
    show tt_V t 9 = tt_V (fun j => t (0 + j)) 9
    congr 1; funext j; rw [Nat.zero_add]
  | succ i ih =>
    intro hi
    have e := ih (by omega)
    have e2 : tt_V (fun j => t (i + j)) (1 + (9 - (i + 1))) = tt_V (fun j => t (i + j)) 1 + 3 ^ 1 * tt_V (fun j => t (i + (1 + j))) (9 - (i + 1)) := tt_Vadd _ 1 _
    have e3 : tt_V (fun j => t (i + j)) 1 = t i := by
      show 0 + t (i + 0) * 3 ^ 0 = t i
      rw [Nat.add_zero, Int.pow_zero]; omega
    have e4 : (fun j => t (i + (1 + j))) = (fun j => t (i + 1 + j)) := by funext j; congr 1; omega
    rw [show 1 + (9 - (i + 1)) = 9 - i from by omega, e3, e4, ← e] at e2
    show (tt_rr (tt_V t 9) i - tt_tr (tt_rr (tt_V t 9) i)) / 3 = _
    rw [e2]
    have := h.1 i
    generalize tt_V (fun j => t (i + 1 + j)) (9 - (i + 1)) = q
    unfold tt_tr
    rcases this with e | e | e <;> rw [e] <;> omega
theorem tt_ud {t : Nat → Int} (h : tt_T t) {i : Nat} (hi : i < 9) : tt_d (tt_V t 9) i = t i := by
  have e : tt_d (tt_V t 9) i = tt_tr (tt_rr (tt_V t 9) i) := if_pos hi
  rw [e, tt_u h i (by omega), show 9 - i = 1 + (9 - (i + 1)) from by omega, tt_Vadd]
  have e3 : tt_V (fun j => t (i + j)) 1 = t i := by
    show 0 + t (i + 0) * 3 ^ 0 = t i
    rw [Nat.add_zero, Int.pow_zero]; omega
  rw [e3]
  have := h.1 i
  generalize tt_V _ (9 - (i + 1)) = q
  unfold tt_tr
  rcases this with e | e | e <;> rw [e] <;> omega
theorem tt_Pc {s t : Nat → Int} : ∀ {k : Nat}, (∀ i, i < k → s i = t i) → tt_P s k = tt_P t k := by
  intro k
  induction k with
  | zero => intro _; rfl
  | succ k ih =>
    intro h
    show tt_P s k + (if s k = 1 then 2 ^ k else 0) = tt_P t k + (if t k = 1 then 2 ^ k else 0)
    rw [ih (fun i hi => h i (by omega)), h k (by omega)]
theorem tt_Wc {s t : Nat → Int} (h : ∀ i, i < 9 → s i = t i) : tt_W s 9 = tt_W t 9 := by
  unfold tt_W
  rw [tt_Pc h, tt_Pc (s := tt_n s) (t := tt_n t) (fun i hi => congrArg (fun x => -x) (h i hi))]
theorem tt_wV {t : Nat → Int} (h : tt_T t) : tt_w (tt_V t 9) = nI (tt_W t 9) :=
  congrArg nI (tt_Wc (fun i hi => tt_ud h hi))
theorem tt_wb (z : Int) : tt_w (tt_b z) = tt_w z := by
  rw [← tt_dV9, tt_wV (tt_dT z)]; rfl
theorem tt_wc {x y : Int} (h : (x - y) % 19683 = 0) : tt_w x = tt_w y := by
  rw [← tt_wb x, ← tt_wb y]
  congr 1
  unfold tt_b; omega
theorem tt_wt {t : Nat → Int} (h : tt_T t) {z : Int} (e : (tt_V t 9 - z) % 19683 = 0) : nI (tt_W t 9) = tt_w z := by
  rw [← tt_wV h]; exact tt_wc e
end
section
/-! ===== X's words ===== -/
theorem zk_le {x y : Int32} {A B : Prop} (a b : Int) (f : a ≤ b → A) (g : ¬ a ≤ b → B) (hx : x = Int32.ofInt a) (hy : y = Int32.ofInt b := by rfl) (ha : -1073741824 ≤ a := by omega) (ha' : a ≤ 1073741824 := by omega) (hb : -1073741824 ≤ b := by omega) (hb' : b ≤ 1073741824 := by omega) : (x ≤ y → A) ∧ (¬ x ≤ y → B) := by
  have e : x ≤ y ↔ a ≤ b := by rw [hx, hy]; exact zi_le (by omega) (by omega) (by omega) (by omega)
  exact ⟨fun h => f (e.mp h), fun h => g (fun h' => h (e.mpr h'))⟩
theorem zk_lt {x y : Int32} {A B : Prop} (a b : Int) (f : a < b → A) (g : ¬ a < b → B) (hx : x = Int32.ofInt a) (hy : y = Int32.ofInt b := by rfl) (ha : -1073741824 ≤ a := by omega) (ha' : a ≤ 1073741824 := by omega) (hb : -1073741824 ≤ b := by omega) (hb' : b ≤ 1073741824 := by omega) : (x < y → A) ∧ (¬ x < y → B) := by
  have e : x < y ↔ a < b := by rw [hx, hy]; exact zi_lt (by omega) (by omega) (by omega) (by omega)
  exact ⟨fun h => f (e.mp h), fun h => g (fun h' => h (e.mpr h'))⟩
theorem zk_eq {x y : Int32} {A B : Prop} (a b : Int) (f : a = b → A) (g : ¬ a = b → B) (hx : x = Int32.ofInt a) (hy : y = Int32.ofInt b := by rfl) (ha : -1073741824 ≤ a := by omega) (ha' : a ≤ 1073741824 := by omega) (hb : -1073741824 ≤ b := by omega) (hb' : b ≤ 1073741824 := by omega) : (x = y → A) ∧ (¬ x = y → B) := by
  have e : x = y ↔ a = b := by rw [hx, hy]; exact zi_eq (by omega) (by omega) (by omega) (by omega)
  exact ⟨fun h => f (e.mp h), fun h => g (fun h' => h (e.mpr h'))⟩
theorem zt_3 (z : Int) : z.tdiv 3 = if 0 ≤ z then z / 3 else -((-z) / 3) := by
  split
  · rename_i h; exact Int.tdiv_eq_ediv_of_nonneg h
  · rename_i h
    have e := Int.neg_tdiv (a := -z) (b := 3)
    rw [Int.neg_neg] at e
    rw [e, Int.tdiv_eq_ediv_of_nonneg (by omega)]
theorem zt_m (z : Int) : z.tdiv 19683 = if 0 ≤ z then z / 19683 else -((-z) / 19683) := by
  split
  · rename_i h; exact Int.tdiv_eq_ediv_of_nonneg h
  · rename_i h
    have e := Int.neg_tdiv (a := -z) (b := 19683)
    rw [Int.neg_neg] at e
    rw [e, Int.tdiv_eq_ediv_of_nonneg (by omega)]
theorem zt_e {z q : Int} (h : z = 3 * q) : z.tdiv 3 = q := by rw [zt_3]; split <;> omega
theorem xw_bit {t : Nat → Int} (hT : tt_T t) {i : Nat} (hi : i < 9) : ((nI (tt_W t 9) >>> (nI i &&& 31)) &&& 1) - ((nI (tt_W t 9) >>> ((9 + nI i) &&& 31)) &&& 1) = Int32.ofInt (t i) := by
  have hw := tt_Wlt t
  have e9 : (9 : Int32) + nI i = nI (9 + i) := nI_add 9 i
  have d1 : tt_W t 9 / 2 ^ i ≤ tt_W t 9 := Nat.div_le_self _ _
  have d2 : tt_W t 9 / 2 ^ (9 + i) ≤ tt_W t 9 := Nat.div_le_self _ _
  rw [e9, pk_shrN (by omega) _ i (s_l i (by omega)), pk_shrN (by omega) _ (9 + i) (s_l (9 + i) (by omega)),
    pk_andN (by omega) 1 (by decide), pk_andN (by omega) 1 (by decide), Nat.pow_one, tt_Wlo t hi, tt_Whi t hi]
  rcases hT.1 i with e | e | e <;> rw [e] <;> decide
theorem tt_z1 {p : Nat} (m : Nat) {i : Nat} (hi : i < 9) (hp : p < 2 ^ i) : (p + 512 * m) / 2 ^ i % 2 = 0 := by
  rw [tt_lo _ _ hi, Nat.div_eq_of_lt hp]
theorem tt_z2 {p m i : Nat} (hp : p < 512) (hm : m < 2 ^ i) : (p + 512 * m) / 2 ^ (9 + i) % 2 = 0 := by
  rw [tt_hi _ hp, Nat.div_eq_of_lt hm]
theorem xw_1s {k : Nat} (hk : k < 31) : (1 : Int32) <<< (nI k &&& 31) = nI (2 ^ k) := by
  have := pk_shlN (n := 1) (nI k &&& 31) k (s_l k (by omega)) (by rw [Nat.one_mul]; exact Nat.pow_lt_pow_right (by decide) (by omega))
  rw [Nat.one_mul] at this
  exact this
section
variable {f_length f_compiled f_isSound f_codeEnd f_poolEnd f_openCount f_accumulator f_place f_running f_printedCount : Int32} {a_kind a_first a_second a_third a_openKind a_openTop a_openCell a_zeroJump a_posJump a_leaveFirst a_leaveSecond a_memory a_printedWords : Nat → Int32}
theorem xw_trit {t : Nat → Int} (hT : tt_T t) {i : Nat} (hi : i < 9) {post : Int32 → Prop} (h : post (Int32.ofInt (t i))) : wpX_tritOf post (f_length, f_compiled, f_isSound, f_codeEnd, f_poolEnd, f_openCount, f_accumulator, f_place, f_running, f_printedCount, a_kind, a_first, a_second, a_third, a_openKind, a_openTop, a_openCell, a_zeroJump, a_posJump, a_leaveFirst, a_leaveSecond, a_memory, a_printedWords) (nI (tt_W t 9)) (nI i) := by
  show post _
  rw [xw_bit hT hi]; exact h
theorem xw_with {t : Nat → Int} (hT : tt_T t) {k : Nat} (hk : k < 9) {post : Int32 → Prop} {x : Int32} (hx : x = Int32.ofInt (t k)) (h : post (nI (tt_W t (k + 1)))) : wpX_withTrit post (f_length, f_compiled, f_isSound, f_codeEnd, f_poolEnd, f_openCount, f_accumulator, f_place, f_running, f_printedCount, a_kind, a_first, a_second, a_third, a_openKind, a_openTop, a_openCell, a_zeroJump, a_posJump, a_leaveFirst, a_leaveSecond, a_memory, a_printedWords) (nI (tt_W t k)) (nI k) x := by
  have p := tt_Plt t k
  have m := tt_Plt (tt_n t) k
  have p9 : tt_P t k < 512 := Nat.lt_of_lt_of_le p (Nat.pow_le_pow_right (by decide) (by omega : k ≤ 9))
  have eW : tt_W t (k + 1) = tt_P t k + (if t k = 1 then 2 ^ k else 0) + 512 * (tt_P (tt_n t) k + (if -t k = 1 then 2 ^ k else 0)) := rfl
  have e9 : (9 : Int32) + nI k = nI (9 + k) := nI_add 9 k
  rcases hT.1 k with e | e | e
  · rw [e] at hx
    subst hx
    refine br_f (by decide) (br_t (by decide) ?_)
    rw [e9, xw_1s (by omega), nx_or]
    unfold tt_W
    rw [tt_or (tt_z2 p9 m)]
    rw [eW, e, if_neg (by decide), if_pos (by decide)] at h
    rw [Nat.pow_add, show tt_P t k + 512 * tt_P (tt_n t) k + 2 ^ 9 * 2 ^ k = tt_P t k + 0 + 512 * (tt_P (tt_n t) k + 2 ^ k) from by omega]
    exact h
  · rw [e] at hx
    subst hx
    refine br_f (by decide) (br_f (by decide) ?_)
    rw [eW, e, if_neg (by decide), if_neg (by decide)] at h
    exact h
  · rw [e] at hx
    subst hx
    refine br_t (by decide) ?_
    rw [xw_1s (by omega), nx_or]
    unfold tt_W
    rw [tt_or (tt_z1 _ hk p)]
    rw [eW, e, if_pos (by decide), if_neg (by decide)] at h
    rw [show tt_P t k + 512 * tt_P (tt_n t) k + 2 ^ k = tt_P t k + 2 ^ k + 512 * (tt_P (tt_n t) k + 0) from by omega]
    exact h
theorem tt_rrb {z : Int} (h : -4611686018427387904 ≤ z) (h' : z ≤ 4611686018427387904) : ∀ k, -4611686018427387904 ≤ tt_rr z k ∧ tt_rr z k ≤ 4611686018427387904 := by
  intro k
  induction k with
  | zero => exact ⟨h, h'⟩
  | succ k ih =>
    have e := tt_rs z k
    have r := tt_tr3 (tt_rr z k)
    omega
theorem xw_42 {t : Nat → Int} (hT : tt_T t) {k : Nat} (hk : k < 9) {z q : Int} (hz : -4611686018427387904 ≤ z) (hz' : z ≤ 4611686018427387904) (hq : z - t k = 3 * q) {post : Int32 → Prop} {J : Int64 → Int32 → Int32 → Prop} {x : Int32} (hx : x = Int32.ofInt (t k)) (h : J (Int64.ofInt q) (nI (tt_W t (k + 1))) (nI (k + 1))) : wX_wordOf_42 post J (Int64.ofInt z) (nI (tt_W t k)) (nI k) x f_length f_compiled f_isSound f_codeEnd f_poolEnd f_openCount f_accumulator f_place f_running f_printedCount a_kind a_first a_second a_third a_openKind a_openTop a_openCell a_zeroJump a_posJump a_leaveFirst a_leaveSecond a_memory a_printedWords := by
  have ht := hT.1 k
  refine xw_with hT hk hx ⟨by decide, ?_⟩
  refine nm_r (e' := Int64.ofInt q) ?_ (nm_r (nI_1 k) h)
  rw [hx, zi_l (by omega) (by omega), ← Int64.ofInt_sub, show (3 : Int64) = Int64.ofInt 3 from rfl, zl_div (by omega) (by omega) (by decide) (by decide), hq, zt_e rfl]
theorem xw_wl {z : Int} (hz : -4611686018427387904 ≤ z) (hz' : z ≤ 4611686018427387904) {post : Int32 → Prop} (h : post (tt_w z)) : ∀ d k : Nat, k + d = 9 → wX_wordOf_8 post f_length f_compiled f_isSound f_codeEnd f_poolEnd f_openCount f_accumulator f_place f_running f_printedCount a_kind a_first a_second a_third a_openKind a_openTop a_openCell a_zeroJump a_posJump a_leaveFirst a_leaveSecond a_memory a_printedWords (d + 1) (Int64.ofInt (tt_rr z k)) (nI (tt_W (tt_d z) k)) (nI k) := by
  intro d
  induction d with
  | zero =>
    intro k hk
    have : k = 9 := by omega
    subst this
    exact br_t (by decide) h
  | succ d ih =>
    intro k hk
    have hb := tt_rrb hz hz' k
    have hs := tt_rs z k
    have hd : tt_d z k = tt_tr (tt_rr z k) := if_pos (by omega)
    have hi := ih (k + 1) (by omega)
    refine pk_le 9 k (fun hh => absurd hh (by omega)) (fun _ => ⟨by decide, ?_⟩)
    generalize tt_rr z k = r at *
    have hr : (Int64.ofInt r - Int64.ofInt r / 3 * 3).toInt32 = Int32.ofInt (r - r.tdiv 3 * 3) := by
      rw [show (3 : Int64) = Int64.ofInt 3 from rfl, zl_div (by omega) (by omega) (by decide) (by decide), ← Int64.ofInt_mul, ← Int64.ofInt_sub, Int64.toInt32_ofInt]
    refine nm_r hr ?_
    have ht := zt_3 r
    have K : ∀ x : Int32, x = Int32.ofInt (tt_d z k) → wX_wordOf_42 post (wX_wordOf_8 post f_length f_compiled f_isSound f_codeEnd f_poolEnd f_openCount f_accumulator f_place f_running f_printedCount a_kind a_first a_second a_third a_openKind a_openTop a_openCell a_zeroJump a_posJump a_leaveFirst a_leaveSecond a_memory a_printedWords (d + 1)) (Int64.ofInt r) (nI (tt_W (tt_d z) k)) (nI k) x f_length f_compiled f_isSound f_codeEnd f_poolEnd f_openCount f_accumulator f_place f_running f_printedCount a_kind a_first a_second a_third a_openKind a_openTop a_openCell a_zeroJump a_posJump a_leaveFirst a_leaveSecond a_memory a_printedWords :=
      fun x hx => xw_42 (tt_dT z) (by omega) hb.1 hb.2 (q := tt_rr z (k + 1)) (by omega) hx hi
    have hm : -2 ≤ r - r.tdiv 3 * 3 ∧ r - r.tdiv 3 * 3 ≤ 2 := by rw [ht]; split <;> omega
    refine zk_eq (r - r.tdiv 3 * 3) 2 (fun h2 => ?_) (fun h2 => ?_) rfl
    · have : tt_d z k = -1 := by
        rw [hd]; unfold tt_tr; rw [ht] at h2
        split at h2 <;> omega
      exact br_f (by decide) (K _ (by rw [this]; rfl))
    · refine zk_eq (r - r.tdiv 3 * 3) (-2) (fun h3 => ?_) (fun h3 => ?_) rfl
      · have : tt_d z k = 1 := by
          rw [hd]; unfold tt_tr; rw [ht] at h3
          split at h3 <;> omega
        exact K _ (by rw [this]; rfl)
      · have : tt_d z k = r - r.tdiv 3 * 3 := by
          rw [hd]; unfold tt_tr; rw [ht] at h2 h3 ⊢
          split at h2 <;> split at h3 <;> split <;> omega
        exact K _ (by rw [this])
theorem xw_wordOf {z : Int} (hz : -4611686018427387904 ≤ z) (hz' : z ≤ 4611686018427387904) {post : Int32 → Prop} {x : Int64} (hx : x = Int64.ofInt z) (h : post (tt_w z)) : wpX_wordOf post (f_length, f_compiled, f_isSound, f_codeEnd, f_poolEnd, f_openCount, f_accumulator, f_place, f_running, f_printedCount, a_kind, a_first, a_second, a_third, a_openKind, a_openTop, a_openCell, a_zeroJump, a_posJump, a_leaveFirst, a_leaveSecond, a_memory, a_printedWords) x := by
  subst hx
  exact ⟨10, xw_wl hz hz' h 9 0 rfl⟩
theorem xw_vl {t : Nat → Int} (hT : tt_T t) {post : Int32 → Prop} (h : post (Int32.ofInt (tt_V t 9))) : ∀ j : Nat, j ≤ 9 → wX_valueOf_5 post (nI (tt_W t 9)) f_length f_compiled f_isSound f_codeEnd f_poolEnd f_openCount f_accumulator f_place f_running f_printedCount a_kind a_first a_second a_third a_openKind a_openTop a_openCell a_zeroJump a_posJump a_leaveFirst a_leaveSecond a_memory a_printedWords (j + 1) (Int32.ofInt (tt_V (fun i => t (j + i)) (9 - j))) (nI j + (-1)) := by
  intro j
  induction j with
  | zero =>
    intro _
    refine br_t (by decide) ?_
    have : (fun i => t (0 + i)) = t := by funext i; rw [Nat.zero_add]
    rw [this]; exact h
  | succ j ih =>
    intro hj
    have hi := ih (by omega)
    rw [pk_m1]
    refine br_f (nI_pos (by omega)) (xw_trit hT (by omega) (nm_r ?_ (nm_e hi)))
    have e4 : (fun i => t (j + (1 + i))) = (fun i => t (j + 1 + i)) := by funext i; congr 1; omega
    have e2 : tt_V (fun i => t (j + i)) (9 - j) = 3 * tt_V (fun i => t (j + 1 + i)) (9 - (j + 1)) + t j := by
      have e3 : tt_V (fun i => t (j + i)) 1 = t j := by
        show 0 + t (j + 0) * 3 ^ 0 = t j
        rw [Nat.add_zero, Int.pow_zero]; omega
      rw [show 9 - j = 1 + (9 - (j + 1)) from by omega, tt_Vadd, e3, e4, Int.pow_succ, Int.pow_zero]; omega
    rw [e2, Int32.ofInt_add, Int32.ofInt_mul]; rfl
theorem xw_valT {t : Nat → Int} (hT : tt_T t) {post : Int32 → Prop} (h : post (Int32.ofInt (tt_V t 9))) : wpX_valueOf post (f_length, f_compiled, f_isSound, f_codeEnd, f_poolEnd, f_openCount, f_accumulator, f_place, f_running, f_printedCount, a_kind, a_first, a_second, a_third, a_openKind, a_openTop, a_openCell, a_zeroJump, a_posJump, a_leaveFirst, a_leaveSecond, a_memory, a_printedWords) (nI (tt_W t 9)) :=
  ⟨10, xw_vl hT h 9 (Nat.le_refl 9)⟩
theorem xw_valueOf {z : Int} {post : Int32 → Prop} (h : post (Int32.ofInt (tt_b z))) : wpX_valueOf post (f_length, f_compiled, f_isSound, f_codeEnd, f_poolEnd, f_openCount, f_accumulator, f_place, f_running, f_printedCount, a_kind, a_first, a_second, a_third, a_openKind, a_openTop, a_openCell, a_zeroJump, a_posJump, a_leaveFirst, a_leaveSecond, a_memory, a_printedWords) (tt_w z) :=
  xw_valT (tt_dT z) (by rw [tt_dV9]; exact h)
theorem xw_tritOf (z : Int) {i : Nat} (hi : i < 9) {post : Int32 → Prop} (h : post (Int32.ofInt (tt_d z i))) : wpX_tritOf post (f_length, f_compiled, f_isSound, f_codeEnd, f_poolEnd, f_openCount, f_accumulator, f_place, f_running, f_printedCount, a_kind, a_first, a_second, a_third, a_openKind, a_openTop, a_openCell, a_zeroJump, a_posJump, a_leaveFirst, a_leaveSecond, a_memory, a_printedWords) (tt_w z) (nI i) :=
  xw_trit (tt_dT z) hi h
end
end
section
/-! ===== X's sum, product, .. ===== -/
def tt_c (a b : Nat → Int) : Nat → Int
  | 0 => 0
  | k + 1 => if a k + b k + tt_c a b k ≤ 1 then (if -1 ≤ a k + b k + tt_c a b k then 0 else -1) else 1
def tt_s (a b : Nat → Int) : Nat → Int := fun i => if i < 9 then a i + b i + tt_c a b i - 3 * tt_c a b (i + 1) else 0
theorem tt_cs (a b : Nat → Int) (k : Nat) : tt_c a b (k + 1) = if a k + b k + tt_c a b k ≤ 1 then (if -1 ≤ a k + b k + tt_c a b k then 0 else -1) else 1 := rfl
theorem tt_c3 (a b : Nat → Int) (k : Nat) : tt_c a b k = -1 ∨ tt_c a b k = 0 ∨ tt_c a b k = 1 := by
  cases k with
  | zero => exact Or.inr (Or.inl rfl)
  | succ k =>
    rw [tt_cs]
    split
    · split
      · exact Or.inr (Or.inl rfl)
      · exact Or.inl rfl
    · exact Or.inr (Or.inr rfl)
theorem tt_sT {a b : Nat → Int} (ha : tt_T a) (hb : tt_T b) : tt_T (tt_s a b) := by
  refine ⟨fun i => ?_, fun i hi => if_neg (by omega)⟩
  have e : tt_s a b i = if i < 9 then a i + b i + tt_c a b i - 3 * tt_c a b (i + 1) else 0 := rfl
  rw [e]
  split
  · have h1 := ha.1 i
    have h2 := hb.1 i
    have h3 := tt_c3 a b i
    rw [tt_cs]
    generalize tt_c a b i = c at *
    generalize a i = x at *
    generalize b i = y at *
    split
    · split <;> omega
    · omega
  · exact Or.inr (Or.inl rfl)
theorem tt_sV (a b : Nat → Int) : ∀ k, k ≤ 9 → tt_V (tt_s a b) k + tt_c a b k * 3 ^ k = tt_V a k + tt_V b k := by
  intro k
  induction k with
  | zero => intro _; rfl
  | succ k ih =>
    intro hk
    have e := ih (by omega)
    have es : tt_s a b k = a k + b k + tt_c a b k - 3 * tt_c a b (k + 1) := if_pos (by omega)
    show tt_V (tt_s a b) k + tt_s a b k * 3 ^ k + tt_c a b (k + 1) * 3 ^ (k + 1) = tt_V a k + a k * 3 ^ k + (tt_V b k + b k * 3 ^ k)
    rw [es, Int.pow_succ]
    generalize (3 : Int) ^ k = p at *
    generalize tt_c a b (k + 1) = c'
    have e1 : 3 * c' * p = 3 * (c' * p) := Int.mul_assoc ..
    have e2 : c' * (p * 3) = c' * p * 3 := (Int.mul_assoc ..).symm
    rw [Int.sub_mul, Int.add_mul, Int.add_mul, e1, e2]
    omega
section
variable {f_length f_compiled f_isSound f_codeEnd f_poolEnd f_openCount f_accumulator f_place f_running f_printedCount : Int32} {a_kind a_first a_second a_third a_openKind a_openTop a_openCell a_zeroJump a_posJump a_leaveFirst a_leaveSecond a_memory a_printedWords : Nat → Int32}
theorem xw_sl {a b : Nat → Int} (ha : tt_T a) (hb : tt_T b) {post : Int32 → Prop} (h : post (nI (tt_W (tt_s a b) 9))) : ∀ d k : Nat, k + d = 9 → wX_sum_8 post (nI (tt_W a 9)) (nI (tt_W b 9)) f_length f_compiled f_isSound f_codeEnd f_poolEnd f_openCount f_accumulator f_place f_running f_printedCount a_kind a_first a_second a_third a_openKind a_openTop a_openCell a_zeroJump a_posJump a_leaveFirst a_leaveSecond a_memory a_printedWords (d + 1) (nI (tt_W (tt_s a b) k)) (Int32.ofInt (tt_c a b k)) (nI k) := by
  intro d
  induction d with
  | zero =>
    intro k hk
    have : k = 9 := by omega
    subst this
    exact br_t (by decide) h
  | succ d ih =>
    intro k hk
    have hi := ih (k + 1) (by omega)
    have h1 := ha.1 k
    have h2 := hb.1 k
    have h3 := tt_c3 a b k
    have hs : tt_s a b k = a k + b k + tt_c a b k - 3 * tt_c a b (k + 1) := if_pos (by omega)
    have hc := tt_cs a b k
    refine pk_le 9 k (fun hh => absurd hh (by omega)) (fun _ => xw_trit ha (by omega) (xw_trit hb (by omega) (nm_r (e' := Int32.ofInt (a k + b k + tt_c a b k)) (by rw [Int32.ofInt_add, Int32.ofInt_add]) ?_)))
    have K : ∀ c : Int, tt_c a b (k + 1) = c → ∀ y : Int32, y = Int32.ofInt c → wX_sum_56 post (wX_sum_8 post (nI (tt_W a 9)) (nI (tt_W b 9)) f_length f_compiled f_isSound f_codeEnd f_poolEnd f_openCount f_accumulator f_place f_running f_printedCount a_kind a_first a_second a_third a_openKind a_openTop a_openCell a_zeroJump a_posJump a_leaveFirst a_leaveSecond a_memory a_printedWords (d + 1)) (nI (tt_W a 9)) (nI (tt_W b 9)) (nI (tt_W (tt_s a b) k)) (nI k) (Int32.ofInt (a k + b k + tt_c a b k)) y f_length f_compiled f_isSound f_codeEnd f_poolEnd f_openCount f_accumulator f_place f_running f_printedCount a_kind a_first a_second a_third a_openKind a_openTop a_openCell a_zeroJump a_posJump a_leaveFirst a_leaveSecond a_memory a_printedWords := by
      intro c ec y hy
      rw [ec] at hi hs
      subst hy
      refine xw_with (tt_sT ha hb) (by omega) ?_ (nm_r (nI_1 k) hi)
      rw [hs, Int32.ofInt_sub, Int32.ofInt_mul]; rfl
    refine zk_le (a k + b k + tt_c a b k) 1 (fun q => zk_le (-1) (a k + b k + tt_c a b k) (fun q2 => ?_) (fun q2 => ?_) rfl rfl) (fun q => ?_) rfl
    · exact K 0 (by rw [hc, if_pos q, if_pos q2]) _ rfl
    · exact K (-1) (by rw [hc, if_pos q, if_neg q2]) _ rfl
    · exact K 1 (by rw [hc, if_neg q]) _ rfl
theorem xw_sum {x y : Int} {post : Int32 → Prop} (h : post (tt_w (x + y))) : wpX_sum post (f_length, f_compiled, f_isSound, f_codeEnd, f_poolEnd, f_openCount, f_accumulator, f_place, f_running, f_printedCount, a_kind, a_first, a_second, a_third, a_openKind, a_openTop, a_openCell, a_zeroJump, a_posJump, a_leaveFirst, a_leaveSecond, a_memory, a_printedWords) (tt_w x) (tt_w y) := by
  have hs := tt_sT (tt_dT x) (tt_dT y)
  refine ⟨10, xw_sl (tt_dT x) (tt_dT y) ?_ 9 0 rfl⟩
  have e := tt_sV (tt_d x) (tt_d y) 9 (Nat.le_refl 9)
  rw [tt_dV9, tt_dV9, show (3 : Int) ^ 9 = 19683 from by decide] at e
  rw [tt_wt hs (z := x + y)]
  · exact h
  · unfold tt_b at e; omega
theorem tt_orN {p m : Nat} (hm : m < 512) : p * 512 ||| m = m + 512 * p := by
  have := Nat.two_pow_add_eq_or_of_lt (i := 9) hm p
  rw [Nat.mul_comm p 512]
  rw [show (2 : Nat) ^ 9 = 512 from rfl] at this
  omega
theorem tt_orN' {p m : Nat} (hm : m < 512) : m ||| p * 512 = m + 512 * p := by rw [Nat.or_comm, tt_orN hm]
theorem tt_nn (t : Nat → Int) : tt_n (tt_n t) = t := by funext i; show - - t i = t i; omega
theorem tt_Vn (t : Nat → Int) : ∀ k, tt_V (tt_n t) k = - tt_V t k := by
  intro k
  induction k with
  | zero => rfl
  | succ k ih =>
    show tt_V (tt_n t) k + -t k * 3 ^ k = -(tt_V t k + t k * 3 ^ k)
    rw [ih, Int.neg_mul]; omega
theorem xw_negated {x : Int} {post : Int32 → Prop} (h : post (tt_w (-x))) : wpX_negated post (f_length, f_compiled, f_isSound, f_codeEnd, f_poolEnd, f_openCount, f_accumulator, f_place, f_running, f_printedCount, a_kind, a_first, a_second, a_third, a_openKind, a_openTop, a_openCell, a_zeroJump, a_posJump, a_leaveFirst, a_leaveSecond, a_memory, a_printedWords) (tt_w x) := by
  show post _
  have hw := tt_Wlt (tt_d x)
  have hp : tt_P (tt_d x) 9 < 512 := tt_Plt _ 9
  have hm : tt_P (tt_n (tt_d x)) 9 < 512 := tt_Plt _ 9
  have e : nI (tt_W (tt_n (tt_d x)) 9) = tt_w (-x) := by
    refine tt_wt (tt_nT (tt_dT x)) ?_
    rw [tt_Vn, tt_dV9]; unfold tt_b; omega
  rw [← e] at h
  unfold tt_w
  rw [pk_andN (by omega) 9 (by decide), pk_shlN _ 9 (by decide) (by omega), pk_shrN (by omega) _ 9 (by decide), nx_or]
  unfold tt_W at *
  rw [tt_nn] at h
  rw [show (tt_P (tt_d x) 9 + 512 * tt_P (tt_n (tt_d x)) 9) % 2 ^ 9 = tt_P (tt_d x) 9 from by omega, show (tt_P (tt_d x) 9 + 512 * tt_P (tt_n (tt_d x)) 9) / 2 ^ 9 = tt_P (tt_n (tt_d x)) 9 from by omega, show (2 : Nat) ^ 9 = 512 from rfl, tt_orN hm]
  exact h
/-! the shift up -/
def tt_up (t : Nat → Int) : Nat → Int := fun i => if i = 0 then 0 else if i < 9 then t (i - 1) else 0
theorem tt_upT {t : Nat → Int} (h : tt_T t) : tt_T (tt_up t) := by
  refine ⟨fun i => ?_, fun i hi => ?_⟩
  · unfold tt_up
    split
    · omega
    · split
      · exact h.1 _
      · omega
  · unfold tt_up
    rw [if_neg (by omega), if_neg (by omega)]
theorem tt_upP (t : Nat → Int) : ∀ k, k ≤ 8 → tt_P (tt_up t) (k + 1) = 2 * tt_P t k := by
  intro k
  induction k with
  | zero => intro _; rfl
  | succ k ih =>
    intro hk
    have e : tt_up t (k + 1) = t k := by unfold tt_up; rw [if_neg (by omega), if_pos (by omega)]; rfl
    show tt_P (tt_up t) (k + 1) + (if tt_up t (k + 1) = 1 then 2 ^ (k + 1) else 0) = 2 * (tt_P t k + (if t k = 1 then 2 ^ k else 0))
    rw [ih (by omega), e, Nat.pow_succ]
    split <;> omega
theorem tt_upV (t : Nat → Int) : ∀ k, k ≤ 8 → tt_V (tt_up t) (k + 1) = 3 * tt_V t k := by
  intro k
  induction k with
  | zero => intro _; rfl
  | succ k ih =>
    intro hk
    have e : tt_up t (k + 1) = t k := by unfold tt_up; rw [if_neg (by omega), if_pos (by omega)]; rfl
    show tt_V (tt_up t) (k + 1) + tt_up t (k + 1) * 3 ^ (k + 1) = 3 * (tt_V t k + t k * 3 ^ k)
    rw [ih (by omega), e, Int.pow_succ, ← Int.mul_assoc]; omega
theorem tt_upn (t : Nat → Int) : tt_n (tt_up t) = tt_up (tt_n t) := by
  funext i
  show - tt_up t i = tt_up (tt_n t) i
  unfold tt_up tt_n
  split
  · rfl
  · split <;> rfl
theorem tt_P8 (t : Nat → Int) : tt_P t 9 % 256 = tt_P t 8 := by
  have := tt_Plt t 8
  show (tt_P t 8 + (if t 8 = 1 then 2 ^ 8 else 0)) % 256 = tt_P t 8
  split <;> omega
theorem xw_up {x : Int} {post : Int32 → Prop} (h : post (tt_w (3 * x))) : wpX_shiftedUp post (f_length, f_compiled, f_isSound, f_codeEnd, f_poolEnd, f_openCount, f_accumulator, f_place, f_running, f_printedCount, a_kind, a_first, a_second, a_third, a_openKind, a_openTop, a_openCell, a_zeroJump, a_posJump, a_leaveFirst, a_leaveSecond, a_memory, a_printedWords) (tt_w x) := by
  show post _
  have hw := tt_Wlt (tt_d x)
  have hp : tt_P (tt_d x) 9 < 512 := tt_Plt _ 9
  have hm : tt_P (tt_n (tt_d x)) 9 < 512 := tt_Plt _ 9
  have p8 := tt_P8 (tt_d x)
  have m8 := tt_P8 (tt_n (tt_d x))
  have e : nI (tt_W (tt_up (tt_d x)) 9) = tt_w (3 * x) := by
    refine tt_wt (tt_upT (tt_dT x)) ?_
    rw [tt_upV _ 8 (by omega)]
    have e9 : tt_V (tt_d x) 9 = tt_V (tt_d x) 8 + tt_d x 8 * 3 ^ 8 := rfl
    rw [tt_dV9, show (3 : Int) ^ 8 = 6561 from by decide] at e9
    unfold tt_b at e9
    omega
  rw [← e] at h
  unfold tt_w
  have l1 : ((tt_W (tt_d x) 9) % 2 ^ 8) * 2 ^ 1 < 512 := by omega
  rw [pk_andN (by omega) 8 (by decide), pk_shlN _ 1 (by decide) (by omega), pk_shrN (by omega) _ 9 (by decide), pk_andN (by omega) 8 (by decide), pk_shlN _ 10 (by decide) (by omega), nx_or]
  unfold tt_W at *
  rw [tt_upn, tt_upP _ 8 (by omega), tt_upP _ 8 (by omega)] at h
  rw [show (tt_P (tt_d x) 9 + 512 * tt_P (tt_n (tt_d x)) 9) % 2 ^ 8 * 2 ^ 1 = 2 * tt_P (tt_d x) 8 from by omega, show (tt_P (tt_d x) 9 + 512 * tt_P (tt_n (tt_d x)) 9) / 2 ^ 9 % 2 ^ 8 * 2 ^ 10 = (2 * tt_P (tt_n (tt_d x)) 8) * 512 from by omega, tt_orN' (by omega)]
  exact h
/-! the product -/
theorem xw_pl (x y : Int) {post : Int32 → Prop} (h : post (tt_w (x * tt_V (tt_d y) 9))) : ∀ d k : Nat, k + d = 9 → wX_product_8 post (tt_w y) f_length f_compiled f_isSound f_codeEnd f_poolEnd f_openCount f_accumulator f_place f_running f_printedCount a_kind a_first a_second a_third a_openKind a_openTop a_openCell a_zeroJump a_posJump a_leaveFirst a_leaveSecond a_memory a_printedWords (d + 1) (tt_w (x * tt_V (tt_d y) k)) (tt_w (x * 3 ^ k)) (nI k) := by
  intro d
  induction d with
  | zero =>
    intro k hk
    have : k = 9 := by omega
    subst this
    exact br_t (by decide) h
  | succ d ih =>
    intro k hk
    have hi := ih (k + 1) (by omega)
    have ht := (tt_dT y).1 k
    have ev : x * tt_V (tt_d y) (k + 1) = x * tt_V (tt_d y) k + x * (tt_d y k * 3 ^ k) := Int.mul_add ..
    have e3 : 3 * (x * 3 ^ k) = x * 3 ^ (k + 1) := by rw [Int.pow_succ, ← Int.mul_assoc x]; omega
    refine pk_le 9 k (fun hh => absurd hh (by omega)) (fun _ => xw_tritOf y (by omega) ?_)
    have K : wX_product_60 post (wX_product_8 post (tt_w y) f_length f_compiled f_isSound f_codeEnd f_poolEnd f_openCount f_accumulator f_place f_running f_printedCount a_kind a_first a_second a_third a_openKind a_openTop a_openCell a_zeroJump a_posJump a_leaveFirst a_leaveSecond a_memory a_printedWords (d + 1)) (tt_w y) (tt_w (x * tt_V (tt_d y) (k + 1))) (tt_w (x * 3 ^ k)) (nI k) f_length f_compiled f_isSound f_codeEnd f_poolEnd f_openCount f_accumulator f_place f_running f_printedCount a_kind a_first a_second a_third a_openKind a_openTop a_openCell a_zeroJump a_posJump a_leaveFirst a_leaveSecond a_memory a_printedWords :=
      xw_up (nm_r (nI_1 k) (by rw [e3]; exact hi))
    rw [ev] at K
    rcases ht with e | e | e
    · rw [e, show (-1 : Int) * 3 ^ k = -(3 ^ k) from by omega, Int.mul_neg] at K
      rw [e]
      exact br_f (by decide) (xw_negated (br_t (by decide) (xw_sum K)))
    · rw [e, Int.zero_mul, Int.mul_zero, Int.add_zero] at K
      rw [e]
      exact br_f (by decide) (xw_negated (br_f (by decide) K))
    · rw [e, Int.one_mul] at K
      rw [e]
      exact br_t (by decide) (xw_sum (xw_negated (br_f (by decide) K)))
theorem xw_product {x y : Int} {post : Int32 → Prop} (h : post (tt_w (x * y))) : wpX_product post (f_length, f_compiled, f_isSound, f_codeEnd, f_poolEnd, f_openCount, f_accumulator, f_place, f_running, f_printedCount, a_kind, a_first, a_second, a_third, a_openKind, a_openTop, a_openCell, a_zeroJump, a_posJump, a_leaveFirst, a_leaveSecond, a_memory, a_printedWords) (tt_w x) (tt_w y) := by
  have e : tt_w (x * tt_V (tt_d y) 9) = tt_w (x * y) := by
    rw [tt_dV9]
    refine tt_wc ?_
    have : tt_b y = y - 19683 * ((y + 9841) / 19683) := by unfold tt_b; omega
    rw [this, Int.mul_sub]
    rw [show x * y - x * (19683 * ((y + 9841) / 19683)) - x * y = 19683 * (-(x * ((y + 9841) / 19683))) from by rw [Int.mul_left_comm]; omega]
    exact Int.mul_emod_right ..
  rw [← e] at h
  refine ⟨10, ?_⟩
  have e0 : (0 : Int32) = tt_w (x * tt_V (tt_d y) 0) := by
    rw [show tt_V (tt_d y) 0 = 0 from rfl, Int.mul_zero]; decide +kernel
  have e1 : tt_w x = tt_w (x * 3 ^ 0) := by rw [Int.pow_zero, Int.mul_one]
  show wX_product_8 post (tt_w y) f_length f_compiled f_isSound f_codeEnd f_poolEnd f_openCount f_accumulator f_place f_running f_printedCount a_kind a_first a_second a_third a_openKind a_openTop a_openCell a_zeroJump a_posJump a_leaveFirst a_leaveSecond a_memory a_printedWords (9 + 1) 0 (tt_w x) (nI 0)
  rw [e1, e0]
  exact xw_pl x y h 9 0 rfl
end
end
section
/-! ===== X's shift down, lesser, sign; Y's wrap, trits, low ===== -/
def tt_dn (t : Nat → Int) : Nat → Int := fun i => t (1 + i)
theorem tt_dnT {t : Nat → Int} (h : tt_T t) : tt_T (tt_dn t) := ⟨fun i => h.1 _, fun i hi => h.2 _ (by omega)⟩
theorem tt_dnP {t : Nat → Int} (h : tt_T t) : tt_P (tt_dn t) 9 = tt_P t 9 / 2 := by
  have e : tt_P t (1 + 8) = tt_P t 1 + 2 ^ 1 * tt_P (tt_dn t) 8 := tt_Padd t 1 8
  have e1 : tt_P t 1 < 2 ^ 1 := tt_Plt t 1
  have e2 : tt_P (tt_dn t) 9 = tt_P (tt_dn t) 8 := by
    show tt_P (tt_dn t) 8 + (if t (1 + 8) = 1 then 2 ^ 8 else 0) = _
    rw [h.2 (1 + 8) (by omega), if_neg (by decide)]; rfl
  rw [e2]
  have : tt_P t 9 = tt_P t 1 + 2 ^ 1 * tt_P (tt_dn t) 8 := e
  omega
theorem tt_dnV {t : Nat → Int} (h : tt_T t) : tt_V t 9 = t 0 + 3 * tt_V (tt_dn t) 9 := by
  have e : tt_V t (1 + 8) = tt_V t 1 + 3 ^ 1 * tt_V (tt_dn t) 8 := tt_Vadd t 1 8
  have e1 : tt_V t 1 = t 0 := by
    show 0 + t 0 * 3 ^ 0 = t 0
    rw [Int.pow_zero]; omega
  have e2 : tt_V (tt_dn t) 9 = tt_V (tt_dn t) 8 := by
    show tt_V (tt_dn t) 8 + t (1 + 8) * 3 ^ 8 = _
    rw [h.2 (1 + 8) (by omega)]; omega
  have e3 : tt_V t 9 = tt_V t 1 + 3 ^ 1 * tt_V (tt_dn t) 8 := e
  rw [e3, e1, e2, Int.pow_succ, Int.pow_zero]; omega
def tt_mn (a b : Nat → Int) : Nat → Int := fun i => if b i ≤ a i then b i else a i
theorem tt_mnT {a b : Nat → Int} (ha : tt_T a) (hb : tt_T b) : tt_T (tt_mn a b) := by
  refine ⟨fun i => ?_, fun i hi => ?_⟩
  · have e : tt_mn a b i = if b i ≤ a i then b i else a i := rfl
    rw [e]
    split
    · exact hb.1 i
    · exact ha.1 i
  · show (if b i ≤ a i then b i else a i) = 0
    rw [ha.2 i hi, hb.2 i hi]; rfl
theorem tt_Wtb {t : Nat → Int} (i : Nat) : (tt_W t 9).testBit i = if i < 9 then decide (t i = 1) else if i < 18 then decide (t (i - 9) = -1) else false := by
  rw [Nat.testBit_eq_decide_div_mod_eq]
  split
  · rename_i h
    rw [tt_Wlo t h]
    by_cases q : t i = 1
    · rw [if_pos q]; simp [q]
    · rw [if_neg q]; simp [q]
  · rename_i h
    split
    · rename_i h'
      have e := tt_Whi t (i := i - 9) (by omega)
      rw [show 9 + (i - 9) = i from by omega] at e
      rw [e]
      by_cases q : t (i - 9) = -1
      · rw [if_pos q]; simp [q]
      · rw [if_neg q]; simp [q]
    · rename_i h'
      have hw := tt_Wlt t
      have : tt_W t 9 < 2 ^ i := Nat.lt_of_lt_of_le (show tt_W t 9 < 2 ^ 18 from hw) (Nat.pow_le_pow_right (by decide) (by omega))
      rw [Nat.div_eq_of_lt this]; rfl
theorem tt_mnW {a b : Nat → Int} (ha : tt_T a) (hb : tt_T b) : ((tt_W a 9 &&& tt_W b 9) % 2 ^ 9 ||| (tt_W a 9 ||| tt_W b 9) / 2 ^ 9 * 2 ^ 9) = tt_W (tt_mn a b) 9 := by
  refine Nat.eq_of_testBit_eq (fun i => ?_)
  rw [Nat.testBit_or, Nat.testBit_mod_two_pow, Nat.testBit_and, Nat.testBit_mul_two_pow, Nat.testBit_div_two_pow, Nat.testBit_or]
  rcases Nat.lt_or_ge i 9 with h | h
  · have h1 := ha.1 i
    have h2 := hb.1 i
    have e : tt_mn a b i = if b i ≤ a i then b i else a i := rfl
    have ta : (tt_W a 9).testBit i = decide (a i = 1) := by rw [tt_Wtb, if_pos h]
    have tb : (tt_W b 9).testBit i = decide (b i = 1) := by rw [tt_Wtb, if_pos h]
    have tm : (tt_W (tt_mn a b) 9).testBit i = decide (tt_mn a b i = 1) := by rw [tt_Wtb, if_pos h]
    rw [ta, tb, tm, e, decide_eq_true h, decide_eq_false (by omega : ¬ 9 ≤ i)]
    rcases h1 with e1 | e1 | e1 <;> rcases h2 with e2 | e2 | e2 <;> rw [e1, e2] <;> simp
  · have h1 := ha.1 (i - 9)
    have h2 := hb.1 (i - 9)
    have e : tt_mn a b (i - 9) = if b (i - 9) ≤ a (i - 9) then b (i - 9) else a (i - 9) := rfl
    rw [show i - 9 + 9 = i from by omega, decide_eq_false (by omega : ¬ i < 9), decide_eq_true (by omega : 9 ≤ i)]
    by_cases h8 : i < 18
    · have ta : (tt_W a 9).testBit i = decide (a (i - 9) = -1) := by rw [tt_Wtb, if_neg (by omega), if_pos h8]
      have tb : (tt_W b 9).testBit i = decide (b (i - 9) = -1) := by rw [tt_Wtb, if_neg (by omega), if_pos h8]
      have tm : (tt_W (tt_mn a b) 9).testBit i = decide (tt_mn a b (i - 9) = -1) := by rw [tt_Wtb, if_neg (by omega), if_pos h8]
      rw [ta, tb, tm, e]
      rcases h1 with e1 | e1 | e1 <;> rcases h2 with e2 | e2 | e2 <;> rw [e1, e2] <;> simp
    · have ta : (tt_W a 9).testBit i = false := by rw [tt_Wtb, if_neg (by omega), if_neg h8]
      have tb : (tt_W b 9).testBit i = false := by rw [tt_Wtb, if_neg (by omega), if_neg h8]
      have tm : (tt_W (tt_mn a b) 9).testBit i = false := by rw [tt_Wtb, if_neg (by omega), if_neg h8]
      rw [ta, tb, tm]; rfl
section
variable {f_length f_compiled f_isSound f_codeEnd f_poolEnd f_openCount f_accumulator f_place f_running f_printedCount : Int32} {a_kind a_first a_second a_third a_openKind a_openTop a_openCell a_zeroJump a_posJump a_leaveFirst a_leaveSecond a_memory a_printedWords : Nat → Int32}
theorem xw_down {x : Int} (hx : -9841 ≤ x) (hx' : x ≤ 9841) {post : Int32 → Prop} (h : post (tt_w ((x - tt_d x 0) / 3))) : wpX_shiftedDown post (f_length, f_compiled, f_isSound, f_codeEnd, f_poolEnd, f_openCount, f_accumulator, f_place, f_running, f_printedCount, a_kind, a_first, a_second, a_third, a_openKind, a_openTop, a_openCell, a_zeroJump, a_posJump, a_leaveFirst, a_leaveSecond, a_memory, a_printedWords) (tt_w x) := by
  show post _
  have hw := tt_Wlt (tt_d x)
  have hp : tt_P (tt_d x) 9 < 512 := tt_Plt _ 9
  have hm : tt_P (tt_n (tt_d x)) 9 < 512 := tt_Plt _ 9
  have ev := tt_dnV (tt_dT x)
  rw [tt_dV9, tt_bi hx hx'] at ev
  have e : nI (tt_W (tt_dn (tt_d x)) 9) = tt_w ((x - tt_d x 0) / 3) := by
    refine tt_wt (tt_dnT (tt_dT x)) ?_
    omega
  rw [← e] at h
  unfold tt_w
  rw [pk_andN (by omega) 9 (by decide), pk_shrN (by omega) _ 1 (by decide), pk_shrN (by omega) _ 10 (by decide), pk_shlN _ 9 (by decide) (by omega), nx_or]
  unfold tt_W at *
  have en : tt_n (tt_dn (tt_d x)) = tt_dn (tt_n (tt_d x)) := rfl
  rw [en, tt_dnP (tt_dT x), tt_dnP (tt_nT (tt_dT x))] at h
  rw [show (tt_P (tt_d x) 9 + 512 * tt_P (tt_n (tt_d x)) 9) % 2 ^ 9 / 2 ^ 1 = tt_P (tt_d x) 9 / 2 from by omega, show (tt_P (tt_d x) 9 + 512 * tt_P (tt_n (tt_d x)) 9) / 2 ^ 10 * 2 ^ 9 = tt_P (tt_n (tt_d x)) 9 / 2 * 512 from by omega, tt_orN' (by omega)]
  exact h
theorem xw_lesser {x y : Int} {post : Int32 → Prop} (h : post (tt_w (tt_V (tt_mn (tt_d x) (tt_d y)) 9))) : wpX_lesser post (f_length, f_compiled, f_isSound, f_codeEnd, f_poolEnd, f_openCount, f_accumulator, f_place, f_running, f_printedCount, a_kind, a_first, a_second, a_third, a_openKind, a_openTop, a_openCell, a_zeroJump, a_posJump, a_leaveFirst, a_leaveSecond, a_memory, a_printedWords) (tt_w x) (tt_w y) := by
  show post _
  have hx := tt_Wlt (tt_d x)
  have hy := tt_Wlt (tt_d y)
  rw [tt_wV (tt_mnT (tt_dT x) (tt_dT y)), ← tt_mnW (tt_dT x) (tt_dT y)] at h
  unfold tt_w
  have la : tt_W (tt_d x) 9 &&& tt_W (tt_d y) 9 < 2 ^ 18 := Nat.lt_of_le_of_lt Nat.and_le_left hx
  have lo : tt_W (tt_d x) 9 ||| tt_W (tt_d y) 9 < 2 ^ 18 := Nat.or_lt_two_pow hx hy
  rw [nx_and, nx_or, pk_andN (by omega) 9 (by decide), pk_shrN (by omega) _ 9 (by decide), pk_shlN _ 9 (by decide) (by omega), nx_or]
  exact h
theorem xw_sign {x : Int} (hx : -9841 ≤ x) (hx' : x ≤ 9841) {post : Int32 → Prop} (h0 : x = 0 → post 0) (h1 : 0 < x → post 1) (h2 : x < 0 → post (-1)) : wpX_signOf post (f_length, f_compiled, f_isSound, f_codeEnd, f_poolEnd, f_openCount, f_accumulator, f_place, f_running, f_printedCount, a_kind, a_first, a_second, a_third, a_openKind, a_openTop, a_openCell, a_zeroJump, a_posJump, a_leaveFirst, a_leaveSecond, a_memory, a_printedWords) (tt_w x) := by
  have hw := tt_Wlt (tt_d x)
  have hp : tt_P (tt_d x) 9 < 512 := tt_Plt _ 9
  have hm : tt_P (tt_n (tt_d x)) 9 < 512 := tt_Plt _ 9
  have hs := tt_sg (tt_dT x) 9
  rw [tt_dV9, tt_bi hx hx'] at hs
  refine nm_r (e' := nI (tt_P (tt_d x) 9)) ?_ (nm_r (e' := nI (tt_P (tt_n (tt_d x)) 9)) ?_ ?_)
  · unfold tt_w
    rw [pk_andN (by omega) 9 (by decide)]
    unfold tt_W
    congr 1; omega
  · unfold tt_w
    rw [pk_shrN (by omega) _ 9 (by decide)]
    unfold tt_W
    congr 1; omega
  · refine pk_le (tt_P (tt_d x) 9) (tt_P (tt_n (tt_d x)) 9) (fun q => pk_le (tt_P (tt_n (tt_d x)) 9) (tt_P (tt_d x) 9) (fun q2 => h0 (by omega)) (fun q2 => h2 (by omega))) (fun q => h1 (by omega))
/-! the two parts of a machine word -/
def tt_hd (t : Nat → Int) : Nat → Int := fun i => t (6 + i)
def tt_lw (t : Nat → Int) : Nat → Int := fun i => if i < 6 then t i else 0
theorem tt_hdT {t : Nat → Int} (h : tt_T t) : tt_T (tt_hd t) := ⟨fun i => h.1 _, fun i hi => h.2 _ (by omega)⟩
theorem tt_lwT {t : Nat → Int} (h : tt_T t) : tt_T (tt_lw t) := by
  refine ⟨fun i => ?_, fun i hi => if_neg (by omega)⟩
  unfold tt_lw
  split
  · exact h.1 i
  · omega
theorem tt_P0 {t : Nat → Int} {k : Nat} : ∀ {b : Nat}, (∀ i, k ≤ i → i < k + b → t i = 0) → tt_P t (k + b) = tt_P t k := by
  intro b
  induction b with
  | zero => intro _; rfl
  | succ b ih =>
    intro h
    show tt_P t (k + b) + (if t (k + b) = 1 then 2 ^ (k + b) else 0) = _
    rw [ih (fun i h1 h2 => h i h1 (by omega)), h (k + b) (by omega) (by omega), if_neg (by decide)]; rfl
theorem tt_V0 {t : Nat → Int} {k : Nat} : ∀ {b : Nat}, (∀ i, k ≤ i → i < k + b → t i = 0) → tt_V t (k + b) = tt_V t k := by
  intro b
  induction b with
  | zero => intro _; rfl
  | succ b ih =>
    intro h
    show tt_V t (k + b) + t (k + b) * 3 ^ (k + b) = _
    rw [ih (fun i h1 h2 => h i h1 (by omega)), h (k + b) (by omega) (by omega), Int.zero_mul, Int.add_zero]
theorem tt_Vc {s t : Nat → Int} : ∀ {k : Nat}, (∀ i, i < k → s i = t i) → tt_V s k = tt_V t k := by
  intro k
  induction k with
  | zero => intro _; rfl
  | succ k ih =>
    intro h
    show tt_V s k + s k * 3 ^ k = tt_V t k + t k * 3 ^ k
    rw [ih (fun i hi => h i (by omega)), h k (by omega)]
theorem tt_hdP {t : Nat → Int} (h : tt_T t) : tt_P (tt_hd t) 9 = tt_P t 9 / 64 := by
  have e : tt_P t (6 + 3) = tt_P t 6 + 2 ^ 6 * tt_P (tt_hd t) 3 := tt_Padd t 6 3
  have e1 : tt_P t 6 < 2 ^ 6 := tt_Plt t 6
  have e2 : tt_P (tt_hd t) (3 + 6) = tt_P (tt_hd t) 3 := tt_P0 (fun i h1 h2 => h.2 _ (by omega))
  have e3 : tt_P t 9 = tt_P t 6 + 2 ^ 6 * tt_P (tt_hd t) 3 := e
  have e4 : tt_P (tt_hd t) 9 = tt_P (tt_hd t) 3 := e2
  omega
theorem tt_lwP (t : Nat → Int) : tt_P (tt_lw t) 9 = tt_P t 9 % 64 := by
  have e : tt_P t (6 + 3) = tt_P t 6 + 2 ^ 6 * tt_P (tt_hd t) 3 := tt_Padd t 6 3
  have e1 : tt_P t 6 < 2 ^ 6 := tt_Plt t 6
  have e2 : tt_P (tt_lw t) (6 + 3) = tt_P (tt_lw t) 6 := tt_P0 (fun i h1 h2 => if_neg (by omega))
  have e3 : tt_P t 9 = tt_P t 6 + 2 ^ 6 * tt_P (tt_hd t) 3 := e
  have e4 : tt_P (tt_lw t) 9 = tt_P (tt_lw t) 6 := e2
  have e5 : tt_P (tt_lw t) 6 = tt_P t 6 := tt_Pc (fun i hi => if_pos hi)
  omega
theorem tt_hlV {t : Nat → Int} (h : tt_T t) : tt_V t 9 = tt_V (tt_lw t) 9 + 729 * tt_V (tt_hd t) 9 := by
  have e : tt_V t (6 + 3) = tt_V t 6 + 3 ^ 6 * tt_V (tt_hd t) 3 := tt_Vadd t 6 3
  have e2 : tt_V (tt_hd t) (3 + 6) = tt_V (tt_hd t) 3 := tt_V0 (fun i h1 h2 => h.2 _ (by omega))
  have e3 : tt_V (tt_lw t) (6 + 3) = tt_V (tt_lw t) 6 := tt_V0 (fun i h1 h2 => if_neg (by omega))
  have e5 : tt_V (tt_lw t) 6 = tt_V t 6 := tt_Vc (fun i hi => if_pos hi)
  rw [show (3 : Int) ^ 6 = 729 from by decide] at e
  have e6 : tt_V t 9 = tt_V t 6 + 729 * tt_V (tt_hd t) 3 := e
  have e7 : tt_V (tt_hd t) 9 = tt_V (tt_hd t) 3 := e2
  have e8 : tt_V (tt_lw t) 9 = tt_V (tt_lw t) 6 := e3
  omega
theorem tt_lwB {t : Nat → Int} (h : tt_T t) : -364 ≤ tt_V (tt_lw t) 9 ∧ tt_V (tt_lw t) 9 ≤ 364 := by
  have e3 : tt_V (tt_lw t) (6 + 3) = tt_V (tt_lw t) 6 := tt_V0 (fun i h1 h2 => if_neg (by omega))
  have e8 : tt_V (tt_lw t) 9 = tt_V (tt_lw t) 6 := e3
  have b := tt_Vb (tt_lwT h) 6
  rw [show (3 : Int) ^ 6 = 729 from by decide] at b
  omega
theorem xw_op {o c : Nat} (ho : o ≤ 12) (hc : c ≤ 728) {post : Int32 → Prop} (h : post (nI o)) : wpX_valueOf post (f_length, f_compiled, f_isSound, f_codeEnd, f_poolEnd, f_openCount, f_accumulator, f_place, f_running, f_printedCount, a_kind, a_first, a_second, a_third, a_openKind, a_openTop, a_openCell, a_zeroJump, a_posJump, a_leaveFirst, a_leaveSecond, a_memory, a_printedWords) (((tt_w (729 * (o : Int) + c - 364) &&& 511) >>> ((6 : Int32) &&& 31)) ||| ((tt_w (729 * (o : Int) + c - 364) >>> ((15 : Int32) &&& 31)) <<< ((9 : Int32) &&& 31))) := by
  have hT := tt_dT (729 * (o : Int) + c - 364)
  have ev := tt_hlV hT
  have eb := tt_lwB hT
  rw [tt_dV9, tt_bi (by omega) (by omega)] at ev
  unfold tt_w
  generalize tt_d (729 * (o : Int) + c - 364) = t at *
  have hw := tt_Wlt t
  have hp : tt_P t 9 < 512 := tt_Plt _ 9
  have hm : tt_P (tt_n t) 9 < 512 := tt_Plt _ 9
  have e : tt_V (tt_hd t) 9 = o := by omega
  rw [pk_andN (by omega) 9 (by decide), pk_shrN (by omega) _ 6 (by decide), pk_shrN (by omega) _ 15 (by decide), pk_shlN _ 9 (by decide) (by omega), nx_or]
  have eW : tt_W t 9 % 2 ^ 9 / 2 ^ 6 ||| tt_W t 9 / 2 ^ 15 * 2 ^ 9 = tt_W (tt_hd t) 9 := by
    unfold tt_W
    have en : tt_n (tt_hd t) = tt_hd (tt_n t) := rfl
    rw [en, tt_hdP hT, tt_hdP (tt_nT hT)]
    rw [show (tt_P t 9 + 512 * tt_P (tt_n t) 9) % 2 ^ 9 / 2 ^ 6 = tt_P t 9 / 64 from by omega, show (tt_P t 9 + 512 * tt_P (tt_n t) 9) / 2 ^ 15 * 2 ^ 9 = tt_P (tt_n t) 9 / 64 * 512 from by omega, tt_orN' (by omega)]
  rw [eW]
  exact xw_valT (tt_hdT hT) (by rw [e, ← zi_n]; exact h)
theorem xw_cell {o c : Nat} (ho : o ≤ 12) (hc : c ≤ 728) {post : Int32 → Prop} (h : post (Int32.ofInt ((c : Int) - 364))) : wpX_valueOf post (f_length, f_compiled, f_isSound, f_codeEnd, f_poolEnd, f_openCount, f_accumulator, f_place, f_running, f_printedCount, a_kind, a_first, a_second, a_third, a_openKind, a_openTop, a_openCell, a_zeroJump, a_posJump, a_leaveFirst, a_leaveSecond, a_memory, a_printedWords) ((tt_w (729 * (o : Int) + c - 364) &&& 63) ||| (((tt_w (729 * (o : Int) + c - 364) >>> ((9 : Int32) &&& 31)) &&& 63) <<< ((9 : Int32) &&& 31))) := by
  have hT := tt_dT (729 * (o : Int) + c - 364)
  have ev := tt_hlV hT
  have eb := tt_lwB hT
  rw [tt_dV9, tt_bi (by omega) (by omega)] at ev
  unfold tt_w
  generalize tt_d (729 * (o : Int) + c - 364) = t at *
  have hw := tt_Wlt t
  have hp : tt_P t 9 < 512 := tt_Plt _ 9
  have hm : tt_P (tt_n t) 9 < 512 := tt_Plt _ 9
  have e : tt_V (tt_lw t) 9 = (c : Int) - 364 := by omega
  rw [pk_andN (by omega) 6 (by decide), pk_shrN (by omega) _ 9 (by decide), pk_andN (by omega) 6 (by decide), pk_shlN _ 9 (by decide) (by omega), nx_or]
  have eW : tt_W t 9 % 2 ^ 6 ||| tt_W t 9 / 2 ^ 9 % 2 ^ 6 * 2 ^ 9 = tt_W (tt_lw t) 9 := by
    unfold tt_W
    have en : tt_n (tt_lw t) = tt_lw (tt_n t) := by
      funext i
      show - (if i < 6 then t i else 0) = if i < 6 then -t i else 0
      split <;> rfl
    rw [en, tt_lwP, tt_lwP]
    rw [show (tt_P t 9 + 512 * tt_P (tt_n t) 9) % 2 ^ 6 = tt_P t 9 % 64 from by omega, show (tt_P t 9 + 512 * tt_P (tt_n t) 9) / 2 ^ 9 % 2 ^ 6 * 2 ^ 9 = tt_P (tt_n t) 9 % 64 * 512 from by omega, tt_orN' (by omega)]
  rw [eW]
  exact xw_valT (tt_lwT hT) (by rw [e]; exact h)
end
end
section
/-! ===== Y's wrap, trits, low ===== -/
section
variable {g_n g_printed : Int32} {b_kind b_a b_b b_c b_var b_out b_left : Nat → Int32}
theorem yw_wrap {z : Int} (hz : -1000000000000 ≤ z) (hz' : z ≤ 1000000000000) {post : Int32 → Prop} {x : Int64} (hx : x = Int64.ofInt z) (h : post (Int32.ofInt (tt_b z))) : wpY_wrap post (g_n, g_printed, b_kind, b_a, b_b, b_c, b_var, b_out, b_left) x := by
  subst hx
  have ed := zt_m (z + 9841)
  have hm : -19683 < (z + 9841) - (z + 9841).tdiv 19683 * 19683 ∧ (z + 9841) - (z + 9841).tdiv 19683 * 19683 < 19683 := by rw [ed]; split <;> omega
  have e : (Int64.ofInt z + 9841) - (Int64.ofInt z + 9841) / 19683 * 19683 = Int64.ofInt ((z + 9841) - (z + 9841).tdiv 19683 * 19683) := by
    rw [show (9841 : Int64) = Int64.ofInt 9841 from rfl, show (19683 : Int64) = Int64.ofInt 19683 from rfl, ← Int64.ofInt_add, zl_div (by omega) (by omega) (by decide) (by decide), ← Int64.ofInt_mul, ← Int64.ofInt_sub]
  refine ⟨by decide, nm_r e ?_⟩
  have el : ((0 : Int64) ≤ Int64.ofInt ((z + 9841) - (z + 9841).tdiv 19683 * 19683)) ↔ 0 ≤ (z + 9841) - (z + 9841).tdiv 19683 * 19683 := by
    rw [show (0 : Int64) = Int64.ofInt 0 from rfl]
    exact zl_le (by decide) (by decide) (by omega) (by omega)
  refine br_c (fun q => ?_) (fun q => ?_)
  · rw [el] at q
    rw [Int64.toInt32_ofInt, show (9841 : Int32) = Int32.ofInt 9841 from rfl, ← Int32.ofInt_sub]
    have : (z + 9841) - (z + 9841).tdiv 19683 * 19683 - 9841 = tt_b z := by
      unfold tt_b
      rw [ed] at q ⊢
      split at q <;> split <;> omega
    rw [this]; exact h
  · rw [el] at q
    rw [show (19683 : Int64) = Int64.ofInt 19683 from rfl, ← Int64.ofInt_add, Int64.toInt32_ofInt, show (9841 : Int32) = Int32.ofInt 9841 from rfl, ← Int32.ofInt_sub]
    have : (z + 9841) - (z + 9841).tdiv 19683 * 19683 + 19683 - 9841 = tt_b z := by
      unfold tt_b
      rw [ed] at q ⊢
      split at q <;> split <;> omega
    rw [this]; exact h
theorem tt_rrs {z : Int} (h : -9841 ≤ z) (h' : z ≤ 9841) : ∀ k, -9841 ≤ tt_rr z k ∧ tt_rr z k ≤ 9841 := by
  intro k
  induction k with
  | zero => exact ⟨h, h'⟩
  | succ k ih =>
    have e := tt_rs z k
    have r := tt_tr3 (tt_rr z k)
    omega
theorem yw_t5 {r : Int} (h : -9841 ≤ r) (h' : r ≤ 9841) : (((Int32.ofInt r - Int32.ofInt r / 3 * 3) + 4) - ((Int32.ofInt r - Int32.ofInt r / 3 * 3) + 4) / 3 * 3) - 1 = Int32.ofInt (tt_tr r) := by
  have ed := zt_3 r
  have hm : -2 ≤ r - r.tdiv 3 * 3 ∧ r - r.tdiv 3 * 3 ≤ 2 := by rw [ed]; split <;> omega
  rw [show (3 : Int32) = Int32.ofInt 3 from rfl, show (4 : Int32) = Int32.ofInt 4 from rfl, show (1 : Int32) = Int32.ofInt 1 from rfl, zi_div (by omega) (by omega) (by decide) (by decide), ← Int32.ofInt_mul, ← Int32.ofInt_sub, ← Int32.ofInt_add, zi_div (by omega) (by omega) (by decide) (by decide), ← Int32.ofInt_mul, ← Int32.ofInt_sub, ← Int32.ofInt_sub]
  congr 1
  have e2 := zt_3 (r - r.tdiv 3 * 3 + 4)
  rw [if_pos (by omega)] at e2
  rw [e2]
  unfold tt_tr
  rw [ed] at hm ⊢
  split <;> split at hm <;> omega
theorem yw_tl {z : Int} (hz : -9841 ≤ z) (hz' : z ≤ 9841) {i : Nat} (hi : i < 9) {post : Int32 → Prop} (h : post (Int32.ofInt (tt_d z i))) : ∀ d k : Nat, k + d = i → wY_tritOf_5 post (nI i) g_n g_printed b_kind b_a b_b b_c b_var b_out b_left (d + 1) (Int32.ofInt (tt_rr z k)) (nI k) := by
  have hd : tt_d z i = tt_tr (tt_rr z i) := if_pos hi
  intro d
  induction d with
  | zero =>
    intro k hk
    have : k = i := by omega
    subst this
    have hb := tt_rrs hz hz' k
    refine pk_le 9 k (fun hh => absurd hh (by omega)) (fun _ => ⟨by decide, by decide, nm_r (yw_t5 hb.1 hb.2) (br_t rfl (by rw [← hd]; exact h))⟩)
  | succ d ih =>
    intro k hk
    have hb := tt_rrs hz hz' k
    have hi2 := ih (k + 1) (by omega)
    have hs := tt_rs z k
    have ht := tt_tr3 (tt_rr z k)
    refine pk_le 9 k (fun hh => absurd hh (by omega)) (fun _ => ⟨by decide, by decide, nm_r (yw_t5 hb.1 hb.2) (pk_eq k i (fun hh => absurd hh (by omega)) (fun _ => ⟨by decide, nm_r (e' := Int32.ofInt (tt_rr z (k + 1))) ?_ (nm_r (nI_1 k) hi2)⟩))⟩)
    rw [show (3 : Int32) = Int32.ofInt 3 from rfl, ← Int32.ofInt_sub, zi_div (by omega) (by omega) (by decide) (by decide), zt_e hs.symm]
theorem yw_tritOf {z : Int} (hz : -9841 ≤ z) (hz' : z ≤ 9841) {i : Nat} (hi : i < 9) {post : Int32 → Prop} {x y : Int32} (hx : x = Int32.ofInt z) (hy : y = nI i) (h : post (Int32.ofInt (tt_d z i))) : wpY_tritOf post (g_n, g_printed, b_kind, b_a, b_b, b_c, b_var, b_out, b_left) x y := by
  subst hx; subst hy
  exact ⟨i + 1, yw_tl hz hz' hi h i 0 (by omega)⟩
theorem yw_ll {p q : Int} (hp : -9841 ≤ p) (hp' : p ≤ 9841) (hq : -9841 ≤ q) (hq' : q ≤ 9841) {post : Int32 → Prop} (h : post (Int32.ofInt (tt_V (tt_mn (tt_d p) (tt_d q)) 9))) : ∀ d k : Nat, k + d = 9 → wY_low_8 post (Int32.ofInt p) (Int32.ofInt q) g_n g_printed b_kind b_a b_b b_c b_var b_out b_left (d + 1) (Int32.ofInt (tt_V (tt_mn (tt_d p) (tt_d q)) k)) (Int32.ofInt (3 ^ k)) (nI k) := by
  intro d
  induction d with
  | zero =>
    intro k hk
    have : k = 9 := by omega
    subst this
    exact br_t (by decide) h
  | succ d ih =>
    intro k hk
    have hi := ih (k + 1) (by omega)
    have h1 := (tt_dT p).1 k
    have h2 := (tt_dT q).1 k
    have em : tt_mn (tt_d p) (tt_d q) k = if tt_d q k ≤ tt_d p k then tt_d q k else tt_d p k := rfl
    have K : ∀ y : Int32, y = Int32.ofInt (tt_mn (tt_d p) (tt_d q) k) → wY_low_50 post (wY_low_8 post (Int32.ofInt p) (Int32.ofInt q) g_n g_printed b_kind b_a b_b b_c b_var b_out b_left (d + 1)) (Int32.ofInt p) (Int32.ofInt q) (Int32.ofInt (3 ^ k)) (nI k) y (Int32.ofInt (3 ^ k)) (Int32.ofInt (tt_V (tt_mn (tt_d p) (tt_d q)) k)) g_n g_printed b_kind b_a b_b b_c b_var b_out b_left := by
      intro y hy
      refine nm_r (e' := Int32.ofInt (tt_V (tt_mn (tt_d p) (tt_d q)) (k + 1))) ?_ (nm_r (e' := Int32.ofInt (3 ^ (k + 1))) ?_ (nm_r (nI_1 k) hi))
      · show _ = Int32.ofInt (tt_V (tt_mn (tt_d p) (tt_d q)) k + tt_mn (tt_d p) (tt_d q) k * 3 ^ k)
        rw [hy, ← Int32.ofInt_mul, ← Int32.ofInt_add, Int.mul_comm]
      · rw [Int.pow_succ, Int32.ofInt_mul]; rfl
    refine pk_le 9 k (fun hh => absurd hh (by omega)) (fun _ => yw_tritOf hp hp' (i := k) (by omega) rfl rfl (yw_tritOf hq hq' (i := k) (by omega) rfl rfl (zk_le (tt_d q k) (tt_d p k) (fun r => K _ ?_) (fun r => K _ ?_) rfl rfl)))
    · rw [em, if_pos r]
    · rw [em, if_neg r]
theorem yw_low {p q : Int} (hp : -9841 ≤ p) (hp' : p ≤ 9841) (hq : -9841 ≤ q) (hq' : q ≤ 9841) {post : Int32 → Prop} (h : post (Int32.ofInt (tt_V (tt_mn (tt_d p) (tt_d q)) 9))) : wpY_low post (g_n, g_printed, b_kind, b_a, b_b, b_c, b_var, b_out, b_left) (Int32.ofInt p) (Int32.ofInt q) :=
  ⟨10, yw_ll hp hp' hq hq' h 9 0 rfl⟩
end
end
section
/-! ===== the blocks of a program: κ i the kind of statement i ===== -/
def kb_D (κ : Nat → Nat) : Nat → Nat
  | 0 => 0
  | i + 1 => if κ i = 7 ∨ κ i = 10 then kb_D κ i + 1 else if κ i = 11 then kb_D κ i - 1 else kb_D κ i
def kb_os (κ : Nat → Nat) (d : Nat) : Nat → Nat
  | 0 => 0
  | k + 1 => if kb_D κ k < d then k else kb_os κ d k
def kb_op (κ : Nat → Nat) (i : Nat) : Nat := kb_os κ (kb_D κ i) i
def kb_es (κ : Nat → Nat) (d : Nat) : Nat → Nat → Nat
  | 0, k => k
  | f + 1, k => if kb_D κ (k + 1) ≤ d then k else kb_es κ d f (k + 1)
def kb_en (κ : Nat → Nat) (n o : Nat) : Nat := kb_es κ (kb_D κ o) (n - o) o
def kb_M (κ : Nat → Nat) (o m k : Nat) : Prop := o < k ∧ κ k = m ∧ kb_op κ k = o ∧ 0 < kb_D κ k
def kb_ms (κ : Nat → Nat) (o m : Nat) : Nat → Nat → Nat
  | 0, _ => 0
  | f + 1, k => if κ k = m ∧ kb_op κ k = o ∧ 0 < kb_D κ k then k + 1 else kb_ms κ o m f (k + 1)
def kb_ch (κ : Nat → Nat) (n o m : Nat) : Nat := if kb_ms κ o m (kb_en κ n o - (o + 1)) (o + 1) = 0 then kb_en κ n o + 1 else kb_ms κ o m (kb_en κ n o - (o + 1)) (o + 1)
def kb_O (κ : Nat → Nat) (o i : Nat) : Prop := o < i ∧ ∀ m, o < m → m ≤ i → kb_D κ o < kb_D κ m
def kb_MF (κ : Nat → Nat) (i : Nat) : Prop := 0 < kb_D κ i ∧ κ (kb_op κ i) = 7 ∧ ∀ k, k < i → (kb_M κ (kb_op κ i) 9 k → False) ∧ (kb_M κ (kb_op κ i) (κ i) k → False)
def kb_G (κ : Nat → Nat) (i : Nat) : Prop := (κ i = 11 → 0 < kb_D κ i) ∧ ((κ i = 7 ∨ κ i = 10) → kb_D κ i < 3) ∧ ((κ i = 8 ∨ κ i = 9) → kb_MF κ i)
def kb_K (κ : Nat → Nat) (i : Nat) : Prop := ∀ m, m < i → kb_G κ m
def kb_S (κ : Nat → Nat) (n : Nat) : Prop := kb_K κ n ∧ kb_D κ n = 0
section
variable {κ : Nat → Nat}
theorem kb_Ds (i : Nat) : kb_D κ (i + 1) = if κ i = 7 ∨ κ i = 10 then kb_D κ i + 1 else if κ i = 11 then kb_D κ i - 1 else kb_D κ i := rfl
theorem kb_Do {i : Nat} (h : κ i = 7 ∨ κ i = 10) : kb_D κ (i + 1) = kb_D κ i + 1 := by rw [kb_Ds, if_pos h]
theorem kb_De {i : Nat} (h : κ i = 11) : kb_D κ (i + 1) = kb_D κ i - 1 := by rw [kb_Ds, if_neg (by omega), if_pos h]
theorem kb_Dn {i : Nat} (h7 : κ i ≠ 7) (h10 : κ i ≠ 10) (h11 : κ i ≠ 11) : kb_D κ (i + 1) = kb_D κ i := by rw [kb_Ds, if_neg (by omega), if_neg h11]
theorem kb_D1 (i : Nat) : kb_D κ (i + 1) ≤ kb_D κ i + 1 ∧ kb_D κ i ≤ kb_D κ (i + 1) + 1 := by
  rw [kb_Ds]
  split
  · omega
  · split <;> omega
theorem kb_D2 {i : Nat} (h : kb_D κ i < kb_D κ (i + 1)) : κ i = 7 ∨ κ i = 10 := by
  rw [kb_Ds] at h
  split at h
  · assumption
  · split at h <;> omega
theorem kb_D3 {i : Nat} (h : kb_D κ (i + 1) < kb_D κ i) : κ i = 11 := by
  rw [kb_Ds] at h
  split at h
  · omega
  · split at h
    · assumption
    · omega
theorem kb_os1 {d : Nat} (hd : 0 < d) : ∀ i, 0 < i → kb_os κ d i < i ∧ kb_D κ (kb_os κ d i) < d ∧ ∀ m, kb_os κ d i < m → m < i → d ≤ kb_D κ m := by
  intro i
  induction i with
  | zero => intro h; omega
  | succ k ih =>
    intro _
    by_cases h : kb_D κ k < d
    · have e : kb_os κ d (k + 1) = k := if_pos h
      rw [e]
      exact ⟨by omega, h, fun m h1 h2 => absurd h2 (by omega)⟩
    · have e : kb_os κ d (k + 1) = kb_os κ d k := if_neg h
      have hk : 0 < k := by
        rcases Nat.eq_zero_or_pos k with rfl | q
        · exact absurd hd h
        · exact q
      obtain ⟨h1, h2, h3⟩ := ih hk
      rw [e]
      refine ⟨by omega, h2, fun m q1 q2 => ?_⟩
      by_cases q : m = k
      · subst q; omega
      · exact h3 m q1 (by omega)
theorem kb_op1 {i : Nat} (h : 0 < kb_D κ i) : kb_op κ i < i ∧ kb_D κ (kb_op κ i) + 1 = kb_D κ i ∧ (∀ m, kb_op κ i < m → m ≤ i → kb_D κ i ≤ kb_D κ m) ∧ (κ (kb_op κ i) = 7 ∨ κ (kb_op κ i) = 10) := by
  have hi : 0 < i := by
    rcases Nat.eq_zero_or_pos i with rfl | q
    · exact absurd h (Nat.lt_irrefl 0)
    · exact q
  obtain ⟨h1, h2, h3⟩ := kb_os1 h i hi
  have h3' : ∀ m, kb_op κ i < m → m ≤ i → kb_D κ i ≤ kb_D κ m := by
    intro m q1 q2
    rcases Nat.lt_or_ge m i with q | q
    · exact h3 m q1 q
    · have : m = i := by omega
      subst this; exact Nat.le_refl _
  have h1' : kb_op κ i < i := h1
  have h2' : kb_D κ (kb_op κ i) < kb_D κ i := h2
  have h4 := h3' (kb_op κ i + 1) (by omega) (by omega)
  have h5 := kb_D1 (κ := κ) (kb_op κ i)
  exact ⟨h1', by omega, h3', kb_D2 (by omega)⟩
theorem kb_op2 {o i : Nat} (h : o < i) (hd : kb_D κ o < kb_D κ i) (hm : ∀ m, o < m → m < i → kb_D κ i ≤ kb_D κ m) : kb_op κ i = o := by
  obtain ⟨h1, h2, h3, _⟩ := kb_op1 (κ := κ) (i := i) (by omega)
  rcases Nat.lt_trichotomy (kb_op κ i) o with q | q | q
  · have := h3 o q (by omega); omega
  · exact q
  · have := hm _ q h1; omega
theorem kb_es1 {d : Nat} : ∀ f k, (∃ j, k ≤ j ∧ j < k + f ∧ kb_D κ (j + 1) ≤ d) → k ≤ kb_es κ d f k ∧ kb_es κ d f k < k + f ∧ kb_D κ (kb_es κ d f k + 1) ≤ d ∧ ∀ m, k < m → m ≤ kb_es κ d f k → d < kb_D κ m := by
  intro f
  induction f with
  | zero => rintro k ⟨j, h1, h2, _⟩; omega
  | succ f ih =>
    rintro k ⟨j, h1, h2, h3⟩
    by_cases h : kb_D κ (k + 1) ≤ d
    · have e : kb_es κ d (f + 1) k = k := if_pos h
      rw [e]
      exact ⟨by omega, by omega, h, fun m q1 q2 => absurd q2 (by omega)⟩
    · have e : kb_es κ d (f + 1) k = kb_es κ d f (k + 1) := if_neg h
      have hj : j ≠ k := by intro e'; subst e'; exact h h3
      obtain ⟨a1, a2, a3, a4⟩ := ih (k + 1) ⟨j, by omega, by omega, h3⟩
      rw [e]
      refine ⟨by omega, by omega, a3, fun m q1 q2 => ?_⟩
      by_cases q : m = k + 1
      · subst q; omega
      · exact a4 m (by omega) q2
/-- the end of the block that statement o opens -/
theorem kb_en1 {n o : Nat} (hn : kb_D κ n = 0) (ho : o < n) (hk : κ o = 7 ∨ κ o = 10) : o < kb_en κ n o ∧ kb_en κ n o < n ∧ kb_D κ (kb_en κ n o + 1) = kb_D κ o ∧ kb_D κ (kb_en κ n o) = kb_D κ o + 1 ∧ κ (kb_en κ n o) = 11 ∧ ∀ m, o < m → m ≤ kb_en κ n o → kb_D κ o < kb_D κ m := by
  have ex : ∃ j, o ≤ j ∧ j < o + (n - o) ∧ kb_D κ (j + 1) ≤ kb_D κ o := ⟨n - 1, by omega, by omega, by rw [show n - 1 + 1 = n from by omega, hn]; omega⟩
  obtain ⟨a1, a2, a3, a4⟩ := kb_es1 (κ := κ) (n - o) o ex
  have b1 : o ≤ kb_en κ n o := a1
  have b2 : kb_en κ n o < o + (n - o) := a2
  have b3 : kb_D κ (kb_en κ n o + 1) ≤ kb_D κ o := a3
  have b4 : ∀ m, o < m → m ≤ kb_en κ n o → kb_D κ o < kb_D κ m := a4
  have hD := kb_Do hk
  have hlt : o < kb_en κ n o := by
    rcases Nat.lt_or_ge o (kb_en κ n o) with q | q
    · exact q
    · have : kb_en κ n o = o := by omega
      rw [this] at b3; omega
  have c := b4 _ hlt (Nat.le_refl _)
  have d := kb_D1 (κ := κ) (kb_en κ n o)
  exact ⟨hlt, by omega, by omega, by omega, kb_D3 (by omega), b4⟩
theorem kb_en2 {n o e : Nat} (hn : kb_D κ n = 0) (ho : o < n) (hk : κ o = 7 ∨ κ o = 10) (h1 : o < e) (h2 : kb_D κ (e + 1) ≤ kb_D κ o) (h3 : ∀ m, o < m → m ≤ e → kb_D κ o < kb_D κ m) : kb_en κ n o = e := by
  obtain ⟨a1, a2, a3, _, _, a4⟩ := kb_en1 hn ho hk
  rcases Nat.lt_trichotomy (kb_en κ n o) e with q | q | q
  · have := h3 (kb_en κ n o + 1) (by omega) (by omega); omega
  · exact q
  · have := a4 (e + 1) (by omega) (by omega); omega
/-- within the block of o -/
theorem kb_in {n o k : Nat} (hn : kb_D κ n = 0) (ho : o < n) (hk : κ o = 7 ∨ κ o = 10) (h1 : o < k) (h2 : k ≤ kb_en κ n o) : (kb_op κ k = o ↔ kb_D κ k = kb_D κ o + 1) ∧ 0 < kb_D κ k := by
  obtain ⟨a1, a2, a3, _, _, a4⟩ := kb_en1 hn ho hk
  have c := a4 k h1 h2
  refine ⟨⟨fun h => ?_, fun h => ?_⟩, by omega⟩
  · obtain ⟨_, b2, _, _⟩ := kb_op1 (κ := κ) (i := k) (by omega)
    rw [h] at b2; omega
  · refine kb_op2 h1 (by omega) (fun m q1 q2 => ?_)
    have := a4 m q1 (by omega); omega
/-- a statement with a block begun before it: its opener's end lies beyond it -/
theorem kb_oe {n i : Nat} (hn : kb_D κ n = 0) (hi : i ≤ n) (h : 0 < kb_D κ i) : i < n ∧ kb_op κ i < n ∧ i ≤ kb_en κ n (kb_op κ i) := by
  obtain ⟨b1, b2, b3, b4⟩ := kb_op1 (κ := κ) (i := i) h
  have hin : i < n := by
    rcases Nat.lt_or_ge i n with q | q
    · exact q
    · have : i = n := by omega
      subst this; omega
  obtain ⟨a1, a2, a3, _, _, a4⟩ := kb_en1 hn (by omega : kb_op κ i < n) b4
  refine ⟨hin, by omega, ?_⟩
  rcases Nat.lt_or_ge (kb_en κ n (kb_op κ i)) i with q | q
  · have := b3 (kb_en κ n (kb_op κ i) + 1) (by omega) (by omega); omega
  · exact q
theorem kb_oe11 {n i : Nat} (hn : kb_D κ n = 0) (hi : i < n) (h : 0 < kb_D κ i) (hk : κ i = 11) : kb_en κ n (kb_op κ i) = i := by
  obtain ⟨b1, b2, b3, b4⟩ := kb_op1 (κ := κ) (i := i) h
  refine kb_en2 hn (by omega) b4 b1 (by rw [kb_De hk]; omega) (fun m q1 q2 => ?_)
  have := b3 m q1 q2; omega
/-- marks -/
theorem kb_ms1 {o m : Nat} : ∀ f k, o < k → (kb_ms κ o m f k = 0 ∧ ∀ j, k ≤ j → j < k + f → ¬ kb_M κ o m j) ∨ ∃ j, k ≤ j ∧ j < k + f ∧ kb_M κ o m j ∧ kb_ms κ o m f k = j + 1 ∧ ∀ j', k ≤ j' → j' < j → ¬ kb_M κ o m j' := by
  intro f
  induction f with
  | zero => intro k _; exact Or.inl ⟨rfl, fun j h1 h2 => absurd h2 (by omega)⟩
  | succ f ih =>
    intro k hk
    by_cases h : κ k = m ∧ kb_op κ k = o ∧ 0 < kb_D κ k
    · have e : kb_ms κ o m (f + 1) k = k + 1 := if_pos h
      exact Or.inr ⟨k, by omega, by omega, ⟨hk, h⟩, e, fun j' h1 h2 => absurd h2 (by omega)⟩
    · have e : kb_ms κ o m (f + 1) k = kb_ms κ o m f (k + 1) := if_neg h
      rw [e]
      rcases ih (k + 1) (by omega) with ⟨a1, a2⟩ | ⟨j, a1, a2, a3, a4, a5⟩
      · refine Or.inl ⟨a1, fun j h1 h2 hM => ?_⟩
        by_cases q : j = k
        · subst q; exact h hM.2
        · exact a2 j (by omega) (by omega) hM
      · refine Or.inr ⟨j, by omega, by omega, a3, a4, fun j' h1 h2 hM => ?_⟩
        by_cases q : j' = k
        · subst q; exact h hM.2
        · exact a5 j' (by omega) h2 hM
theorem kb_ch0 {n o m : Nat} (ho : o < kb_en κ n o) (h : ∀ k, o < k → k < kb_en κ n o → ¬ kb_M κ o m k) : kb_ch κ n o m = kb_en κ n o + 1 := by
  unfold kb_ch
  rcases kb_ms1 (κ := κ) (o := o) (m := m) (kb_en κ n o - (o + 1)) (o + 1) (by omega) with ⟨a1, _⟩ | ⟨j, a1, a2, a3, _, _⟩
  · rw [if_pos a1]
  · exact absurd a3 (h j (by omega) (by omega))
theorem kb_ch1 {n o m k : Nat} (hk : o < k) (hk' : k < kb_en κ n o) (hM : kb_M κ o m k) (h : ∀ j, o < j → j < k → ¬ kb_M κ o m j) : kb_ch κ n o m = k + 1 := by
  unfold kb_ch
  rcases kb_ms1 (κ := κ) (o := o) (m := m) (kb_en κ n o - (o + 1)) (o + 1) (by omega) with ⟨_, a2⟩ | ⟨j, a1, a2, a3, a4, a5⟩
  · exact absurd hM (a2 k (by omega) (by omega))
  · have : j = k := by
      rcases Nat.lt_trichotomy j k with q | q | q
      · exact absurd a3 (h j (by omega) q)
      · exact q
      · exact absurd hM (a5 k (by omega) q)
    subst this
    rw [a4, if_neg (by omega)]
theorem kb_ch2 {n o m : Nat} (ho : o < kb_en κ n o) : kb_ch κ n o m = kb_en κ n o + 1 ∨ ∃ k, o < k ∧ k < kb_en κ n o ∧ kb_M κ o m k ∧ kb_ch κ n o m = k + 1 := by
  unfold kb_ch
  rcases kb_ms1 (κ := κ) (o := o) (m := m) (kb_en κ n o - (o + 1)) (o + 1) (by omega) with ⟨a1, _⟩ | ⟨j, a1, a2, a3, a4, _⟩
  · rw [if_pos a1]; exact Or.inl rfl
  · rw [a4, if_neg (by omega)]; exact Or.inr ⟨j, by omega, by omega, a3, rfl⟩
/-! blocks begun and not ended -/
theorem kb_O1 {o i : Nat} (h : kb_O κ o (i + 1)) (ne : o ≠ i) : kb_O κ o i := ⟨by have := h.1; omega, fun m q1 q2 => h.2 m q1 (by omega)⟩
theorem kb_O2 {i : Nat} (h : kb_O κ i (i + 1)) : κ i = 7 ∨ κ i = 10 := kb_D2 (h.2 (i + 1) (by omega) (Nat.le_refl _))
theorem kb_O3 {o i : Nat} (h : kb_O κ o i) (hd : kb_D κ o < kb_D κ (i + 1)) : kb_O κ o (i + 1) := ⟨by have := h.1; omega, fun m q1 q2 => by
  by_cases q : m = i + 1
  · subst q; exact hd
  · exact h.2 m q1 (by omega)⟩
theorem kb_O4 {i : Nat} (h : 0 < kb_D κ i) : kb_O κ (kb_op κ i) i := by
  obtain ⟨b1, b2, b3, b4⟩ := kb_op1 (κ := κ) (i := i) h
  exact ⟨b1, fun m q1 q2 => by have := b3 m q1 q2; omega⟩
/-- two blocks not ended at one place: the levels tell them apart -/
theorem kb_O5 {o p i : Nat} (h : kb_O κ o i) (h' : kb_O κ p i) : o < p → kb_D κ o < kb_D κ p := fun q => h.2 p q (by have := h'.1; omega)
theorem kb_O6 {o i : Nat} (h : kb_O κ o i) (hd : kb_D κ o + 1 = kb_D κ i) : kb_op κ i = o := by
  refine kb_op2 h.1 (by omega) (fun m q1 q2 => ?_)
  have := h.2 m q1 (by omega); omega
theorem kb_O7 {o i : Nat} (h : kb_O κ o i) : κ o = 7 ∨ κ o = 10 := kb_D2 (h.2 (o + 1) (by omega) (by have := h.1; omega))
end
end
section
/-! ===== Y reads the blocks ===== -/
theorem kk_eq {f : Nat → Int32} {κ : Nat → Nat} (hκ : ∀ i, f i = nI (κ i)) (h12 : ∀ i, κ i ≤ 12) {k : Nat} (hk : k < 40) (m : Nat) {A B : Prop} (a : κ k = m → A) (b : κ k ≠ m → B) (hm : m < 1000 := by omega) : (f (nI k).toNatClampNeg = nI m → A) ∧ (¬ f (nI k).toNatClampNeg = nI m → B) := by
  rw [nI_clamp (by omega), hκ k]
  have := h12 k
  exact pk_eq (κ k) m a b
section
variable {g_n g_printed : Int32} {b_kind b_a b_b b_c b_var b_out b_left : Nat → Int32} {κ : Nat → Nat} {n : Nat}
theorem yb_opens (hκ : ∀ i, b_kind i = nI (κ i)) (h12 : ∀ i, κ i ≤ 12) {k : Nat} (hk : k < 40) {post : Int32 → Prop} (h1 : κ k = 7 ∨ κ k = 10 → post 1) (h0 : ¬ (κ k = 7 ∨ κ k = 10) → post 0) : wpY_opens post (g_n, g_printed, b_kind, b_a, b_b, b_c, b_var, b_out, b_left) (nI k) :=
  ⟨vp_in_nI hk (by decide), kk_eq hκ h12 hk 7 (fun q => h1 (Or.inl q)) (fun q => ⟨vp_in_nI hk (by decide), kk_eq hκ h12 hk 10 (fun q2 => h1 (Or.inr q2)) (fun q2 => h0 (fun q3 => q3.elim q q2))⟩)⟩
theorem yb_el (hκ : ∀ i, b_kind i = nI (κ i)) (h12 : ∀ i, κ i ≤ 12) (hn40 : n ≤ 40) (hn : kb_D κ n = 0) {i : Nat} (hi : i < n) (hk : κ i = 7 ∨ κ i = 10) (hD3 : ∀ m, m ≤ n → kb_D κ m ≤ 40) {post : Int32 → Prop} (h : post (nI (kb_en κ n i))) : ∀ d k : Nat, k + d = kb_en κ n i → i ≤ k → wY_endOf_4 post (nI n) g_printed b_kind b_a b_b b_c b_var b_out b_left (d + 1) (nI (kb_D κ k - kb_D κ i)) (nI k) := by
  obtain ⟨a1, a2, a3, a5, a6, a4⟩ := kb_en1 hn hi hk
  intro d
  induction d with
  | zero =>
    intro k hkd hik
    have ek : k = kb_en κ n i := by omega
    have hlt : k < n := by omega
    have k11 : κ k = 11 := by rw [ek]; exact a6
    refine pk_le n k (fun hh => absurd hh (by omega)) (fun _ => yb_opens hκ h12 (by omega) (fun q => absurd q (by omega)) (fun _ => br_t rfl ⟨vp_in_nI (by omega) (by decide), kk_eq hκ h12 (by omega) 11 (fun _ => ?_) (fun q => absurd k11 q)⟩))
    have e1 : kb_D κ k - kb_D κ i = 0 + 1 := by rw [ek]; omega
    rw [e1]
    refine nm_r (pk_m1 0) (br_t rfl ?_)
    rw [ek]; exact h
  | succ d ih =>
    intro k hkd hik
    have hlt : k < n := by omega
    have hi2 := ih (k + 1) (by omega) (by omega)
    have c := a4 (k + 1) (by omega) (by omega)
    have b1 := hD3 (k + 1) (by omega)
    have b2 := hD3 k (by omega)
    have hk1 : i = k ∨ kb_D κ i < kb_D κ k := by
      rcases Nat.lt_or_ge i k with q | q
      · exact Or.inr (a4 k q (by omega))
      · exact Or.inl (by omega)
    have K : wY_endOf_37 post (wY_endOf_4 post (nI n) g_printed b_kind b_a b_b b_c b_var b_out b_left (d + 1)) (nI (kb_D κ (k + 1) - kb_D κ i)) (nI k) (nI n) g_printed b_kind b_a b_b b_c b_var b_out b_left :=
      pk_eq (kb_D κ (k + 1) - kb_D κ i) 0 (fun hh => absurd hh (by omega)) (fun _ => nm_r (nI_1 k) hi2)
    refine pk_le n k (fun hh => absurd hh (by omega)) (fun _ => yb_opens hκ h12 (by omega) (fun q => ?_) (fun q => ?_))
    · have e := kb_Do q
      have e1 : kb_D κ k - kb_D κ i + 1 = kb_D κ (k + 1) - kb_D κ i := by omega
      refine br_f (by decide) (nm_r (nI_1 _) ?_)
      rw [e1]
      exact ⟨vp_in_nI (by omega) (by decide), kk_eq hκ h12 (by omega) 11 (fun q2 => absurd q (by omega)) (fun _ => K)⟩
    · refine br_t rfl ⟨vp_in_nI (by omega) (by decide), kk_eq hκ h12 (by omega) 11 (fun q2 => ?_) (fun q2 => ?_)⟩
      · have e := kb_De q2
        have e1 : kb_D κ k - kb_D κ i = (kb_D κ (k + 1) - kb_D κ i) + 1 := by
          rcases hk1 with q3 | q3
          · rw [q3] at hk; omega
          · omega
        rw [e1]
        exact nm_r (pk_m1 _) K
      · have e := kb_Dn (κ := κ) (i := k) (by omega) (by omega) q2
        rw [e] at K
        exact K
theorem yb_endOf (hκ : ∀ i, b_kind i = nI (κ i)) (h12 : ∀ i, κ i ≤ 12) (hn40 : n ≤ 40) (hn : kb_D κ n = 0) (hg : g_n = nI n) {i : Nat} (hi : i < n) (hk : κ i = 7 ∨ κ i = 10) (hD3 : ∀ m, m ≤ n → kb_D κ m ≤ 40) {post : Int32 → Prop} (h : post (nI (kb_en κ n i))) : wpY_endOf post (g_n, g_printed, b_kind, b_a, b_b, b_c, b_var, b_out, b_left) (nI i) := by
  subst hg
  obtain ⟨a1, a2, a3, a5, a6, a4⟩ := kb_en1 hn hi hk
  have K := yb_el (g_printed := g_printed) (b_a := b_a) (b_b := b_b) (b_c := b_c) (b_var := b_var) (b_out := b_out) (b_left := b_left) hκ h12 hn40 hn hi hk hD3 h (kb_en κ n i - i) i (by omega) (Nat.le_refl _)
  rw [Nat.sub_self] at K
  exact ⟨_, K⟩
theorem yb_ol (hκ : ∀ i, b_kind i = nI (κ i)) (h12 : ∀ i, κ i ≤ 12) {i : Nat} (hi : i ≤ 40) (hK : ∀ m, m < i → κ m = 11 → 0 < kb_D κ m) (hD3 : ∀ m, m ≤ i → kb_D κ m ≤ 40) {post : Int32 → Prop} (h1 : 0 < kb_D κ i → post (nI (kb_op κ i))) (h0 : kb_D κ i = 0 → post (-1)) : ∀ p : Nat, p ≤ i → (∀ m, p ≤ m → m ≤ i → kb_D κ i ≤ kb_D κ m) → wY_openerOf_6 post g_n g_printed b_kind b_a b_b b_c b_var b_out b_left (p + 1) (nI (kb_D κ p + 1 - kb_D κ i)) (nI p + (-1)) := by
  intro p
  induction p with
  | zero =>
    intro _ hm
    have := hm 0 (Nat.le_refl _) (by omega)
    have e0 : kb_D κ 0 = 0 := rfl
    exact br_t (by decide) (h0 (by omega))
  | succ k ih =>
    intro hp hm
    have hpk := hm (k + 1) (Nat.le_refl _) hp
    have b1 := hD3 (k + 1) hp
    have b2 := hD3 k (by omega)
    have hs := kb_D1 (κ := κ) k
    have K : wY_openerOf_35 post (wY_openerOf_6 post g_n g_printed b_kind b_a b_b b_c b_var b_out b_left (k + 1)) (nI (kb_D κ k + 1 - kb_D κ i)) (nI k) g_n g_printed b_kind b_a b_b b_c b_var b_out b_left := by
      refine pk_eq (kb_D κ k + 1 - kb_D κ i) 0 (fun q => ?_) (fun q => nm_e (ih (by omega) (fun m q1 q2 => ?_)))
      · have : kb_op κ i = k := kb_op2 (by omega) (by omega) (fun m q1 q2 => hm m (by omega) (by omega))
        rw [← this]
        exact h1 (by omega)
      · by_cases q3 : m = k
        · subst q3; omega
        · exact hm m (by omega) q2
    rw [pk_m1]
    refine br_f (nI_pos (by omega)) ⟨vp_in_nI (by omega) (by decide), kk_eq hκ h12 (by omega) 11 (fun q => ?_) (fun q => ?_)⟩
    · have e := kb_De q
      have e2 := hK k (by omega) q
      refine nm_r (nI_1 _) (yb_opens hκ h12 (by omega) (fun q2 => absurd q2 (by omega)) (fun _ => br_t rfl ?_))
      rw [show kb_D κ (k + 1) + 1 - kb_D κ i + 1 = kb_D κ k + 1 - kb_D κ i from by omega]
      exact K
    · refine yb_opens hκ h12 (by omega) (fun q2 => br_f (by decide) ?_) (fun q2 => br_t rfl ?_)
      · have e := kb_Do q2
        rw [show kb_D κ (k + 1) + 1 - kb_D κ i = (kb_D κ k + 1 - kb_D κ i) + 1 from by omega]
        exact nm_r (pk_m1 _) K
      · have e := kb_Dn (κ := κ) (i := k) (by omega) (by omega) q
        rw [e]
        exact K
theorem yb_op (hκ : ∀ i, b_kind i = nI (κ i)) (h12 : ∀ i, κ i ≤ 12) {i : Nat} (hi : i ≤ 40) (hK : ∀ m, m < i → κ m = 11 → 0 < kb_D κ m) (hD3 : ∀ m, m ≤ i → kb_D κ m ≤ 40) {post : Int32 → Prop} (h1 : 0 < kb_D κ i → post (nI (kb_op κ i))) (h0 : kb_D κ i = 0 → post (-1)) : wpY_openerOf post (g_n, g_printed, b_kind, b_a, b_b, b_c, b_var, b_out, b_left) (nI i) := by
  have K := yb_ol (g_n := g_n) (g_printed := g_printed) (b_a := b_a) (b_b := b_b) (b_c := b_c) (b_var := b_var) (b_out := b_out) (b_left := b_left) hκ h12 hi hK hD3 h1 h0 i (Nat.le_refl _) (fun m q1 q2 => by rw [show m = i from by omega]; exact Nat.le_refl _)
  rw [show kb_D κ i + 1 - kb_D κ i = 1 from by omega] at K
  exact nm_r (e' := nI i + (-1)) (by rw [Int32.sub_eq_add_neg]) ⟨_, K⟩
theorem yb_ml (hκ : ∀ i, b_kind i = nI (κ i)) (h12 : ∀ i, κ i ≤ 12) {o m e : Nat} (he : e ≤ 40) (ho : o < 40) (hm : m < 1000) (hK : ∀ j, j < e → κ j = 11 → 0 < kb_D κ j) (hD3 : ∀ j, j ≤ e → kb_D κ j ≤ 40) {post : Int32 → Prop} (h1 : ∀ k, o < k → k < e → kb_M κ o m k → (∀ j, o < j → j < k → ¬ kb_M κ o m j) → post (nI k)) (h0 : (∀ k, o < k → k < e → ¬ kb_M κ o m k) → post (-1)) : ∀ d k : Nat, k + d = e → o < k → (∀ j, o < j → j < k → ¬ kb_M κ o m j) → wY_markOf_5 post (nI o) (nI m) (nI e) g_n g_printed b_kind b_a b_b b_c b_var b_out b_left (d + 1) (nI k) := by
  intro d
  induction d with
  | zero =>
    intro k hk hok hj
    have : k = e := by omega
    subst this
    exact pk_le k k (fun _ => h0 hj) (fun q => absurd q (by omega))
  | succ d ih =>
    intro k hk hok hj
    have go : ¬ kb_M κ o m k → wY_markOf_5 post (nI o) (nI m) (nI e) g_n g_printed b_kind b_a b_b b_c b_var b_out b_left (d + 1) (nI (k + 1)) := fun hM => ih (k + 1) (by omega) (by omega) (fun j q1 q2 => by
      by_cases q3 : j = k
      · subst q3; exact hM
      · exact hj j q1 (by omega))
    refine pk_le e k (fun q => absurd q (by omega)) (fun _ => ⟨vp_in_nI (by omega) (by decide), kk_eq hκ h12 (by omega) m (fun q => ?_) (fun q => nm_r (nI_1 k) (go (fun hM => q hM.2.1)))⟩)
    refine yb_op hκ h12 (by omega) (fun j q1 q2 => hK j (by omega) q2) (fun j q1 => hD3 j (by omega)) (fun q2 => ?_) (fun q2 => ?_)
    · have b := (kb_op1 q2).1
      refine pk_eq (kb_op κ k) o (fun q3 => h1 k hok (by omega) ⟨hok, q, q3, q2⟩ hj) (fun q3 => nm_r (nI_1 k) (go (fun hM => q3 hM.2.2.1)))
    · refine br_f (fun q3 => ?_) (nm_r (nI_1 k) (go (fun hM => absurd hM.2.2.2 (by omega))))
      have h3 : ¬ nI o < 0 := nI_pos (by omega)
      rw [← q3] at h3
      exact h3 (by decide)
theorem yb_mk (hκ : ∀ i, b_kind i = nI (κ i)) (h12 : ∀ i, κ i ≤ 12) {o m e : Nat} (he : e ≤ 40) (ho : o < e) (hm : m < 1000) (hK : ∀ j, j < e → κ j = 11 → 0 < kb_D κ j) (hD3 : ∀ j, j ≤ e → kb_D κ j ≤ 40) {post : Int32 → Prop} (h1 : ∀ k, o < k → k < e → kb_M κ o m k → (∀ j, o < j → j < k → ¬ kb_M κ o m j) → post (nI k)) (h0 : (∀ k, o < k → k < e → ¬ kb_M κ o m k) → post (-1)) : wpY_markOf post (g_n, g_printed, b_kind, b_a, b_b, b_c, b_var, b_out, b_left) (nI o) (nI m) (nI e) :=
  nm_r (nI_1 o) ⟨_, yb_ml hκ h12 he (by omega) hm hK hD3 h1 h0 (e - (o + 1)) (o + 1) (by omega) (by omega) (fun j q1 q2 => absurd q2 (by omega))⟩
theorem yb_mf (hκ : ∀ i, b_kind i = nI (κ i)) (h12 : ∀ i, κ i ≤ 12) {i : Nat} (hi : i < 40) (hK : ∀ m, m < i → κ m = 11 → 0 < kb_D κ m) (hD3 : ∀ m, m ≤ i → kb_D κ m ≤ 40) {post : Int32 → Prop} (h1 : kb_MF κ i → post 1) (h0 : ¬ kb_MF κ i → post 0) : wpY_markFits post (g_n, g_printed, b_kind, b_a, b_b, b_c, b_var, b_out, b_left) (nI i) := by
  refine yb_op hκ h12 (by omega) hK hD3 (fun q => ?_) (fun q => br_t (by decide) (h0 (fun hM => absurd hM.1 (by omega))))
  obtain ⟨b1, b2, b3, b4⟩ := kb_op1 (κ := κ) (i := i) q
  refine br_f (nI_pos (by omega)) ⟨vp_in_nI (by omega) (by decide), kk_eq hκ h12 (by omega) 7 (fun q7 => ⟨vp_in_nI (by omega) (by decide), ?_⟩) (fun q7 => h0 (fun hM => q7 hM.2.1))⟩
  rw [show b_kind (nI i).toNatClampNeg = nI (κ i) from by rw [nI_clamp (by omega), hκ]]
  have h12i := h12 i
  refine yb_mk hκ h12 (by omega) b1 (by omega) hK hD3 (fun k q1 q2 q3 _ => br_t (nI_pos' (by omega)) (h0 (fun hM => (hM.2.2 k q2).2 q3))) (fun q3 => br_f (by decide) ?_)
  refine yb_mk hκ h12 (m := 9) (by omega) b1 (by omega) hK hD3 (fun k q1 q2 q4 _ => br_t (nI_pos' (by omega)) (h0 (fun hM => (hM.2.2 k q2).1 q4))) (fun q4 => br_f (by decide) (h1 ⟨q, q7, fun k hk => ⟨fun hM => q4 k hM.1 hk hM, fun hM => q3 k hM.1 hk hM⟩⟩))
theorem kb_K1 {i : Nat} (hK : kb_K κ i) (hG : kb_G κ i) : kb_K κ (i + 1) := fun m hm => by
  by_cases q : m = i
  · subst q; exact hG
  · exact hK m (by omega)
theorem kb_K3 {i : Nat} (hK : kb_K κ i) : kb_D κ i ≤ 3 := by
  induction i with
  | zero => exact Nat.zero_le _
  | succ i ih =>
    have h := ih (fun m hm => hK m (by omega))
    have g := (hK i (by omega)).2.1
    by_cases q : κ i = 7 ∨ κ i = 10
    · have := g q; rw [kb_Do q]; omega
    · have := kb_D1 (κ := κ) i
      have q2 : ¬ kb_D κ i < kb_D κ (i + 1) := fun h => q (kb_D2 h)
      omega
theorem kb_K4 {i : Nat} (hK : kb_K κ i) : ∀ m, m ≤ i → kb_D κ m ≤ 40 := fun m hm => by
  have := kb_K3 (κ := κ) (i := m) (fun j hj => hK j (by omega)); omega
theorem kb_K5 {i : Nat} (hK : kb_K κ i) : ∀ m, m < i → κ m = 11 → 0 < kb_D κ m := fun m hm => (hK m hm).1
theorem yb_sl (hκ : ∀ i, b_kind i = nI (κ i)) (h12 : ∀ i, κ i ≤ 12) (hn40 : n ≤ 40) {post : Int32 → Prop} (h1 : kb_S κ n → post 1) (h0 : ¬ kb_S κ n → post 0) : ∀ d i : Nat, i + d = n → kb_K κ i → wY_sound_4 post (nI n) g_printed b_kind b_a b_b b_c b_var b_out b_left (d + 1) (nI (kb_D κ i)) (nI i) := by
  intro d
  induction d with
  | zero =>
    intro i hi hK
    have : i = n := by omega
    subst this
    have b := kb_K3 hK
    exact pk_le i i (fun _ => pk_eq (kb_D κ i) 0 (fun q => h1 ⟨hK, q⟩) (fun q => h0 (fun hS => q hS.2))) (fun q => absurd q (by omega))
  | succ d ih =>
    intro i hi hK
    have b := kb_K3 hK
    have h12i := h12 i
    have bad : ¬ kb_G κ i → post 0 := fun q => h0 (fun hS => q (hS.1 i (by omega)))
    have go : kb_G κ i → ∀ x : Int32, x = nI (kb_D κ (i + 1)) → ∀ y : Int32, y = nI i + 1 → wY_sound_4 post (nI n) g_printed b_kind b_a b_b b_c b_var b_out b_left (d + 1) x y := fun hG x hx y hy => by
      subst hx; subst hy; rw [nI_1]; exact ih (i + 1) (by omega) (kb_K1 hK hG)
    have hin : vp_in (nI i) 40 := vp_in_nI (by omega) (by decide)
    have K : ¬ (κ i = 11 ∧ kb_D κ i = 0) → ¬ ((κ i = 7 ∨ κ i = 10) ∧ kb_D κ i = 3) → ∀ x : Int32, x = nI (kb_D κ (i + 1)) → wY_sound_37 post (wY_sound_4 post (nI n) g_printed b_kind b_a b_b b_c b_var b_out b_left (d + 1)) x (nI i) (nI n) g_printed b_kind b_a b_b b_c b_var b_out b_left := by
      intro c1 c2 x hx
      have hD4 : kb_D κ (i + 1) ≤ 3 := by
        have := kb_D1 (κ := κ) i
        by_cases q : κ i = 7 ∨ κ i = 10
        · omega
        · have q2 : ¬ kb_D κ i < kb_D κ (i + 1) := fun h => q (kb_D2 h)
          omega
      subst hx
      refine br_f (nI_pos (by omega)) (br_t (nI_le (b := 3) hD4 (by decide)) ⟨hin, kk_eq hκ h12 (by omega) 8 (fun q => ?_) (fun q => ⟨hin, kk_eq hκ h12 (by omega) 9 (fun q' => ?_) (fun q' => ?_)⟩)⟩)
      · refine yb_mf hκ h12 (by omega) (kb_K5 hK) (kb_K4 hK) (fun hM => br_f (by decide) (go ⟨fun q => by omega, fun q => by omega, fun _ => hM⟩ _ rfl)) (fun hM => br_t rfl (bad (fun hG => hM (hG.2.2 (Or.inl q)))))
      · refine yb_mf hκ h12 (by omega) (kb_K5 hK) (kb_K4 hK) (fun hM => br_f (by decide) (go ⟨fun q => by omega, fun q => by omega, fun _ => hM⟩ _ rfl)) (fun hM => br_t rfl (bad (fun hG => hM (hG.2.2 (Or.inr q')))))
      · exact go ⟨fun q1 => by omega, fun q1 => by omega, fun q1 => by omega⟩ _ rfl
    refine pk_le n i (fun hh => absurd hh (by omega)) (fun _ => yb_opens hκ h12 (by omega) (fun q => br_f (by decide) (nm_r (nI_1 _) ⟨hin, kk_eq hκ h12 (by omega) 11 (fun q2 => absurd q (by omega)) (fun q2 => ?_)⟩)) (fun q => br_t rfl ⟨hin, kk_eq hκ h12 (by omega) 11 (fun q2 => ?_) (fun q2 => ?_)⟩))
    · by_cases q3 : kb_D κ i = 3
      · rw [q3]
        exact br_f (by decide) (br_f (by decide) (bad (fun hG => absurd (hG.2.1 q) (by omega))))
      · exact K (by omega) (by omega) _ (by rw [kb_Do q])
    · by_cases q3 : kb_D κ i = 0
      · rw [q3]
        exact nm_e (br_t (by decide) (bad (fun hG => absurd (hG.1 q2) (by omega))))
      · obtain ⟨c, hc⟩ : ∃ c, kb_D κ i = c + 1 := ⟨kb_D κ i - 1, by omega⟩
        refine nm_r (e' := nI c) (by rw [hc, pk_m1]) (K (by omega) (by omega) _ (by rw [kb_De q2, hc]; rfl))
    · exact K (by omega) (by omega) _ (by rw [kb_Dn (by omega) (by omega) q2])
theorem yb_sound (hκ : ∀ i, b_kind i = nI (κ i)) (h12 : ∀ i, κ i ≤ 12) (hn40 : n ≤ 40) (hg : g_n = nI n) {post : Int32 → Prop} (h1 : kb_S κ n → post 1) (h0 : ¬ kb_S κ n → post 0) : wpY_sound post (g_n, g_printed, b_kind, b_a, b_b, b_c, b_var, b_out, b_left) := by
  subst hg
  exact ⟨n + 1, yb_sl hκ h12 hn40 h1 h0 n 0 (by omega) (fun m hm => absurd hm (by omega))⟩
end
end
section
/-! ===== X's blocksFit ===== -/
theorem vn_b : ∀ k, k < 128 → vp_nar .byte (nI k).toInt8.toInt32 = nI k := by
  intro k hk
  rw [vp_nar_byte]
  exact (by decide +kernel : ∀ k, k < 128 → (nI k).toInt8.toInt32.toInt8.toInt32 = nI k) k hk
theorem vn_s : ∀ k, k < 1024 → vp_nar .short (nI k).toInt16.toInt32 = nI k := by
  intro k hk
  rw [vp_nar_short]
  exact (by decide +kernel : ∀ k, k < 1024 → (nI k).toInt16.toInt32.toInt16.toInt32 = nI k) k hk
theorem vn_m1 : vp_nar .short (-1) = -1 := by rw [vp_nar_short]; decide
/-- what blocksFit has in openKind for the block of o, before statement i -/
def xb_Q (κ : Nat → Nat) (i o : Nat) (q : Int32) : Prop := (κ o = 10 ∧ q = 10) ∨ (κ o = 7 ∧ ((q = 7 ∧ (∀ k, k < i → ¬ kb_M κ o 8 k) ∧ (∀ k, k < i → ¬ kb_M κ o 9 k)) ∨ (q = 8 ∧ (∃ k, k < i ∧ kb_M κ o 8 k) ∧ (∀ k, k < i → ¬ kb_M κ o 9 k)) ∨ (q = 9 ∧ ∃ k, k < i ∧ kb_M κ o 9 k)))
def xb_I (κ : Nat → Nat) (i : Nat) (ok : Nat → Int32) : Prop := kb_K κ i ∧ ∀ o, kb_O κ o i → xb_Q κ i o (ok (kb_D κ o))
section
variable {κ : Nat → Nat}
theorem xb_nm {i o m : Nat} (h8 : κ i ≠ 8) (h9 : κ i ≠ 9) (hm : m = 8 ∨ m = 9) : ¬ kb_M κ o m i := fun h => by have := h.2.1; omega
theorem xb_s1 {i o : Nat} (h : ∀ m, m = 8 ∨ m = 9 → ¬ kb_M κ o m i) {q : Int32} (hQ : xb_Q κ i o q) : xb_Q κ (i + 1) o q := by
  have N : ∀ m, m = 8 ∨ m = 9 → (∀ k, k < i → ¬ kb_M κ o m k) → ∀ k, k < i + 1 → ¬ kb_M κ o m k := by
    intro m hm hn k hk
    by_cases e : k = i
    · subst e; exact h m hm
    · exact hn k (by omega)
  rcases hQ with ⟨a, b⟩ | ⟨a, ⟨b, c, d⟩ | ⟨b, ⟨k, c, c'⟩, d⟩ | ⟨b, k, c, c'⟩⟩
  · exact Or.inl ⟨a, b⟩
  · exact Or.inr ⟨a, Or.inl ⟨b, N 8 (Or.inl rfl) c, N 9 (Or.inr rfl) d⟩⟩
  · exact Or.inr ⟨a, Or.inr (Or.inl ⟨b, ⟨k, by omega, c'⟩, N 9 (Or.inr rfl) d⟩)⟩
  · exact Or.inr ⟨a, Or.inr (Or.inr ⟨b, k, by omega, c'⟩)⟩
/-- a statement that is no mark and opens nothing -/
theorem xb_st0 {i : Nat} {ok : Nat → Int32} (h : xb_I κ i ok) (hG : kb_G κ i) (h7 : κ i ≠ 7) (h10 : κ i ≠ 10) (h8 : κ i ≠ 8) (h9 : κ i ≠ 9) : xb_I κ (i + 1) ok := by
  refine ⟨kb_K1 h.1 hG, fun o ho => ?_⟩
  have ne : o ≠ i := fun e => by subst e; have := kb_O2 ho; omega
  exact xb_s1 (fun m hm => xb_nm h8 h9 hm) (h.2 o (kb_O1 ho ne))
theorem xb_st1 {i : Nat} {ok : Nat → Int32} (h : xb_I κ i ok) (hG : kb_G κ i) (h7 : κ i = 7 ∨ κ i = 10) : xb_I κ (i + 1) (upd ok (kb_D κ i) (nI (κ i))) := by
  refine ⟨kb_K1 h.1 hG, fun o ho => ?_⟩
  by_cases e : o = i
  · subst e
    rw [pk_us]
    rcases h7 with q | q
    · rw [q]
      exact Or.inr ⟨q, Or.inl ⟨rfl, fun k hk hM => by have := hM.1; omega, fun k hk hM => by have := hM.1; omega⟩⟩
    · rw [q]
      exact Or.inl ⟨q, rfl⟩
  · have ho' := kb_O1 ho e
    have := ho'.2 i ho'.1 (Nat.le_refl _)
    rw [pk_un (by omega)]
    exact xb_s1 (fun m hm => xb_nm (by omega) (by omega) hm) (h.2 o ho')
theorem xb_st2 {i : Nat} {ok : Nat → Int32} (h : xb_I κ i ok) (hM : kb_MF κ i) (h8 : κ i = 8 ∨ κ i = 9) : xb_I κ (i + 1) (upd ok (kb_D κ i - 1) (nI (κ i))) := by
  obtain ⟨b1, b2, b3, b4⟩ := kb_op1 (κ := κ) (i := i) hM.1
  refine ⟨kb_K1 h.1 ⟨fun q => by omega, fun q => by omega, fun _ => hM⟩, fun o ho => ?_⟩
  have ne : o ≠ i := fun e => by subst e; have := kb_O2 ho; omega
  have ho' := kb_O1 ho ne
  by_cases e : o = kb_op κ i
  · subst e
    rw [show kb_D κ (kb_op κ i) = kb_D κ i - 1 from by omega, pk_us]
    have hMi : ∀ m, κ i = m → kb_M κ (kb_op κ i) m i := fun m hm => ⟨b1, hm, rfl, hM.1⟩
    rcases h8 with q | q
    · rw [q]
      refine Or.inr ⟨hM.2.1, Or.inr (Or.inl ⟨rfl, ⟨i, by omega, hMi 8 q⟩, fun k hk h9 => ?_⟩)⟩
      by_cases e : k = i
      · subst e; have := h9.2.1; omega
      · exact (hM.2.2 k (by omega)).1 h9
    · rw [q]
      exact Or.inr ⟨hM.2.1, Or.inr (Or.inr ⟨rfl, i, by omega, hMi 9 q⟩)⟩
  · have e2 : kb_D κ o ≠ kb_D κ i - 1 := by
      intro e3
      exact e (kb_O6 ho' (by omega)).symm
    rw [pk_un e2]
    exact xb_s1 (fun m hm hM' => e hM'.2.2.1.symm) (h.2 o ho')
/-- the test of a mark -/
theorem xb_t {i : Nat} {ok : Nat → Int32} (h : xb_I κ i ok) (h8 : κ i = 8 ∨ κ i = 9) (hD : 0 < kb_D κ i) :
    (ok (kb_D κ i - 1) = 10 ∧ ¬ kb_MF κ i) ∨ (ok (kb_D κ i - 1) = 9 ∧ ¬ kb_MF κ i) ∨ (ok (kb_D κ i - 1) = 8 ∧ κ i = 8 ∧ ¬ kb_MF κ i) ∨ (ok (kb_D κ i - 1) = 8 ∧ κ i = 9 ∧ kb_MF κ i) ∨ (ok (kb_D κ i - 1) = 7 ∧ kb_MF κ i) := by
  obtain ⟨b1, b2, b3, b4⟩ := kb_op1 (κ := κ) (i := i) hD
  have hQ := h.2 _ (kb_O4 hD)
  rw [show kb_D κ (kb_op κ i) = kb_D κ i - 1 from by omega] at hQ
  rcases hQ with ⟨a, b⟩ | ⟨a, ⟨b, c, d⟩ | ⟨b, ⟨k, c, c'⟩, d⟩ | ⟨b, k, c, c'⟩⟩
  · exact Or.inl ⟨b, fun hM => by have := hM.2.1; omega⟩
  · refine Or.inr (Or.inr (Or.inr (Or.inr ⟨b, hD, a, fun k hk => ⟨d k hk, ?_⟩⟩)))
    rcases h8 with q | q
    · rw [q]; exact c k hk
    · rw [q]; exact d k hk
  · rcases h8 with q | q
    · exact Or.inr (Or.inr (Or.inl ⟨b, q, fun hM => (hM.2.2 k c).2 (by rw [q]; exact c')⟩))
    · refine Or.inr (Or.inr (Or.inr (Or.inl ⟨b, q, hD, a, fun k hk => ⟨d k hk, by rw [q]; exact d k hk⟩⟩)))
  · exact Or.inr (Or.inl ⟨b, fun hM => (hM.2.2 k c).1 c'⟩)
end
section
variable {f_length f_compiled f_isSound f_codeEnd f_poolEnd f_openCount f_accumulator f_place f_running f_printedCount : Int32} {a_kind a_first a_second a_third a_openKind a_openTop a_openCell a_zeroJump a_posJump a_leaveFirst a_leaveSecond a_memory a_printedWords : Nat → Int32} {κ : Nat → Nat} {n : Nat}
theorem xb_l (hκ : ∀ i, a_kind i = nI (κ i)) (h12 : ∀ i, κ i ≤ 12) (hn40 : n ≤ 40) {post : Int32 → SX → Prop} (h1 : ∀ ok : Nat → Int32, kb_S κ n → post 1 (nI n, f_compiled, f_isSound, f_codeEnd, f_poolEnd, f_openCount, f_accumulator, f_place, f_running, f_printedCount, a_kind, a_first, a_second, a_third, ok, a_openTop, a_openCell, a_zeroJump, a_posJump, a_leaveFirst, a_leaveSecond, a_memory, a_printedWords)) (h0 : ∀ ok : Nat → Int32, ¬ kb_S κ n → post 0 (nI n, f_compiled, f_isSound, f_codeEnd, f_poolEnd, f_openCount, f_accumulator, f_place, f_running, f_printedCount, a_kind, a_first, a_second, a_third, ok, a_openTop, a_openCell, a_zeroJump, a_posJump, a_leaveFirst, a_leaveSecond, a_memory, a_printedWords)) : ∀ (d i : Nat) (ok : Nat → Int32), i + d = n → xb_I κ i ok → wX_blocksFit_4 post (nI n) f_compiled f_isSound f_codeEnd f_poolEnd f_openCount f_accumulator f_place f_running f_printedCount (d + 1) (nI (kb_D κ i)) (nI i) a_kind a_first a_second a_third ok a_openTop a_openCell a_zeroJump a_posJump a_leaveFirst a_leaveSecond a_memory a_printedWords := by
  intro d
  induction d with
  | zero =>
    intro i ok hi hI
    have : i = n := by omega
    subst this
    have b := kb_K3 hI.1
    exact pk_le i i (fun _ => pk_eq (kb_D κ i) 0 (fun q => h1 ok ⟨hI.1, q⟩) (fun q => h0 ok (fun hS => q hS.2))) (fun q => absurd q (by omega))
  | succ d ih =>
    intro i ok hi hI
    have b := kb_K3 hI.1
    have h12i := h12 i
    have bad : ¬ kb_G κ i → post 0 (nI n, f_compiled, f_isSound, f_codeEnd, f_poolEnd, f_openCount, f_accumulator, f_place, f_running, f_printedCount, a_kind, a_first, a_second, a_third, ok, a_openTop, a_openCell, a_zeroJump, a_posJump, a_leaveFirst, a_leaveSecond, a_memory, a_printedWords) := fun q => h0 ok (fun hS => q (hS.1 i (by omega)))
    have hin : vp_in (nI i) 40 := vp_in_nI (by omega) (by decide)
    have K31 : κ i = 7 ∨ κ i = 10 → wX_blocksFit_31 post (wX_blocksFit_4 post (nI n) f_compiled f_isSound f_codeEnd f_poolEnd f_openCount f_accumulator f_place f_running f_printedCount (d + 1)) (nI (kb_D κ i)) (nI i) (nI (κ i)) (nI n) f_compiled f_isSound f_codeEnd f_poolEnd f_openCount f_accumulator f_place f_running f_printedCount a_kind a_first a_second a_third ok a_openTop a_openCell a_zeroJump a_posJump a_leaveFirst a_leaveSecond a_memory a_printedWords := by
      intro q
      refine pk_eq (kb_D κ i) 3 (fun q3 => bad (fun hG => absurd (hG.2.1 q) (by omega))) (fun q3 => ⟨vp_in_nI (by omega) (by decide), ?_⟩)
      rw [vn_b _ (by omega), nI_clamp (by omega)]
      refine nm_e (nm_r (nI_1 _) (nm_r (nI_1 i) ?_))
      rw [← kb_Do q]
      exact ih (i + 1) _ (by omega) (xb_st1 hI ⟨fun q1 => by omega, fun q1 => by omega, fun q1 => by omega⟩ q)
    have K64 : κ i = 8 ∨ κ i = 9 → wX_blocksFit_64 post (wX_blocksFit_4 post (nI n) f_compiled f_isSound f_codeEnd f_poolEnd f_openCount f_accumulator f_place f_running f_printedCount (d + 1)) (nI (kb_D κ i)) (nI i) (nI (κ i)) (nI n) f_compiled f_isSound f_codeEnd f_poolEnd f_openCount f_accumulator f_place f_running f_printedCount a_kind a_first a_second a_third ok a_openTop a_openCell a_zeroJump a_posJump a_leaveFirst a_leaveSecond a_memory a_printedWords := by
      intro q
      have badM : ¬ kb_MF κ i → post 0 (nI n, f_compiled, f_isSound, f_codeEnd, f_poolEnd, f_openCount, f_accumulator, f_place, f_running, f_printedCount, a_kind, a_first, a_second, a_third, ok, a_openTop, a_openCell, a_zeroJump, a_posJump, a_leaveFirst, a_leaveSecond, a_memory, a_printedWords) := fun hM => bad (fun hG => hM (hG.2.2 q))
      by_cases q0 : kb_D κ i = 0
      · rw [q0]
        exact br_t rfl (badM (fun hM => by have := hM.1; omega))
      · obtain ⟨c, hc⟩ : ∃ c, kb_D κ i = c + 1 := ⟨kb_D κ i - 1, by omega⟩
        have ht := xb_t hI q (by omega)
        rw [show kb_D κ i - 1 = c from by omega] at ht
        have hc4 : vp_in (nI c) 4 := vp_in_nI (by omega) (by decide)
        have K117 : kb_MF κ i → wX_blocksFit_117 post (wX_blocksFit_4 post (nI n) f_compiled f_isSound f_codeEnd f_poolEnd f_openCount f_accumulator f_place f_running f_printedCount (d + 1)) (nI (kb_D κ i)) (nI i) (nI (κ i)) (nI n) f_compiled f_isSound f_codeEnd f_poolEnd f_openCount f_accumulator f_place f_running f_printedCount a_kind a_first a_second a_third ok a_openTop a_openCell a_zeroJump a_posJump a_leaveFirst a_leaveSecond a_memory a_printedWords := by
          intro hM
          unfold wX_blocksFit_117
          rw [show nI (kb_D κ i) - 1 = nI c from by rw [hc, nI_pred], vn_b _ (by omega), nI_clamp (by omega)]
          refine ⟨hc4, nm_e (nm_r (nI_1 i) ?_)⟩
          have e := kb_Dn (κ := κ) (i := i) (by omega) (by omega) (by omega)
          rw [← e]
          have S := xb_st2 hI hM q
          rw [show kb_D κ i - 1 = c from by omega] at S
          exact ih (i + 1) _ (by omega) S
        unfold wX_blocksFit_64
        rw [show nI (kb_D κ i) - 1 = nI c from by rw [hc, nI_pred], nI_clamp (n := c) (by omega)]
        refine br_f (nI_ne0 (by omega) (by omega)) ⟨hc4, ?_⟩
        rcases ht with ⟨a, a'⟩ | ⟨a, a'⟩ | ⟨a, a', a''⟩ | ⟨a, a', a''⟩ | ⟨a, a'⟩
        · exact br_t a (badM a')
        · rw [a]
          exact br_f (by decide) ⟨hc4, br_t rfl (badM a')⟩
        · rw [a]
          exact br_f (by decide) ⟨hc4, br_f (by decide) ⟨hc4, br_t rfl (br_t (by rw [a']; rfl) (badM a''))⟩⟩
        · rw [a]
          exact br_f (by decide) ⟨hc4, br_f (by decide) ⟨hc4, br_t rfl (br_f (by rw [a']; decide) (K117 a''))⟩⟩
        · rw [a]
          exact br_f (by decide) ⟨hc4, br_f (by decide) ⟨hc4, br_f (by decide) (K117 a')⟩⟩
    refine pk_le n i (fun hh => absurd hh (by omega)) (fun _ => ⟨hin, nm_r (e' := nI (κ i)) (by rw [nI_clamp (by omega), hκ]) ?_⟩)
    refine pk_eq (κ i) 7 (fun q => K31 (Or.inl q)) (fun q7 => pk_eq (κ i) 10 (fun q => K31 (Or.inr q)) (fun q10 => pk_eq (κ i) 8 (fun q => K64 (Or.inl q)) (fun q8 => pk_eq (κ i) 9 (fun q => K64 (Or.inr q)) (fun q9 => pk_eq (κ i) 11 (fun q11 => ?_) (fun q11 => ?_)))))
    · by_cases q0 : kb_D κ i = 0
      · rw [q0]
        exact br_t rfl (bad (fun hG => absurd (hG.1 q11) (by omega)))
      · obtain ⟨c, hc⟩ : ∃ c, kb_D κ i = c + 1 := ⟨kb_D κ i - 1, by omega⟩
        refine br_f (nI_ne0 (by omega) (by omega)) (nm_r (e' := nI c) (by rw [hc, pk_m1]) (nm_r (nI_1 i) ?_))
        have e : kb_D κ (i + 1) = c := by rw [kb_De q11]; omega
        rw [← e]
        exact ih (i + 1) ok (by omega) (xb_st0 hI ⟨fun _ => by omega, fun q => by omega, fun q => by omega⟩ q7 q10 q8 q9)
    · refine nm_r (nI_1 i) ?_
      have e := kb_Dn (κ := κ) (i := i) q7 q10 q11
      rw [← e]
      exact ih (i + 1) ok (by omega) (xb_st0 hI ⟨fun _ => by omega, fun q => by omega, fun q => by omega⟩ q7 q10 q8 q9)
theorem xb_fit (hκ : ∀ i, a_kind i = nI (κ i)) (h12 : ∀ i, κ i ≤ 12) (hn40 : n ≤ 40) (hl : f_length = nI n) {post : Int32 → SX → Prop} (h1 : ∀ ok : Nat → Int32, kb_S κ n → post 1 (f_length, f_compiled, f_isSound, f_codeEnd, f_poolEnd, f_openCount, f_accumulator, f_place, f_running, f_printedCount, a_kind, a_first, a_second, a_third, ok, a_openTop, a_openCell, a_zeroJump, a_posJump, a_leaveFirst, a_leaveSecond, a_memory, a_printedWords)) (h0 : ∀ ok : Nat → Int32, ¬ kb_S κ n → post 0 (f_length, f_compiled, f_isSound, f_codeEnd, f_poolEnd, f_openCount, f_accumulator, f_place, f_running, f_printedCount, a_kind, a_first, a_second, a_third, ok, a_openTop, a_openCell, a_zeroJump, a_posJump, a_leaveFirst, a_leaveSecond, a_memory, a_printedWords)) : wpX_blocksFit post (f_length, f_compiled, f_isSound, f_codeEnd, f_poolEnd, f_openCount, f_accumulator, f_place, f_running, f_printedCount, a_kind, a_first, a_second, a_third, a_openKind, a_openTop, a_openCell, a_zeroJump, a_posJump, a_leaveFirst, a_leaveSecond, a_memory, a_printedWords) := by
  subst hl
  exact ⟨n + 1, xb_l hκ h12 hn40 h1 h0 n 0 a_openKind (by omega) ⟨fun m hm => absurd hm (by omega), fun o ho => absurd ho.1 (by omega)⟩⟩
end
end
section
/-! ===== the code of a program ===== -/
def kb_sz (κ : Nat → Nat) (i : Nat) : Nat := if κ i = 0 then 2 else if κ i ≤ 7 then 3 else if κ i ≤ 9 then 1 else if κ i = 10 then 4 else if κ i = 11 then (if κ (kb_op κ i) = 10 then 4 else 0) else 1
def kb_A (κ : Nat → Nat) : Nat → Nat
  | 0 => 0
  | i + 1 => kb_A κ i + kb_sz κ i
def kb_P (κ : Nat → Nat) : Nat → Nat
  | 0 => 510
  | i + 1 => kb_P κ i + (if κ i = 0 then 1 else if κ i = 10 then 2 else 0)
def kb_iw (o c : Nat) : Int32 := tt_w (729 * (o : Int) + c - 364)
def kb_oc (k : Nat) : Nat := if k = 4 then 7 else if k = 5 then 8 else if k = 1 then 3 else if k = 2 then 4 else if k = 3 then 5 else 6
def kb_I (κ : Nat → Nat) (n : Nat) (fi se th : Nat → Nat) (i f : Nat) : Nat × Nat :=
  if κ i = 0 then (if f = 0 then (1, kb_P κ i) else (2, 500 + se i))
  else if κ i ≤ 6 then (if f = 0 then (1, 500 + se i) else if f = 1 then (kb_oc (κ i), if κ i = 4 ∨ κ i = 5 then 364 else 500 + th i) else (2, 500 + fi i))
  else if κ i = 7 then (if f = 0 then (1, 500 + fi i) else if f = 1 then (10, kb_A κ (kb_ch κ n i 8)) else (11, kb_A κ (kb_ch κ n i 9)))
  else if κ i ≤ 9 then (9, kb_A κ (kb_en κ n (kb_op κ i) + 1))
  else if κ i = 10 then (if f = 0 then (1, kb_P κ i) else if f = 1 then (2, kb_P κ i + 1) else if f = 2 then (1, kb_P κ i + 1) else (10, kb_A κ (kb_en κ n i + 1)))
  else if κ i = 11 then (if f = 0 then (1, kb_P κ (kb_op κ i) + 1) else if f = 1 then (4, 506) else if f = 2 then (2, kb_P κ (kb_op κ i) + 1) else (9, kb_A κ (kb_op κ i) + 2))
  else (12, 500 + fi i)
section
variable {κ : Nat → Nat}
theorem kb_sz4 (i : Nat) : kb_sz κ i ≤ 4 := by
  unfold kb_sz
  split
  · omega
  · split
    · omega
    · split
      · omega
      · split
        · omega
        · split
          · split <;> omega
          · omega
theorem kb_A4 (i : Nat) : kb_A κ i ≤ 4 * i := by
  induction i with
  | zero => exact Nat.le_refl _
  | succ i ih =>
    have := kb_sz4 (κ := κ) i
    show kb_A κ i + kb_sz κ i ≤ 4 * (i + 1)
    omega
theorem kb_As (i : Nat) : kb_A κ (i + 1) = kb_A κ i + kb_sz κ i := rfl
theorem kb_Am {i j : Nat} (h : i < j) : kb_A κ i + kb_sz κ i ≤ kb_A κ j := by
  induction j with
  | zero => omega
  | succ j ih =>
    by_cases q : i = j
    · subst q; exact Nat.le_refl _
    · have := ih (by omega)
      rw [kb_As]; omega
theorem kb_Ai {i j f g : Nat} (hf : f < kb_sz κ i) (hg : g < kb_sz κ j) (h : kb_A κ i + f = kb_A κ j + g) : i = j ∧ f = g := by
  rcases Nat.lt_trichotomy i j with q | q | q
  · have := kb_Am (κ := κ) q; omega
  · subst q; exact ⟨rfl, by omega⟩
  · have := kb_Am (κ := κ) q; omega
theorem kb_Ps (i : Nat) : kb_P κ (i + 1) = kb_P κ i + (if κ i = 0 then 1 else if κ i = 10 then 2 else 0) := rfl
theorem kb_Pb (i : Nat) : 510 ≤ kb_P κ i ∧ kb_P κ i ≤ 510 + 2 * i := by
  induction i with
  | zero => exact ⟨Nat.le_refl _, Nat.le_refl _⟩
  | succ i ih =>
    rw [kb_Ps]
    split
    · omega
    · split <;> omega
theorem kb_Pm {i j : Nat} (h : i < j) : kb_P κ i + (if κ i = 0 then 1 else if κ i = 10 then 2 else 0) ≤ kb_P κ j := by
  induction j with
  | zero => omega
  | succ j ih =>
    by_cases q : i = j
    · subst q; exact Nat.le_refl _
    · have := ih (by omega)
      rw [kb_Ps]; omega
theorem kb_Pm0 {i j : Nat} (h : i < j) (hi : κ i = 0 ∨ κ i = 10) : kb_P κ i < kb_P κ j := by
  have := kb_Pm (κ := κ) h
  rcases hi with q | q
  · rw [if_pos q] at this; omega
  · rw [if_neg (by omega), if_pos q] at this; omega
theorem kb_Pm1 {i j : Nat} (h : i < j) (hi : κ i = 10) : kb_P κ i + 1 < kb_P κ j := by
  have := kb_Pm (κ := κ) h
  rw [if_neg (by omega), if_pos hi] at this; omega
/-- at most one mark of a kind in a block -/
theorem kb_u {i o m j k : Nat} (hK : kb_K κ i) (hm : m = 8 ∨ m = 9) (hj : j < i) (hk : k < i) (h1 : kb_M κ o m j) (h2 : kb_M κ o m k) : j = k := by
  have go : ∀ a b, a < b → b < i → kb_M κ o m a → kb_M κ o m b → False := by
    intro a b hab hb ha hb'
    have hkb := hb'.2.1
    have hF := (hK b hb).2.2 (by omega)
    have := (hF.2.2 a hab).2
    rw [hb'.2.2.1, hkb] at this
    exact this ha
  rcases Nat.lt_trichotomy j k with q | q | q
  · exact (go j k q hk h1 h2).elim
  · exact q
  · exact (go k j q hj h2 h1).elim
/-- a mark lies within its block -/
theorem kb_mi {n o m k : Nat} (hn : kb_D κ n = 0) (hk : k < n) (hm : m = 8 ∨ m = 9) (h : kb_M κ o m k) : o < kb_en κ n o ∧ k < kb_en κ n o ∧ kb_D κ k = kb_D κ o + 1 ∧ o < n ∧ (κ o = 7 ∨ κ o = 10) := by
  obtain ⟨h1, h2, h3, h4⟩ := h
  obtain ⟨b1, b2, b3, b4⟩ := kb_op1 (κ := κ) (i := k) h4
  obtain ⟨c1, c2, c3⟩ := kb_oe hn (by omega : k ≤ n) h4
  rw [h3] at b1 b2 b4 c3
  obtain ⟨a1, a2, a3, a5, a6, a4⟩ := kb_en1 hn (by omega : o < n) b4
  refine ⟨a1, ?_, by omega, by omega, b4⟩
  rcases Nat.lt_or_ge k (kb_en κ n o) with q | q
  · exact q
  · have : k = kb_en κ n o := by omega
    rw [← this] at a6; omega
theorem kb_chM {n o m k : Nat} (hS : kb_S κ n) (hk : k < n) (hm : m = 8 ∨ m = 9) (h : kb_M κ o m k) : kb_ch κ n o m = k + 1 := by
  obtain ⟨a1, a2, _, _, _⟩ := kb_mi hS.2 hk hm h
  refine kb_ch1 h.1 a2 h (fun j q1 q2 hM => ?_)
  have := kb_u hS.1 hm (by omega) hk hM h
  omega
end
/-! the compiler's book-keeping before statement i -/
def kc_Pd (κ : Nat → Nat) (i j f : Nat) : Prop := (κ j = 10 ∧ f = 3 ∧ kb_O κ j i) ∨ (κ j = 7 ∧ kb_O κ j i ∧ ((f = 1 ∧ ∀ k, k < i → ¬ kb_M κ j 8 k) ∨ (f = 2 ∧ ∀ k, k < i → ¬ kb_M κ j 9 k))) ∨ ((κ j = 8 ∨ κ j = 9) ∧ kb_O κ (kb_op κ j) i)
def kc_4 (κ : Nat → Nat) (i o : Nat) (z p l s : Int32) : Prop :=
  ((∀ k, k < i → ¬ kb_M κ o 8 k) ∧ (∀ k, k < i → ¬ kb_M κ o 9 k) ∧ z = nI (kb_A κ o + 1) ∧ p = nI (kb_A κ o + 2) ∧ l = -1 ∧ s = -1) ∨
  (∃ k, k < i ∧ kb_M κ o 8 k ∧ (∀ k, k < i → ¬ kb_M κ o 9 k) ∧ z = -1 ∧ p = nI (kb_A κ o + 2) ∧ l = nI (kb_A κ k) ∧ s = -1) ∨
  (∃ k, k < i ∧ kb_M κ o 9 k ∧ (∀ k, k < i → ¬ kb_M κ o 8 k) ∧ z = nI (kb_A κ o + 1) ∧ p = -1 ∧ l = nI (kb_A κ k) ∧ s = -1) ∨
  (∃ k k', k < i ∧ kb_M κ o 8 k ∧ k' < i ∧ kb_M κ o 9 k' ∧ z = -1 ∧ p = -1 ∧ l = nI (kb_A κ k) ∧ s = nI (kb_A κ k'))
def kc_B (κ : Nat → Nat) (i o : Nat) (oK oT oL zJ pJ lF lS : Nat → Int32) : Prop :=
  (κ o = 10 ∧ oK (kb_D κ o) = 10 ∧ oT (kb_D κ o) = nI (kb_A κ o + 2) ∧ oL (kb_D κ o) = nI (kb_P κ o + 1)) ∨
  (κ o = 7 ∧ oK (kb_D κ o) = 7 ∧ kc_4 κ i o (zJ (kb_D κ o)) (pJ (kb_D κ o)) (lF (kb_D κ o)) (lS (kb_D κ o)))
def kc_Q (κ : Nat → Nat) (n : Nat) (fi se th : Nat → Nat) (S : Nat → Nat → Prop) (me : Nat → Int32) : Prop := ∀ j f, S j f → f < kb_sz κ j → me (kb_A κ j + f) = kb_iw (kb_I κ n fi se th j f).1 (kb_I κ n fi se th j f).2
def kc_X (κ : Nat → Nat) (af m0 : Nat → Int32) (i : Nat) (me : Nat → Int32) : Prop := (∀ j, j < i → κ j = 0 ∨ κ j = 10 → me (kb_P κ j) = tt_w (af j).toInt) ∧ me 506 = tt_w 1 ∧ ∀ v, v < 6 → me (500 + v) = m0 (500 + v)
def kc_T (κ : Nat → Nat) (i k j f : Nat) : Prop := (j < i ∧ ¬ kc_Pd κ i j f) ∨ (j = i ∧ f < k)
def kc_S (κ : Nat → Nat) (i j f : Nat) : Prop := j < i ∧ ¬ kc_Pd κ i j f
def kc_I (κ : Nat → Nat) (n : Nat) (fi se th : Nat → Nat) (af m0 : Nat → Int32) (i : Nat) (cE pE oC : Int32) (oK oT oL zJ pJ lF lS me : Nat → Int32) : Prop :=
  cE = nI (kb_A κ i) ∧ pE = nI (kb_P κ i) ∧ oC = nI (kb_D κ i) ∧ (∀ o, kb_O κ o i → kc_B κ i o oK oT oL zJ pJ lF lS) ∧ kc_Q κ n fi se th (kc_S κ i) me ∧ kc_X κ af m0 i me
section
variable {κ : Nat → Nat} {n : Nat} {fi se th : Nat → Nat} {af m0 me : Nat → Int32} {S S' : Nat → Nat → Prop}
/-- a right word -/
theorem kc_r {j0 f0 a o c : Nat} (h : kc_Q κ n fi se th S me) (hf : f0 < kb_sz κ j0) (ha : a = kb_A κ j0 + f0) (hI : kb_I κ n fi se th j0 f0 = (o, c)) (hS : ∀ j f, S' j f → f < kb_sz κ j → S j f ∨ (j = j0 ∧ f = f0)) : kc_Q κ n fi se th S' (upd me a (kb_iw o c)) := by
  intro j f hs hsz
  by_cases e : kb_A κ j + f = a
  · rw [e, pk_us]
    rw [ha] at e
    obtain ⟨e1, e2⟩ := kb_Ai hsz hf e
    subst e1; subst e2
    rw [hI]
  · rw [pk_un e]
    rcases hS j f hs hsz with q | ⟨q, q'⟩
    · exact h j f q hsz
    · subst q; subst q'; exact absurd ha.symm e
/-- any other word -/
theorem kc_h {a : Nat} {w : Int32} (h : kc_Q κ n fi se th S me) (hS : ∀ j f, S' j f → f < kb_sz κ j → S j f ∧ kb_A κ j + f ≠ a) : kc_Q κ n fi se th S' (upd me a w) := by
  intro j f hs hsz
  obtain ⟨q, q'⟩ := hS j f hs hsz
  rw [pk_un q']
  exact h j f q hsz
theorem kc_le (h : kc_Q κ n fi se th S me) (hS : ∀ j f, S' j f → f < kb_sz κ j → S j f) : kc_Q κ n fi se th S' me := fun j f hs hsz => h j f (hS j f hs hsz) hsz
theorem kc_Xw {i a : Nat} {w : Int32} (ha : a < 500) (h : kc_X κ af m0 i me) : kc_X κ af m0 i (upd me a w) := by
  refine ⟨fun j hj hk => ?_, ?_, fun v hv => ?_⟩
  · have := kb_Pb (κ := κ) j
    rw [pk_un (by omega)]; exact h.1 j hj hk
  · rw [pk_un (by omega)]; exact h.2.1
  · rw [pk_un (by omega)]; exact h.2.2 v hv
theorem kc_Xp {i a : Nat} {w : Int32} (ha : kb_P κ i ≤ a) (h : kc_X κ af m0 i me) : kc_X κ af m0 i (upd me a w) := by
  have b := kb_Pb (κ := κ) i
  refine ⟨fun j hj hk => ?_, ?_, fun v hv => ?_⟩
  · have := kb_Pm0 hj hk
    rw [pk_un (by omega)]; exact h.1 j hj hk
  · rw [pk_un (by omega)]; exact h.2.1
  · rw [pk_un (by omega)]; exact h.2.2 v hv
theorem kc_Xs {i : Nat} (h : kc_X κ af m0 i me) (hi : κ i = 0 ∨ κ i = 10 → me (kb_P κ i) = tt_w (af i).toInt) : kc_X κ af m0 (i + 1) me := by
  refine ⟨fun j hj hk => ?_, h.2.1, h.2.2⟩
  by_cases e : j = i
  · subst e; exact hi hk
  · exact h.1 j (by omega) hk
/-- the pool's words don't meet the code -/
theorem kc_hp {i a : Nat} {w : Int32} (hi : i ≤ 41) (hS : ∀ j f, S j f → j < i) (ha : 510 ≤ a) (h : kc_Q κ n fi se th S me) : kc_Q κ n fi se th S (upd me a w) :=
  kc_h h (fun j f hs hsz => ⟨hs, by
    have := kb_A4 (κ := κ) j
    have := kb_sz4 (κ := κ) j
    have := hS j f hs
    omega⟩)
theorem kc_st {i k : Nat} (hk : k ≤ kb_sz κ i) (h : kc_Q κ n fi se th (kc_S κ i) me) : kc_Q κ n fi se th (kc_T κ i 0) me :=
  kc_le h (fun j f hs _ => hs.elim id (fun q => absurd q.2 (by omega)))
/-- the next right word of statement i -/
theorem kc_nx {i k a o c : Nat} (hk : k < kb_sz κ i) (ha : a = kb_A κ i + k) (hI : kb_I κ n fi se th i k = (o, c)) (h : kc_Q κ n fi se th (kc_T κ i k) me) : kc_Q κ n fi se th (kc_T κ i (k + 1)) (upd me a (kb_iw o c)) :=
  kc_r h hk ha hI (fun j f hs _ => by
    rcases hs with q | ⟨q, q'⟩
    · exact Or.inl (Or.inl q)
    · by_cases e : f = k
      · exact Or.inr ⟨q, e⟩
      · exact Or.inl (Or.inr ⟨q, by omega⟩))
/-- a word of statement i that isn't right yet -/
theorem kc_ph {i k a : Nat} {w : Int32} (hi : i ≤ 41) (hk : k ≤ a - kb_A κ i) (ha : kb_A κ i ≤ a) (h : kc_Q κ n fi se th (kc_T κ i k) me) : kc_Q κ n fi se th (kc_T κ i k) (upd me a w) :=
  kc_h h (fun j f hs hsz => ⟨hs, by
    rcases hs with q | ⟨q, q'⟩
    · have := kb_Am (κ := κ) q.1; omega
    · subst q; omega⟩)
end
end
section
/-! ===== the compiler's book-keeping, statement by statement ===== -/
section
variable {κ : Nat → Nat} {n : Nat} {fi se th : Nat → Nat} {af m0 me : Nat → Int32} {oK oT oL zJ pJ lF lS : Nat → Int32}
theorem kc_4s {i o : Nat} {z p l s : Int32} (h : ∀ m, m = 8 ∨ m = 9 → ¬ kb_M κ o m i) (hQ : kc_4 κ i o z p l s) : kc_4 κ (i + 1) o z p l s := by
  have N : ∀ m, m = 8 ∨ m = 9 → (∀ k, k < i → ¬ kb_M κ o m k) → ∀ k, k < i + 1 → ¬ kb_M κ o m k := by
    intro m hm hn k hk
    by_cases e : k = i
    · subst e; exact h m hm
    · exact hn k (by omega)
  rcases hQ with ⟨a, b, c⟩ | ⟨k, a, b, c, d⟩ | ⟨k, a, b, c, d⟩ | ⟨k, k', a, b, c, d⟩
  · exact Or.inl ⟨N 8 (Or.inl rfl) a, N 9 (Or.inr rfl) b, c⟩
  · exact Or.inr (Or.inl ⟨k, by omega, b, N 9 (Or.inr rfl) c, d⟩)
  · exact Or.inr (Or.inr (Or.inl ⟨k, by omega, b, N 8 (Or.inl rfl) c, d⟩))
  · exact Or.inr (Or.inr (Or.inr ⟨k, k', by omega, b, by omega, d⟩))
theorem kc_Bs {i o : Nat} (h : ∀ m, m = 8 ∨ m = 9 → ¬ kb_M κ o m i) (hB : kc_B κ i o oK oT oL zJ pJ lF lS) : kc_B κ (i + 1) o oK oT oL zJ pJ lF lS := by
  rcases hB with q | ⟨a, b, c⟩
  · exact Or.inl q
  · exact Or.inr ⟨a, b, kc_4s h c⟩
/-- blocks not ended before statement i + 1, if statement i opens none and is no mark -/
theorem kc_B0 {i : Nat} (h7 : κ i ≠ 7) (h10 : κ i ≠ 10) (h8 : κ i ≠ 8) (h9 : κ i ≠ 9) (h : ∀ o, kb_O κ o i → kc_B κ i o oK oT oL zJ pJ lF lS) : ∀ o, kb_O κ o (i + 1) → kc_B κ (i + 1) o oK oT oL zJ pJ lF lS := by
  intro o ho
  have ne : o ≠ i := fun e => by subst e; have := kb_O2 ho; omega
  exact kc_Bs (fun m hm => xb_nm h8 h9 hm) (h o (kb_O1 ho ne))
theorem kc_B7 {i : Nat} (h7 : κ i = 7) {x y : Int32} (hx : x = nI (kb_A κ i + 1)) (hy : y = nI (kb_A κ i + 2)) (h : ∀ o, kb_O κ o i → kc_B κ i o oK oT oL zJ pJ lF lS) : ∀ o, kb_O κ o (i + 1) → kc_B κ (i + 1) o (upd oK (kb_D κ i) 7) oT oL (upd zJ (kb_D κ i) x) (upd pJ (kb_D κ i) y) (upd lF (kb_D κ i) (-1)) (upd lS (kb_D κ i) (-1)) := by
  intro o ho
  by_cases e : o = i
  · subst e
    refine Or.inr ⟨h7, pk_us, ?_⟩
    rw [pk_us, pk_us, pk_us, pk_us]
    exact Or.inl ⟨fun k hk hM => by have := hM.1; omega, fun k hk hM => by have := hM.1; omega, hx, hy, rfl, rfl⟩
  · have ho' := kb_O1 ho e
    have hd := ho'.2 i ho'.1 (Nat.le_refl _)
    have hB := kc_Bs (fun m hm => xb_nm (κ := κ) (i := i) (by omega) (by omega) hm) (h o ho')
    unfold kc_B at hB ⊢
    rw [pk_un (by omega), pk_un (by omega), pk_un (by omega), pk_un (by omega), pk_un (by omega)]
    exact hB
theorem kc_B10 {i : Nat} (h10 : κ i = 10) {x y : Int32} (hx : x = nI (kb_A κ i + 2)) (hy : y = nI (kb_P κ i + 1)) (h : ∀ o, kb_O κ o i → kc_B κ i o oK oT oL zJ pJ lF lS) : ∀ o, kb_O κ o (i + 1) → kc_B κ (i + 1) o (upd oK (kb_D κ i) 10) (upd oT (kb_D κ i) x) (upd oL (kb_D κ i) y) zJ pJ lF lS := by
  intro o ho
  by_cases e : o = i
  · subst e
    exact Or.inl ⟨h10, pk_us, by rw [pk_us]; exact hx, by rw [pk_us]; exact hy⟩
  · have ho' := kb_O1 ho e
    have hd := ho'.2 i ho'.1 (Nat.le_refl _)
    have hB := kc_Bs (fun m hm => xb_nm (κ := κ) (i := i) (by omega) (by omega) hm) (h o ho')
    unfold kc_B at hB ⊢
    rw [pk_un (by omega), pk_un (by omega), pk_un (by omega)]
    exact hB
/-- a mark: what its block's book says after it, in the two ways that X goes -/
theorem kc_4m {i : Nat} (hM : kb_MF κ i) (h8 : κ i = 8 ∨ κ i = 9) {z p l s : Int32} (h : kc_4 κ i (kb_op κ i) z p l s) :
    (l = -1 ∧ (κ i = 8 → z = nI (kb_A κ (kb_op κ i) + 1) ∧ kc_4 κ (i + 1) (kb_op κ i) (-1) p (nI (kb_A κ i)) s) ∧ (κ i = 9 → p = nI (kb_A κ (kb_op κ i) + 2) ∧ kc_4 κ (i + 1) (kb_op κ i) z (-1) (nI (kb_A κ i)) s)) ∨
    (∃ k, k < i ∧ l = nI (kb_A κ k) ∧ κ i = 9 ∧ p = nI (kb_A κ (kb_op κ i) + 2) ∧ kc_4 κ (i + 1) (kb_op κ i) z (-1) l (nI (kb_A κ i))) := by
  obtain ⟨b1, b2, b3, b4⟩ := kb_op1 (κ := κ) (i := i) hM.1
  have hMi : ∀ m, κ i = m → kb_M κ (kb_op κ i) m i := fun m hm => ⟨b1, hm, rfl, hM.1⟩
  have N : ∀ m, κ i ≠ m → (∀ k, k < i → ¬ kb_M κ (kb_op κ i) m k) → ∀ k, k < i + 1 → ¬ kb_M κ (kb_op κ i) m k := by
    intro m hm hn k hk
    by_cases e : k = i
    · subst e; exact fun hq => hm hq.2.1
    · exact hn k (by omega)
  rcases h with ⟨a, b, c1, c2, c3, c4⟩ | ⟨k, a, b, c, d1, d2, d3, d4⟩ | ⟨k, a, b, c, d⟩ | ⟨k, k', a, b, c, d, e⟩
  · refine Or.inl ⟨c3, fun q => ⟨c1, Or.inr (Or.inl ⟨i, by omega, hMi 8 q, N 9 (by omega) b, rfl, c2, rfl, c4⟩)⟩, fun q => ⟨c2, Or.inr (Or.inr (Or.inl ⟨i, by omega, hMi 9 q, N 8 (by omega) a, c1, rfl, rfl, c4⟩))⟩⟩
  · refine Or.inr ⟨k, a, d3, ?_, d2, ?_⟩
    · rcases h8 with q | q
      · exact absurd b (by have := (hM.2.2 k a).2; rw [q] at this; exact this)
      · exact q
    · have q9 : κ i = 9 := by
        rcases h8 with q | q
        · exact absurd b (by have := (hM.2.2 k a).2; rw [q] at this; exact this)
        · exact q
      exact Or.inr (Or.inr (Or.inr ⟨k, i, by omega, b, by omega, hMi 9 q9, d1, rfl, d3, rfl⟩))
  · exact absurd b (hM.2.2 k a).1
  · exact absurd d (hM.2.2 k' c).1
theorem kc_Bm {i : Nat} (hM : kb_MF κ i) (h8 : κ i = 8 ∨ κ i = 9) {zJ' pJ' lF' lS' : Nat → Int32} (hz : ∀ d, d ≠ kb_D κ i - 1 → zJ' d = zJ d) (hp : ∀ d, d ≠ kb_D κ i - 1 → pJ' d = pJ d) (hl : ∀ d, d ≠ kb_D κ i - 1 → lF' d = lF d) (hs : ∀ d, d ≠ kb_D κ i - 1 → lS' d = lS d) (hK : oK (kb_D κ i - 1) = 7) (h4 : kc_4 κ (i + 1) (kb_op κ i) (zJ' (kb_D κ i - 1)) (pJ' (kb_D κ i - 1)) (lF' (kb_D κ i - 1)) (lS' (kb_D κ i - 1))) (h : ∀ o, kb_O κ o i → kc_B κ i o oK oT oL zJ pJ lF lS) : ∀ o, kb_O κ o (i + 1) → kc_B κ (i + 1) o oK oT oL zJ' pJ' lF' lS' := by
  intro o ho
  obtain ⟨b1, b2, b3, b4⟩ := kb_op1 (κ := κ) (i := i) hM.1
  have ne : o ≠ i := fun e => by subst e; have := kb_O2 ho; omega
  have ho' := kb_O1 ho ne
  by_cases e : o = kb_op κ i
  · subst e
    have ed : kb_D κ (kb_op κ i) = kb_D κ i - 1 := by omega
    refine Or.inr ⟨hM.2.1, by rw [ed]; exact hK, ?_⟩
    rw [ed]; exact h4
  · have e2 : kb_D κ o ≠ kb_D κ i - 1 := by
      intro e3
      exact e (kb_O6 ho' (by omega)).symm
    have hB := kc_Bs (fun m hm hM' => e hM'.2.2.1.symm) (h o ho')
    unfold kc_B at hB ⊢
    rw [hz _ e2, hp _ e2, hl _ e2, hs _ e2]
    exact hB
/-! what is still to be directed -/
theorem kc_P0 {i j f : Nat} (h11 : κ i ≠ 11) (h8 : κ i ≠ 8) (h9 : κ i ≠ 9) (h : kc_Pd κ i j f) : kc_Pd κ (i + 1) j f := by
  have hd : kb_D κ i ≤ kb_D κ (i + 1) := by
    rcases Nat.lt_or_ge (kb_D κ (i + 1)) (kb_D κ i) with q | q
    · exact absurd (kb_D3 q) h11
    · exact q
  have O3 : ∀ {o}, kb_O κ o i → kb_O κ o (i + 1) := fun ho => kb_O3 ho (by have := ho.2 i ho.1 (Nat.le_refl _); omega)
  have N : ∀ m, m = 8 ∨ m = 9 → (∀ k, k < i → ¬ kb_M κ j m k) → ∀ k, k < i + 1 → ¬ kb_M κ j m k := by
    intro m hm hn k hk
    by_cases e : k = i
    · subst e; exact xb_nm h8 h9 hm
    · exact hn k (by omega)
  rcases h with ⟨a, b, c⟩ | ⟨a, b, c⟩ | ⟨a, b⟩
  · exact Or.inl ⟨a, b, O3 c⟩
  · refine Or.inr (Or.inl ⟨a, O3 b, ?_⟩)
    rcases c with ⟨c, d⟩ | ⟨c, d⟩
    · exact Or.inl ⟨c, N 8 (Or.inl rfl) d⟩
    · exact Or.inr ⟨c, N 9 (Or.inr rfl) d⟩
  · exact Or.inr (Or.inr ⟨a, O3 b⟩)
theorem kc_f0 {i k : Nat} (h11 : κ i ≠ 11) (h8 : κ i ≠ 8) (h9 : κ i ≠ 9) (hk : ∀ f, k ≤ f → f < kb_sz κ i → kc_Pd κ (i + 1) i f) (h : kc_Q κ n fi se th (kc_T κ i k) me) : kc_Q κ n fi se th (kc_S κ (i + 1)) me := by
  refine kc_le h (fun j f hs hsz => ?_)
  by_cases e : j = i
  · subst e
    refine Or.inr ⟨rfl, ?_⟩
    rcases Nat.lt_or_ge f k with q | q
    · exact q
    · exact absurd (hk f q hsz) hs.2
  · exact Or.inl ⟨by have := hs.1; omega, fun hP => hs.2 (kc_P0 h11 h8 h9 hP)⟩
theorem kc_Pm {i j f : Nat} (h8 : κ i = 8 ∨ κ i = 9) (hM : kb_MF κ i) (h : kc_Pd κ i j f) : kc_Pd κ (i + 1) j f ∨ (j = kb_op κ i ∧ f + 7 = κ i) := by
  have hd := kb_Dn (κ := κ) (i := i) (by omega) (by omega) (by omega)
  have O3 : ∀ {o}, kb_O κ o i → kb_O κ o (i + 1) := fun ho => kb_O3 ho (by have := ho.2 i ho.1 (Nat.le_refl _); omega)
  have N : ∀ m, (j ≠ kb_op κ i ∨ κ i ≠ m) → (∀ k, k < i → ¬ kb_M κ j m k) → ∀ k, k < i + 1 → ¬ kb_M κ j m k := by
    intro m hm hn k hk
    by_cases e : k = i
    · subst e
      rcases hm with q | q
      · exact fun hq => q hq.2.2.1.symm
      · exact fun hq => q hq.2.1
    · exact hn k (by omega)
  rcases h with ⟨a, b, c⟩ | ⟨a, b, c⟩ | ⟨a, b⟩
  · exact Or.inl (Or.inl ⟨a, b, O3 c⟩)
  · by_cases e : j = kb_op κ i ∧ f + 7 = κ i
    · exact Or.inr e
    · refine Or.inl (Or.inr (Or.inl ⟨a, O3 b, ?_⟩))
      rcases c with ⟨c, d⟩ | ⟨c, d⟩
      · exact Or.inl ⟨c, N 8 (by omega) d⟩
      · exact Or.inr ⟨c, N 9 (by omega) d⟩
  · exact Or.inl (Or.inr (Or.inr ⟨a, O3 b⟩))
/-- a mark directs one jump -/
theorem kc_fm {i a c : Nat} (hS : kb_S κ n) (hi : i < n) (h8 : κ i = 8 ∨ κ i = 9) (hM : kb_MF κ i) (ha : a + 7 = kb_A κ (kb_op κ i) + κ i) (hc : c = kb_A κ i + 1) (h : kc_Q κ n fi se th (kc_T κ i 0) me) : kc_Q κ n fi se th (kc_S κ (i + 1)) (upd me a (kb_iw (κ i + 2) c)) := by
  obtain ⟨b1, b2, b3, b4⟩ := kb_op1 (κ := κ) (i := i) hM.1
  have h7 := hM.2.1
  have ech := kb_chM (m := κ i) (o := kb_op κ i) hS hi h8 ⟨b1, rfl, rfl, hM.1⟩
  have esz : kb_sz κ (kb_op κ i) = 3 := by
    unfold kb_sz
    rw [h7]; rfl
  have esi : kb_sz κ i = 1 := by
    unfold kb_sz
    rcases h8 with q | q <;> rw [q] <;> rfl
  refine kc_r (j0 := kb_op κ i) (f0 := κ i - 7) h (by omega) (by omega) ?_ (fun j f hs hsz => ?_)
  · unfold kb_I
    rw [h7, if_neg (by decide), if_neg (by decide), if_pos rfl, if_neg (by omega)]
    rcases h8 with q | q
    · rw [q] at ech ⊢
      rw [if_pos (by decide), ech, kb_As, esi, hc]
    · rw [q] at ech ⊢
      rw [if_neg (by decide), ech, kb_As, esi, hc]
  · by_cases e : j = i
    · subst e
      refine absurd (Or.inr (Or.inr ⟨h8, ?_⟩)) hs.2
      have hd := kb_Dn (κ := κ) (i := j) (by omega) (by omega) (by omega)
      exact kb_O3 (kb_O4 hM.1) (by omega)
    · by_cases hP : kc_Pd κ i j f
      · rcases kc_Pm h8 hM hP with q | ⟨q, q'⟩
        · exact absurd q hs.2
        · exact Or.inr ⟨q, by omega⟩
      · exact Or.inl (Or.inl ⟨by have := hs.1; omega, hP⟩)
/-- an end -/
theorem kc_Pe {i j f : Nat} (h11 : κ i = 11) (hD : 0 < kb_D κ i) (h : kc_Pd κ i j f) : kc_Pd κ (i + 1) j f ∨ j = kb_op κ i ∨ ((κ j = 8 ∨ κ j = 9) ∧ kb_op κ j = kb_op κ i) := by
  have hd := kb_De h11
  have O3 : ∀ {o}, kb_O κ o i → kb_O κ o (i + 1) ∨ o = kb_op κ i := fun {o} ho => by
    by_cases e : kb_D κ o + 1 = kb_D κ i
    · exact Or.inr (kb_O6 ho e).symm
    · exact Or.inl (kb_O3 ho (by have := ho.2 i ho.1 (Nat.le_refl _); omega))
  have N : ∀ m, m = 8 ∨ m = 9 → (∀ k, k < i → ¬ kb_M κ j m k) → ∀ k, k < i + 1 → ¬ kb_M κ j m k := by
    intro m hm hn k hk
    by_cases e : k = i
    · subst e; exact xb_nm (by omega) (by omega) hm
    · exact hn k (by omega)
  rcases h with ⟨a, b, c⟩ | ⟨a, b, c⟩ | ⟨a, b⟩
  · rcases O3 c with q | q
    · exact Or.inl (Or.inl ⟨a, b, q⟩)
    · exact Or.inr (Or.inl q)
  · rcases O3 b with q | q
    · refine Or.inl (Or.inr (Or.inl ⟨a, q, ?_⟩))
      rcases c with ⟨c, d⟩ | ⟨c, d⟩
      · exact Or.inl ⟨c, N 8 (Or.inl rfl) d⟩
      · exact Or.inr ⟨c, N 9 (Or.inr rfl) d⟩
    · exact Or.inr (Or.inl q)
  · rcases O3 b with q | q
    · exact Or.inl (Or.inr (Or.inr ⟨a, q⟩))
    · exact Or.inr (Or.inr ⟨a, q⟩)
theorem kc_fe10 {i a c : Nat} (hS : kb_S κ n) (hi : i < n) (h11 : κ i = 11) (hD : 0 < kb_D κ i) (h10 : κ (kb_op κ i) = 10) (ha : a = kb_A κ (kb_op κ i) + 3) (hc : c = kb_A κ i + 4) (h : kc_Q κ n fi se th (kc_T κ i 4) me) : kc_Q κ n fi se th (kc_S κ (i + 1)) (upd me a (kb_iw 10 c)) := by
  obtain ⟨b1, b2, b3, b4⟩ := kb_op1 (κ := κ) (i := i) hD
  have een := kb_oe11 hS.2 hi hD h11
  have esz : kb_sz κ (kb_op κ i) = 4 := by
    unfold kb_sz
    rw [h10]; rfl
  have esi : kb_sz κ i = 4 := by
    unfold kb_sz
    rw [h11, h10]; rfl
  refine kc_r (j0 := kb_op κ i) (f0 := 3) h (by omega) ha ?_ (fun j f hs hsz => ?_)
  · unfold kb_I
    rw [h10, if_neg (by decide), if_neg (by decide), if_neg (by decide), if_neg (by decide), if_pos rfl, if_neg (by decide), if_neg (by decide), if_neg (by decide), een, kb_As, esi, hc]
  · by_cases e : j = i
    · subst e
      exact Or.inl (Or.inr ⟨rfl, by omega⟩)
    · by_cases hP : kc_Pd κ i j f
      · rcases kc_Pe h11 hD hP with q | q | ⟨q, q'⟩
        · exact absurd q hs.2
        · rcases hP with ⟨x, y, _⟩ | ⟨x, _⟩ | ⟨x, _⟩
          · exact Or.inr ⟨q, y⟩
          · rw [q] at x; omega
          · rw [q] at x; omega
        · have hF := (hS.1 j (by have := hs.1; omega)).2.2 q
          have := hF.2.1
          rw [q'] at this; omega
      · exact Or.inl (Or.inl ⟨by have := hs.1; omega, hP⟩)
theorem kc_mk {i j : Nat} (hK : kb_K κ i) (hj : j < i) (h8 : κ j = 8 ∨ κ j = 9) : kb_M κ (kb_op κ j) (κ j) j := by
  have hF := (hK j hj).2.2 h8
  exact ⟨(kb_op1 hF.1).1, rfl, rfl, hF.1⟩
theorem kc_fe7 {i : Nat} (hS : kb_S κ n) (hi : i < n) (h11 : κ i = 11) (hD : 0 < kb_D κ i) (h7 : κ (kb_op κ i) = 7) {j1 f1 j2 f2 o1 o2 c a1 a2 : Nat} (hf1 : f1 < kb_sz κ j1) (hf2 : f2 < kb_sz κ j2) (hI1 : kb_I κ n fi se th j1 f1 = (o1, c)) (hI2 : kb_I κ n fi se th j2 f2 = (o2, c)) (ha1 : a1 = kb_A κ j1 + f1) (ha2 : a2 = kb_A κ j2 + f2) (cov : ∀ j f, j < i → f < kb_sz κ j → kc_Pd κ i j f → (j = kb_op κ i ∨ ((κ j = 8 ∨ κ j = 9) ∧ kb_op κ j = kb_op κ i)) → (j = j1 ∧ f = f1) ∨ (j = j2 ∧ f = f2)) (h : kc_Q κ n fi se th (kc_S κ i) me) : kc_Q κ n fi se th (kc_S κ (i + 1)) (upd (upd me a1 (kb_iw o1 c)) a2 (kb_iw o2 c)) := by
  have esi : kb_sz κ i = 0 := by
    unfold kb_sz
    rw [h11, h7]; rfl
  refine kc_r (S := fun j f => kc_S κ i j f ∨ (j = j1 ∧ f = f1)) (kc_r h hf1 ha1 hI1 (fun j f hs _ => hs)) hf2 ha2 hI2 (fun j f hs hsz => ?_)
  by_cases e : j = i
  · subst e; omega
  · have hj : j < i := by have := hs.1; omega
    by_cases hP : kc_Pd κ i j f
    · have cv : j = kb_op κ i ∨ ((κ j = 8 ∨ κ j = 9) ∧ kb_op κ j = kb_op κ i) := (kc_Pe h11 hD hP).elim (fun q => absurd q hs.2) id
      rcases cov j f hj hsz hP cv with q | q
      · exact Or.inl (Or.inr q)
      · exact Or.inr q
    · exact Or.inl (Or.inl ⟨hj, hP⟩)
/-- the contents of the jumps of a choice at its end -/
theorem kc_Iz {i m : Nat} (hS : kb_S κ n) (hi : i < n) (h11 : κ i = 11) (hD : 0 < kb_D κ i) (h7 : κ (kb_op κ i) = 7) (hm : m = 8 ∨ m = 9) (h : ∀ k, k < i → ¬ kb_M κ (kb_op κ i) m k) : kb_I κ n fi se th (kb_op κ i) (m - 7) = (m + 2, kb_A κ i) := by
  obtain ⟨b1, b2, b3, b4⟩ := kb_op1 (κ := κ) (i := i) hD
  have een := kb_oe11 hS.2 hi hD h11
  have esi : kb_sz κ i = 0 := by
    unfold kb_sz
    rw [h11, h7]; rfl
  have ech : kb_ch κ n (kb_op κ i) m = i + 1 := by
    rw [kb_ch0 (by omega) (fun k q1 q2 => h k (by omega)), een]
  unfold kb_I
  rw [h7, if_neg (by decide), if_neg (by decide), if_pos rfl, if_neg (by omega)]
  rcases hm with q | q
  · subst q
    rw [if_pos (by decide), ech, kb_As, esi]; rfl
  · subst q
    rw [if_neg (by decide), ech, kb_As, esi]; rfl
theorem kc_Im {i k : Nat} (hS : kb_S κ n) (hi : i < n) (h11 : κ i = 11) (hD : 0 < kb_D κ i) (h7 : κ (kb_op κ i) = 7) {m : Nat} (hm : m = 8 ∨ m = 9) (h : kb_M κ (kb_op κ i) m k) : kb_I κ n fi se th k 0 = (9, kb_A κ i) ∧ kb_sz κ k = 1 := by
  have een := kb_oe11 hS.2 hi hD h11
  have esi : kb_sz κ i = 0 := by
    unfold kb_sz
    rw [h11, h7]; rfl
  have hk := h.2.1
  constructor
  · unfold kb_I
    rw [if_neg (by omega), if_neg (by omega), if_neg (by omega), if_pos (by omega), h.2.2.1, een, kb_As, esi]; rfl
  · unfold kb_sz
    rw [if_neg (by omega), if_neg (by omega), if_pos (by omega)]
theorem kc_sz7 {i : Nat} (h7 : κ i = 7) : kb_sz κ i = 3 := by
  unfold kb_sz
  rw [h7]; rfl
/-- the four ways a choice ends -/
theorem kc_e1 {i : Nat} (hS : kb_S κ n) (hi : i < n) (h11 : κ i = 11) (hD : 0 < kb_D κ i) (h7 : κ (kb_op κ i) = 7) (n8 : ∀ k, k < i → ¬ kb_M κ (kb_op κ i) 8 k) (n9 : ∀ k, k < i → ¬ kb_M κ (kb_op κ i) 9 k) (h : kc_Q κ n fi se th (kc_S κ i) me) : kc_Q κ n fi se th (kc_S κ (i + 1)) (upd (upd me (kb_A κ (kb_op κ i) + 1) (kb_iw 10 (kb_A κ i))) (kb_A κ (kb_op κ i) + 2) (kb_iw 11 (kb_A κ i))) := by
  have e3 := kc_sz7 h7
  refine kc_fe7 hS hi h11 hD h7 (j1 := kb_op κ i) (f1 := 1) (j2 := kb_op κ i) (f2 := 2) (by omega) (by omega) (kc_Iz hS hi h11 hD h7 (Or.inl rfl) n8) (kc_Iz hS hi h11 hD h7 (Or.inr rfl) n9) rfl rfl (fun j f hj hsz hP hc => ?_) h
  rcases hc with q | ⟨q, q'⟩
  · rcases hP with ⟨a, _⟩ | ⟨_, _, ⟨b, _⟩ | ⟨b, _⟩⟩ | ⟨a, _⟩
    · rw [q] at a; omega
    · exact Or.inl ⟨q, b⟩
    · exact Or.inr ⟨q, b⟩
    · rw [q] at a; omega
  · have hM := kc_mk (κ := κ) (i := i) (fun m hm => hS.1 m (by omega)) hj q
    rw [q'] at hM
    rcases q with q | q
    · rw [q] at hM; exact absurd hM (n8 j hj)
    · rw [q] at hM; exact absurd hM (n9 j hj)
theorem kc_e2 {i k : Nat} (hS : kb_S κ n) (hi : i < n) (h11 : κ i = 11) (hD : 0 < kb_D κ i) (h7 : κ (kb_op κ i) = 7) (hk : k < i) (k8 : kb_M κ (kb_op κ i) 8 k) (n9 : ∀ k, k < i → ¬ kb_M κ (kb_op κ i) 9 k) (h : kc_Q κ n fi se th (kc_S κ i) me) : kc_Q κ n fi se th (kc_S κ (i + 1)) (upd (upd me (kb_A κ (kb_op κ i) + 2) (kb_iw 11 (kb_A κ i))) (kb_A κ k) (kb_iw 9 (kb_A κ i))) := by
  have e3 := kc_sz7 h7
  have hK : kb_K κ i := fun m hm => hS.1 m (by omega)
  obtain ⟨i1, i2⟩ := kc_Im (fi := fi) (se := se) (th := th) hS hi h11 hD h7 (Or.inl rfl) k8
  refine kc_fe7 hS hi h11 hD h7 (j1 := kb_op κ i) (f1 := 2) (j2 := k) (f2 := 0) (by omega) (by omega) (kc_Iz hS hi h11 hD h7 (Or.inr rfl) n9) i1 rfl rfl (fun j f hj hsz hP hc => ?_) h
  rcases hc with q | ⟨q, q'⟩
  · rcases hP with ⟨a, _⟩ | ⟨_, _, ⟨_, b⟩ | ⟨b, _⟩⟩ | ⟨a, _⟩
    · rw [q] at a; omega
    · rw [q] at b; exact absurd k8 (b k hk)
    · exact Or.inl ⟨q, b⟩
    · rw [q] at a; omega
  · have hM := kc_mk hK hj q
    rw [q'] at hM
    rcases q with q | q
    · rw [q] at hM
      have e := kb_u hK (Or.inl rfl) hj hk hM k8
      subst e
      exact Or.inr ⟨rfl, by omega⟩
    · rw [q] at hM; exact absurd hM (n9 j hj)
theorem kc_e3 {i k : Nat} (hS : kb_S κ n) (hi : i < n) (h11 : κ i = 11) (hD : 0 < kb_D κ i) (h7 : κ (kb_op κ i) = 7) (hk : k < i) (k9 : kb_M κ (kb_op κ i) 9 k) (n8 : ∀ k, k < i → ¬ kb_M κ (kb_op κ i) 8 k) (h : kc_Q κ n fi se th (kc_S κ i) me) : kc_Q κ n fi se th (kc_S κ (i + 1)) (upd (upd me (kb_A κ (kb_op κ i) + 1) (kb_iw 10 (kb_A κ i))) (kb_A κ k) (kb_iw 9 (kb_A κ i))) := by
  have e3 := kc_sz7 h7
  have hK : kb_K κ i := fun m hm => hS.1 m (by omega)
  obtain ⟨i1, i2⟩ := kc_Im (fi := fi) (se := se) (th := th) hS hi h11 hD h7 (Or.inr rfl) k9
  refine kc_fe7 hS hi h11 hD h7 (j1 := kb_op κ i) (f1 := 1) (j2 := k) (f2 := 0) (by omega) (by omega) (kc_Iz hS hi h11 hD h7 (Or.inl rfl) n8) i1 rfl rfl (fun j f hj hsz hP hc => ?_) h
  rcases hc with q | ⟨q, q'⟩
  · rcases hP with ⟨a, _⟩ | ⟨_, _, ⟨b, _⟩ | ⟨_, b⟩⟩ | ⟨a, _⟩
    · rw [q] at a; omega
    · exact Or.inl ⟨q, b⟩
    · rw [q] at b; exact absurd k9 (b k hk)
    · rw [q] at a; omega
  · have hM := kc_mk hK hj q
    rw [q'] at hM
    rcases q with q | q
    · rw [q] at hM; exact absurd hM (n8 j hj)
    · rw [q] at hM
      have e := kb_u hK (Or.inr rfl) hj hk hM k9
      subst e
      exact Or.inr ⟨rfl, by omega⟩
theorem kc_e4 {i k k' : Nat} (hS : kb_S κ n) (hi : i < n) (h11 : κ i = 11) (hD : 0 < kb_D κ i) (h7 : κ (kb_op κ i) = 7) (hk : k < i) (k8 : kb_M κ (kb_op κ i) 8 k) (hk' : k' < i) (k9 : kb_M κ (kb_op κ i) 9 k') (h : kc_Q κ n fi se th (kc_S κ i) me) : kc_Q κ n fi se th (kc_S κ (i + 1)) (upd (upd me (kb_A κ k) (kb_iw 9 (kb_A κ i))) (kb_A κ k') (kb_iw 9 (kb_A κ i))) := by
  have hK : kb_K κ i := fun m hm => hS.1 m (by omega)
  obtain ⟨i1, i2⟩ := kc_Im (fi := fi) (se := se) (th := th) hS hi h11 hD h7 (Or.inl rfl) k8
  obtain ⟨i3, i4⟩ := kc_Im (fi := fi) (se := se) (th := th) hS hi h11 hD h7 (Or.inr rfl) k9
  refine kc_fe7 hS hi h11 hD h7 (j1 := k) (f1 := 0) (j2 := k') (f2 := 0) (by omega) (by omega) i1 i3 rfl rfl (fun j f hj hsz hP hc => ?_) h
  rcases hc with q | ⟨q, q'⟩
  · rcases hP with ⟨a, _⟩ | ⟨_, _, ⟨_, b⟩ | ⟨_, b⟩⟩ | ⟨a, _⟩
    · rw [q] at a; omega
    · rw [q] at b; exact absurd k8 (b k hk)
    · rw [q] at b; exact absurd k9 (b k' hk')
    · rw [q] at a; omega
  · have hM := kc_mk hK hj q
    rw [q'] at hM
    rcases q with q | q
    · rw [q] at hM
      have e := kb_u hK (Or.inl rfl) hj hk hM k8
      subst e
      exact Or.inl ⟨rfl, by omega⟩
    · rw [q] at hM
      have e := kb_u hK (Or.inr rfl) hj hk' hM k9
      subst e
      exact Or.inr ⟨rfl, by omega⟩
end
end
section
/-! ===== X compiles ===== -/
section
variable {f_length f_compiled f_isSound f_codeEnd f_poolEnd f_openCount f_accumulator f_place f_running f_printedCount : Int32} {a_kind a_first a_second a_third a_openKind a_openTop a_openCell a_zeroJump a_posJump a_leaveFirst a_leaveSecond a_memory a_printedWords : Nat → Int32} {κ : Nat → Nat} {n i : Nat} {fi se th : Nat → Nat} {m0 : Nat → Int32}
theorem xc_arg {o l : Nat} (ho : o ≤ 12) (hl : l ≤ 728) : (729 * (nI o).toInt64 + (nI l).toInt64) - 364 = Int64.ofInt (729 * (o : Int) + l - 364) := by
  rw [zi_n, zi_n, zi_l (by omega) (by omega), zi_l (by omega) (by omega), Int64.ofInt_sub, Int64.ofInt_add, Int64.ofInt_mul]; rfl
theorem xc_write {c o l : Nat} (hc : c < 729) (ho : o ≤ 12) (hl : l ≤ 728) {post : SX → Prop} {x y : Int32} (hx : x = nI o) (hy : y = nI l) (hcE : f_codeEnd = nI c) (h : post (f_length, f_compiled, f_isSound, nI (c + 1), f_poolEnd, f_openCount, f_accumulator, f_place, f_running, f_printedCount, a_kind, a_first, a_second, a_third, a_openKind, a_openTop, a_openCell, a_zeroJump, a_posJump, a_leaveFirst, a_leaveSecond, upd a_memory c (kb_iw o l), a_printedWords)) : wpX_write post (f_length, f_compiled, f_isSound, f_codeEnd, f_poolEnd, f_openCount, f_accumulator, f_place, f_running, f_printedCount, a_kind, a_first, a_second, a_third, a_openKind, a_openTop, a_openCell, a_zeroJump, a_posJump, a_leaveFirst, a_leaveSecond, a_memory, a_printedWords) x y := by
  subst hx; subst hy; subst hcE
  unfold wpX_write
  refine xw_wordOf (z := 729 * (o : Int) + l - 364) (by omega) (by omega) (xc_arg ho hl) ⟨vp_in_nI hc (by decide), ?_⟩
  rw [nI_clamp (by omega)]
  exact nm_e (nm_r (nI_1 c) h)
theorem xc_pool {p : Nat} (hp : p < 729) {post : Int32 → SX → Prop} {x : Int32} (hpE : f_poolEnd = nI p) (h : post (nI p) (f_length, f_compiled, f_isSound, f_codeEnd, nI (p + 1), f_openCount, f_accumulator, f_place, f_running, f_printedCount, a_kind, a_first, a_second, a_third, a_openKind, a_openTop, a_openCell, a_zeroJump, a_posJump, a_leaveFirst, a_leaveSecond, upd a_memory p (tt_w x.toInt), a_printedWords)) : wpX_pool post (f_length, f_compiled, f_isSound, f_codeEnd, f_poolEnd, f_openCount, f_accumulator, f_place, f_running, f_printedCount, a_kind, a_first, a_second, a_third, a_openKind, a_openTop, a_openCell, a_zeroJump, a_posJump, a_leaveFirst, a_leaveSecond, a_memory, a_printedWords) x := by
  subst hpE
  unfold wpX_pool
  have b1 := x.le_toInt
  have b2 := x.toInt_lt
  refine xw_wordOf (z := x.toInt) (by omega) (by omega) (Int64.ofInt_int32ToInt x).symm ⟨vp_in_nI hp (by decide), ?_⟩
  rw [nI_clamp (by omega)]
  exact nm_e (nm_r (nI_1 p) h)
theorem xc_direct {a o l : Nat} (ha : a < 729) (ho : o ≤ 12) (hl : l ≤ 728) {post : SX → Prop} {x y z : Int32} (hx : x = nI a) (hy : y = nI o) (hz : z = nI l) (h : post (f_length, f_compiled, f_isSound, f_codeEnd, f_poolEnd, f_openCount, f_accumulator, f_place, f_running, f_printedCount, a_kind, a_first, a_second, a_third, a_openKind, a_openTop, a_openCell, a_zeroJump, a_posJump, a_leaveFirst, a_leaveSecond, upd a_memory a (kb_iw o l), a_printedWords)) : wpX_direct post (f_length, f_compiled, f_isSound, f_codeEnd, f_poolEnd, f_openCount, f_accumulator, f_place, f_running, f_printedCount, a_kind, a_first, a_second, a_third, a_openKind, a_openTop, a_openCell, a_zeroJump, a_posJump, a_leaveFirst, a_leaveSecond, a_memory, a_printedWords) x y z := by
  subst hx; subst hy; subst hz
  unfold wpX_direct
  refine xw_wordOf (z := 729 * (o : Int) + l - 364) (by omega) (by omega) (xc_arg ho hl) ⟨vp_in_nI ha (by decide), ?_⟩
  rw [nI_clamp (by omega)]
  exact nm_e h
/-- a statement of words that are right at once -/
theorem xc_0 (hκ : ∀ i, a_kind i = nI (κ i)) (hn40 : n ≤ 40) (hS : kb_S κ n) (hi : i < n) (hk : κ i = 0) (hse : a_second i = nI (se i)) (hse6 : se i < 6) (I : kc_I κ n fi se th a_first m0 i f_codeEnd f_poolEnd f_openCount a_openKind a_openTop a_openCell a_zeroJump a_posJump a_leaveFirst a_leaveSecond a_memory) {post : SX → Prop} (H : ∀ (cE pE oC : Int32) (oK oT oL zJ pJ lF lS me : Nat → Int32), kc_I κ n fi se th a_first m0 (i + 1) cE pE oC oK oT oL zJ pJ lF lS me → post (f_length, f_compiled, f_isSound, cE, pE, oC, f_accumulator, f_place, f_running, f_printedCount, a_kind, a_first, a_second, a_third, oK, oT, oL, zJ, pJ, lF, lS, me, a_printedWords)) : wpX_compileStatement post (f_length, f_compiled, f_isSound, f_codeEnd, f_poolEnd, f_openCount, f_accumulator, f_place, f_running, f_printedCount, a_kind, a_first, a_second, a_third, a_openKind, a_openTop, a_openCell, a_zeroJump, a_posJump, a_leaveFirst, a_leaveSecond, a_memory, a_printedWords) (nI i) := by
  obtain ⟨hc, hp, ho, hB, hQ, hX⟩ := I
  subst hc; subst hp; subst ho
  have hA := kb_A4 (κ := κ) i
  have hP := kb_Pb (κ := κ) i
  have hin : vp_in (nI i) 40 := vp_in_nI (by omega) (by decide)
  have esz : kb_sz κ i = 2 := by unfold kb_sz; rw [hk]; rfl
  have ek : a_kind (nI i).toNatClampNeg = nI 0 := by rw [nI_clamp (by omega), hκ, hk]
  have i0 : kb_I κ n fi se th i 0 = (1, kb_P κ i) := by unfold kb_I; rw [if_pos hk, if_pos rfl]
  have i1 : kb_I κ n fi se th i 1 = (2, 500 + se i) := by unfold kb_I; rw [if_pos hk, if_neg (by decide)]
  refine ⟨hin, nm_r ek (br_t rfl ⟨hin, xc_pool (p := kb_P κ i) (by omega) rfl (xc_write (c := kb_A κ i) (o := 1) (l := kb_P κ i) (by omega) (by omega) (by omega) rfl rfl rfl ⟨hin, xc_write (c := kb_A κ i + 1) (o := 2) (l := 500 + se i) (by omega) (by omega) (by omega) rfl (by rw [nI_clamp (by omega), hse]; exact nI_add 500 _) rfl (H _ _ _ _ _ _ _ _ _ _ _ ⟨?_, ?_, ?_, kc_B0 (by omega) (by omega) (by omega) (by omega) hB, ?_, ?_⟩)⟩)⟩)⟩
  · rw [kb_As, esz]
  · rw [kb_Ps, if_pos hk]
  · rw [kb_Dn (by omega) (by omega) (by omega)]
  · exact kc_f0 (k := 2) (by omega) (by omega) (by omega) (fun f q1 q2 => by omega) (kc_nx (k := 1) (by omega) rfl i1 (kc_nx (k := 0) (by omega) rfl i0 (kc_st (k := 0) (by omega) (kc_hp (i := i) (by omega) (fun j f hs => hs.1) (by omega) hQ))))
  · refine kc_Xs (kc_Xw (by omega) (kc_Xw (by omega) (kc_Xp (Nat.le_refl _) hX))) (fun _ => ?_)
    rw [pk_un (by omega), pk_un (by omega), pk_us, nI_clamp (by omega)]
theorem xc_111 {c : Nat} (hc : c < 200) (hi : i < 40) (hfi : a_first i = nI (fi i)) (hfi6 : fi i < 6) (hcE : f_codeEnd = nI c) {post : SX → Prop} (h : post (f_length, f_compiled, f_isSound, nI (c + 1), f_poolEnd, f_openCount, f_accumulator, f_place, f_running, f_printedCount, a_kind, a_first, a_second, a_third, a_openKind, a_openTop, a_openCell, a_zeroJump, a_posJump, a_leaveFirst, a_leaveSecond, upd a_memory c (kb_iw 2 (500 + fi i)), a_printedWords)) : wX_compileArithmetic_111 post (nI i) f_length f_compiled f_isSound f_codeEnd f_poolEnd f_openCount f_accumulator f_place f_running f_printedCount a_kind a_first a_second a_third a_openKind a_openTop a_openCell a_zeroJump a_posJump a_leaveFirst a_leaveSecond a_memory a_printedWords :=
  ⟨vp_in_nI hi (by decide), xc_write (c := c) (o := 2) (l := 500 + fi i) (by omega) (by omega) (by omega) rfl (by rw [nI_clamp (by omega), hfi]; exact nI_add 500 _) hcE h⟩
theorem xc_ar (hκ : ∀ i, a_kind i = nI (κ i)) (hn40 : n ≤ 40) (hS : kb_S κ n) (hi : i < n) (hk : 1 ≤ κ i) (hk' : κ i ≤ 6) (hse : a_second i = nI (se i)) (hse6 : se i < 6) (hfi : a_first i = nI (fi i)) (hfi6 : fi i < 6) (hth : κ i ≠ 4 → κ i ≠ 5 → a_third i = nI (th i) ∧ th i < 6) (I : kc_I κ n fi se th a_first m0 i f_codeEnd f_poolEnd f_openCount a_openKind a_openTop a_openCell a_zeroJump a_posJump a_leaveFirst a_leaveSecond a_memory) {post : SX → Prop} (H : ∀ (cE pE oC : Int32) (oK oT oL zJ pJ lF lS me : Nat → Int32), kc_I κ n fi se th a_first m0 (i + 1) cE pE oC oK oT oL zJ pJ lF lS me → post (f_length, f_compiled, f_isSound, cE, pE, oC, f_accumulator, f_place, f_running, f_printedCount, a_kind, a_first, a_second, a_third, oK, oT, oL, zJ, pJ, lF, lS, me, a_printedWords)) : wpX_compileStatement post (f_length, f_compiled, f_isSound, f_codeEnd, f_poolEnd, f_openCount, f_accumulator, f_place, f_running, f_printedCount, a_kind, a_first, a_second, a_third, a_openKind, a_openTop, a_openCell, a_zeroJump, a_posJump, a_leaveFirst, a_leaveSecond, a_memory, a_printedWords) (nI i) := by
  obtain ⟨hc, hp, ho, hB, hQ, hX⟩ := I
  subst hc; subst hp; subst ho
  have hA := kb_A4 (κ := κ) i
  have hin : vp_in (nI i) 40 := vp_in_nI (by omega) (by decide)
  have esz : kb_sz κ i = 3 := by unfold kb_sz; rw [if_neg (by omega), if_pos (by omega)]
  have ek : a_kind (nI i).toNatClampNeg = nI (κ i) := by rw [nI_clamp (by omega), hκ]
  have i0 : kb_I κ n fi se th i 0 = (1, 500 + se i) := by unfold kb_I; rw [if_neg (by omega), if_pos (by omega), if_pos rfl]
  have i1 : kb_I κ n fi se th i 1 = (kb_oc (κ i), if κ i = 4 ∨ κ i = 5 then 364 else 500 + th i) := by unfold kb_I; rw [if_neg (by omega), if_pos (by omega), if_neg (by decide), if_pos rfl]
  have i2 : kb_I κ n fi se th i 2 = (2, 500 + fi i) := by unfold kb_I; rw [if_neg (by omega), if_pos (by omega), if_neg (by decide), if_neg (by decide)]
  have fin : ∀ o l : Nat, kb_oc (κ i) = o → (if κ i = 4 ∨ κ i = 5 then 364 else 500 + th i) = l → post (f_length, f_compiled, f_isSound, nI (kb_A κ i + 1 + 1 + 1), nI (kb_P κ i), nI (kb_D κ i), f_accumulator, f_place, f_running, f_printedCount, a_kind, a_first, a_second, a_third, a_openKind, a_openTop, a_openCell, a_zeroJump, a_posJump, a_leaveFirst, a_leaveSecond, upd (upd (upd a_memory (kb_A κ i) (kb_iw 1 (500 + se i))) (kb_A κ i + 1) (kb_iw o l)) (kb_A κ i + 1 + 1) (kb_iw 2 (500 + fi i)), a_printedWords) := by
    intro o l ho hl
    rw [ho, hl] at i1
    refine H _ _ _ _ _ _ _ _ _ _ _ ⟨?_, ?_, ?_, kc_B0 (by omega) (by omega) (by omega) (by omega) hB, ?_, ?_⟩
    · rw [kb_As, esz]
    · rw [kb_Ps, if_neg (by omega), if_neg (by omega)]; rfl
    · rw [kb_Dn (by omega) (by omega) (by omega)]
    · exact kc_f0 (k := 3) (by omega) (by omega) (by omega) (fun f q1 q2 => by omega) (kc_nx (k := 2) (by omega) rfl i2 (kc_nx (k := 1) (by omega) rfl i1 (kc_nx (k := 0) (by omega) rfl i0 (kc_st (k := 0) (by omega) hQ))))
    · exact kc_Xs (kc_Xw (by omega) (kc_Xw (by omega) (kc_Xw (by omega) hX))) (fun q => by omega)
  have e500 : ∀ m : Nat, (500 : Int32) + nI m = nI (500 + m) := fun m => nI_add 500 m
  have hse' : (500 : Int32) + a_second (nI i).toNatClampNeg = nI (500 + se i) := by rw [nI_clamp (by omega), hse, e500]
  refine ⟨hin, nm_r ek (br_f (nI_ne0 (by omega) (by omega)) (br_f (nI_nlt (a := 6) hk' (by decide)) ?_))⟩
  unfold wpX_compileArithmetic
  refine ⟨hin, nm_r ek ⟨hin, nm_e ⟨hin, xc_write (c := kb_A κ i) (o := 1) (l := 500 + se i) (by omega) (by omega) (by omega) rfl hse' rfl ?_⟩⟩⟩
  have hk6 : κ i = 4 ∨ κ i = 5 ∨ κ i = 1 ∨ κ i = 2 ∨ κ i = 3 ∨ κ i = 6 := by omega
  rcases hk6 with q | q | q | q | q | q
  · rw [q] at fin ⊢
    exact br_t rfl (xc_write (c := kb_A κ i + 1) (o := 7) (l := 364) (by omega) (by omega) (by omega) rfl rfl rfl (xc_111 (c := kb_A κ i + 1 + 1) (by omega) (by omega) hfi hfi6 rfl (fin 7 364 rfl rfl)))
  · rw [q] at fin ⊢
    exact br_f (by decide) (br_t rfl (xc_write (c := kb_A κ i + 1) (o := 8) (l := 364) (by omega) (by omega) (by omega) rfl rfl rfl (xc_111 (c := kb_A κ i + 1 + 1) (by omega) (by omega) hfi hfi6 rfl (fin 8 364 rfl rfl))))
  · obtain ⟨t1, t2⟩ := hth (by omega) (by omega)
    have ht' : (500 : Int32) + a_third (nI i).toNatClampNeg = nI (500 + th i) := by rw [nI_clamp (by omega), t1, e500]
    rw [q] at fin ⊢
    exact br_f (by decide) (br_f (by decide) (br_t rfl (xc_write (c := kb_A κ i + 1) (o := 3) (l := 500 + th i) (by omega) (by omega) (by omega) rfl ht' rfl (xc_111 (c := kb_A κ i + 1 + 1) (by omega) (by omega) hfi hfi6 rfl (fin 3 _ rfl rfl)))))
  · obtain ⟨t1, t2⟩ := hth (by omega) (by omega)
    have ht' : (500 : Int32) + a_third (nI i).toNatClampNeg = nI (500 + th i) := by rw [nI_clamp (by omega), t1, e500]
    rw [q] at fin ⊢
    exact br_f (by decide) (br_f (by decide) (br_f (by decide) (br_t rfl (xc_write (c := kb_A κ i + 1) (o := 4) (l := 500 + th i) (by omega) (by omega) (by omega) rfl ht' rfl (xc_111 (c := kb_A κ i + 1 + 1) (by omega) (by omega) hfi hfi6 rfl (fin 4 _ rfl rfl))))))
  · obtain ⟨t1, t2⟩ := hth (by omega) (by omega)
    have ht' : (500 : Int32) + a_third (nI i).toNatClampNeg = nI (500 + th i) := by rw [nI_clamp (by omega), t1, e500]
    rw [q] at fin ⊢
    refine br_f (by decide) (br_f (by decide) (br_f (by decide) (br_f (by decide) (br_t rfl ?_))))
    unfold wX_compileArithmetic_107
    exact xc_write (c := kb_A κ i + 1) (o := 5) (l := 500 + th i) (by omega) (by omega) (by omega) rfl ht' rfl (xc_111 (c := kb_A κ i + 1 + 1) (by omega) (by omega) hfi hfi6 rfl (fin 5 _ rfl rfl))
  · obtain ⟨t1, t2⟩ := hth (by omega) (by omega)
    have ht' : (500 : Int32) + a_third (nI i).toNatClampNeg = nI (500 + th i) := by rw [nI_clamp (by omega), t1, e500]
    rw [q] at fin ⊢
    refine br_f (by decide) (br_f (by decide) (br_f (by decide) (br_f (by decide) (br_f (by decide) ?_))))
    unfold wX_compileArithmetic_107
    exact xc_write (c := kb_A κ i + 1) (o := 6) (l := 500 + th i) (by omega) (by omega) (by omega) rfl ht' rfl (xc_111 (c := kb_A κ i + 1 + 1) (by omega) (by omega) hfi hfi6 rfl (fin 6 _ rfl rfl))
theorem xc_12 (hκ : ∀ i, a_kind i = nI (κ i)) (hn40 : n ≤ 40) (hS : kb_S κ n) (hi : i < n) (hk : κ i = 12) (hfi : a_first i = nI (fi i)) (hfi6 : fi i < 6) (I : kc_I κ n fi se th a_first m0 i f_codeEnd f_poolEnd f_openCount a_openKind a_openTop a_openCell a_zeroJump a_posJump a_leaveFirst a_leaveSecond a_memory) {post : SX → Prop} (H : ∀ (cE pE oC : Int32) (oK oT oL zJ pJ lF lS me : Nat → Int32), kc_I κ n fi se th a_first m0 (i + 1) cE pE oC oK oT oL zJ pJ lF lS me → post (f_length, f_compiled, f_isSound, cE, pE, oC, f_accumulator, f_place, f_running, f_printedCount, a_kind, a_first, a_second, a_third, oK, oT, oL, zJ, pJ, lF, lS, me, a_printedWords)) : wpX_compileStatement post (f_length, f_compiled, f_isSound, f_codeEnd, f_poolEnd, f_openCount, f_accumulator, f_place, f_running, f_printedCount, a_kind, a_first, a_second, a_third, a_openKind, a_openTop, a_openCell, a_zeroJump, a_posJump, a_leaveFirst, a_leaveSecond, a_memory, a_printedWords) (nI i) := by
  obtain ⟨hc, hp, ho, hB, hQ, hX⟩ := I
  subst hc; subst hp; subst ho
  have hA := kb_A4 (κ := κ) i
  have hin : vp_in (nI i) 40 := vp_in_nI (by omega) (by decide)
  have esz : kb_sz κ i = 1 := by unfold kb_sz; rw [hk]; rfl
  have ek : a_kind (nI i).toNatClampNeg = nI 12 := by rw [nI_clamp (by omega), hκ, hk]
  have i0 : kb_I κ n fi se th i 0 = (12, 500 + fi i) := by unfold kb_I; rw [hk]; rfl
  refine ⟨hin, nm_r ek (br_f (by decide) (br_t (by decide) (br_f (by decide) (br_f (by decide) (br_f (by decide) (br_f (by decide) (br_f (by decide) ⟨hin, xc_write (c := kb_A κ i) (o := 12) (l := 500 + fi i) (by omega) (by omega) (by omega) rfl (by rw [nI_clamp (by omega), hfi]; exact nI_add 500 _) rfl (H _ _ _ _ _ _ _ _ _ _ _ ⟨?_, ?_, ?_, kc_B0 (by omega) (by omega) (by omega) (by omega) hB, ?_, ?_⟩)⟩)))))))⟩
  · rw [kb_As, esz]
  · rw [kb_Ps, if_neg (by omega), if_neg (by omega)]; rfl
  · rw [kb_Dn (by omega) (by omega) (by omega)]
  · exact kc_f0 (k := 1) (by omega) (by omega) (by omega) (fun f q1 q2 => by omega) (kc_nx (k := 0) (by omega) rfl i0 (kc_st (k := 0) (by omega) hQ))
  · exact kc_Xs (kc_Xw (by omega) hX) (fun q => by omega)
end
end
section
/-! ===== X compiles blocks ===== -/
theorem vn_b7 : vp_nar .byte 7 = 7 := by rw [vp_nar_byte]; decide
theorem vn_b10 : vp_nar .byte 10 = 10 := by rw [vp_nar_byte]; decide
section
variable {f_length f_compiled f_isSound f_codeEnd f_poolEnd f_openCount f_accumulator f_place f_running f_printedCount : Int32} {a_kind a_first a_second a_third a_openKind a_openTop a_openCell a_zeroJump a_posJump a_leaveFirst a_leaveSecond a_memory a_printedWords : Nat → Int32} {κ : Nat → Nat} {n i : Nat} {fi se th : Nat → Nat} {m0 : Nat → Int32}
theorem xc_7 (hκ : ∀ i, a_kind i = nI (κ i)) (hn40 : n ≤ 40) (hS : kb_S κ n) (hi : i < n) (hk : κ i = 7) (hfi : a_first i = nI (fi i)) (hfi6 : fi i < 6) (I : kc_I κ n fi se th a_first m0 i f_codeEnd f_poolEnd f_openCount a_openKind a_openTop a_openCell a_zeroJump a_posJump a_leaveFirst a_leaveSecond a_memory) {post : SX → Prop} (H : ∀ (cE pE oC : Int32) (oK oT oL zJ pJ lF lS me : Nat → Int32), kc_I κ n fi se th a_first m0 (i + 1) cE pE oC oK oT oL zJ pJ lF lS me → post (f_length, f_compiled, f_isSound, cE, pE, oC, f_accumulator, f_place, f_running, f_printedCount, a_kind, a_first, a_second, a_third, oK, oT, oL, zJ, pJ, lF, lS, me, a_printedWords)) : wpX_compileStatement post (f_length, f_compiled, f_isSound, f_codeEnd, f_poolEnd, f_openCount, f_accumulator, f_place, f_running, f_printedCount, a_kind, a_first, a_second, a_third, a_openKind, a_openTop, a_openCell, a_zeroJump, a_posJump, a_leaveFirst, a_leaveSecond, a_memory, a_printedWords) (nI i) := by
  obtain ⟨hc, hp, ho, hB, hQ, hX⟩ := I
  subst hc; subst hp; subst ho
  have hA := kb_A4 (κ := κ) i
  have hD := (hS.1 i hi).2.1 (Or.inl hk)
  have hin : vp_in (nI i) 40 := vp_in_nI (by omega) (by decide)
  have hd4 : vp_in (nI (kb_D κ i)) 4 := vp_in_nI (by omega) (by decide)
  have esz : kb_sz κ i = 3 := kc_sz7 hk
  have ek : a_kind (nI i).toNatClampNeg = nI 7 := by rw [nI_clamp (by omega), hκ, hk]
  have ed : (nI (kb_D κ i)).toNatClampNeg = kb_D κ i := nI_clamp (by omega)
  have i0 : kb_I κ n fi se th i 0 = (1, 500 + fi i) := by unfold kb_I; rw [hk]; rfl
  refine ⟨hin, nm_r ek (br_f (by decide) (br_t (by decide) (br_t rfl ⟨hin, ?_⟩)))⟩
  unfold wpX_openCase
  refine xc_write (c := kb_A κ i) (o := 1) (l := 500 + fi i) (by omega) (by omega) (by omega) rfl (by rw [nI_clamp (by omega), hfi]; exact nI_add 500 _) rfl ⟨hd4, ?_⟩
  rw [ed, vn_b7]
  refine nm_e ⟨hd4, ?_⟩
  rw [vn_s _ (by omega)]
  refine nm_e (xc_write (c := kb_A κ i + 1) (o := 10) (l := 364) (by omega) (by omega) (by omega) rfl rfl rfl ⟨hd4, ?_⟩)
  rw [ed, vn_s _ (by omega)]
  refine nm_e (xc_write (c := kb_A κ i + 1 + 1) (o := 11) (l := 364) (by omega) (by omega) (by omega) rfl rfl rfl ⟨hd4, ?_⟩)
  rw [ed, vn_m1]
  refine nm_e ⟨hd4, nm_e (nm_r (nI_1 _) (H _ _ _ _ _ _ _ _ _ _ _ ⟨?_, ?_, ?_, kc_B7 hk rfl rfl hB, ?_, ?_⟩))⟩
  · rw [kb_As, esz]
  · rw [kb_Ps, if_neg (by omega), if_neg (by omega)]; rfl
  · rw [kb_Do (Or.inl hk)]
  · refine kc_f0 (k := 1) (by omega) (by omega) (by omega) (fun f q1 q2 => ?_) (kc_ph (by omega) (by omega) (by omega) (kc_ph (by omega) (by omega) (by omega) (kc_nx (k := 0) (by omega) rfl i0 (kc_st (k := 0) (by omega) hQ))))
    have hO : kb_O κ i (i + 1) := ⟨by omega, fun m m1 m2 => by rw [show m = i + 1 from by omega, kb_Do (Or.inl hk)]; omega⟩
    have hf : f = 1 ∨ f = 2 := by omega
    refine Or.inr (Or.inl ⟨hk, hO, ?_⟩)
    rcases hf with q | q
    · exact Or.inl ⟨q, fun k h1 hM => by have := hM.1; omega⟩
    · exact Or.inr ⟨q, fun k h1 hM => by have := hM.1; omega⟩
  · exact kc_Xs (kc_Xw (by omega) (kc_Xw (by omega) (kc_Xw (by omega) hX))) (fun q => by omega)
theorem xc_10 (hκ : ∀ i, a_kind i = nI (κ i)) (hn40 : n ≤ 40) (hS : kb_S κ n) (hi : i < n) (hk : κ i = 10) (hfi : a_first i = nI (fi i)) (hfi6 : fi i < 6) (I : kc_I κ n fi se th a_first m0 i f_codeEnd f_poolEnd f_openCount a_openKind a_openTop a_openCell a_zeroJump a_posJump a_leaveFirst a_leaveSecond a_memory) {post : SX → Prop} (H : ∀ (cE pE oC : Int32) (oK oT oL zJ pJ lF lS me : Nat → Int32), kc_I κ n fi se th a_first m0 (i + 1) cE pE oC oK oT oL zJ pJ lF lS me → post (f_length, f_compiled, f_isSound, cE, pE, oC, f_accumulator, f_place, f_running, f_printedCount, a_kind, a_first, a_second, a_third, oK, oT, oL, zJ, pJ, lF, lS, me, a_printedWords)) : wpX_compileStatement post (f_length, f_compiled, f_isSound, f_codeEnd, f_poolEnd, f_openCount, f_accumulator, f_place, f_running, f_printedCount, a_kind, a_first, a_second, a_third, a_openKind, a_openTop, a_openCell, a_zeroJump, a_posJump, a_leaveFirst, a_leaveSecond, a_memory, a_printedWords) (nI i) := by
  obtain ⟨hc, hp, ho, hB, hQ, hX⟩ := I
  subst hc; subst hp; subst ho
  have hA := kb_A4 (κ := κ) i
  have hP := kb_Pb (κ := κ) i
  have hD := (hS.1 i hi).2.1 (Or.inr hk)
  have hin : vp_in (nI i) 40 := vp_in_nI (by omega) (by decide)
  have hd4 : vp_in (nI (kb_D κ i)) 4 := vp_in_nI (by omega) (by decide)
  have esz : kb_sz κ i = 4 := by unfold kb_sz; rw [hk]; rfl
  have ek : a_kind (nI i).toNatClampNeg = nI 10 := by rw [nI_clamp (by omega), hκ, hk]
  have ed : (nI (kb_D κ i)).toNatClampNeg = kb_D κ i := nI_clamp (by omega)
  have i0 : kb_I κ n fi se th i 0 = (1, kb_P κ i) := by unfold kb_I; rw [hk]; rfl
  have i1 : kb_I κ n fi se th i 1 = (2, kb_P κ i + 1) := by unfold kb_I; rw [hk]; rfl
  have i2 : kb_I κ n fi se th i 2 = (1, kb_P κ i + 1) := by unfold kb_I; rw [hk]; rfl
  refine ⟨hin, nm_r ek (br_f (by decide) (br_t (by decide) (br_f (by decide) (br_f (by decide) (br_f (by decide) (br_t rfl ⟨hin, ?_⟩))))))⟩
  unfold wpX_openLoop
  refine xc_pool (p := kb_P κ i) (by omega) rfl ?_
  refine xc_pool (p := kb_P κ i + 1) (by omega) rfl ?_
  refine xc_write (c := kb_A κ i) (o := 1) (l := kb_P κ i) (by omega) (by omega) (by omega) rfl rfl rfl ?_
  refine xc_write (c := kb_A κ i + 1) (o := 2) (l := kb_P κ i + 1) (by omega) (by omega) (by omega) rfl rfl rfl ⟨hd4, ?_⟩
  rw [ed, vn_b10]
  refine nm_e ⟨hd4, ?_⟩
  rw [vn_s _ (by omega)]
  refine nm_e ⟨hd4, ?_⟩
  rw [vn_s _ (by omega)]
  refine nm_e (nm_r (nI_1 _) ?_)
  refine xc_write (c := kb_A κ i + 1 + 1) (o := 1) (l := kb_P κ i + 1) (by omega) (by omega) (by omega) rfl rfl rfl ?_
  refine xc_write (c := kb_A κ i + 1 + 1 + 1) (o := 10) (l := 364) (by omega) (by omega) (by omega) rfl rfl rfl (H _ _ _ _ _ _ _ _ _ _ _ ⟨?_, ?_, ?_, kc_B10 hk rfl rfl hB, ?_, ?_⟩)
  · rw [kb_As, esz]
  · rw [kb_Ps, if_neg (by omega), if_pos hk]
  · rw [kb_Do (Or.inr hk)]
  · refine kc_f0 (k := 3) (by omega) (by omega) (by omega) (fun f q1 q2 => ?_) (kc_ph (by omega) (by omega) (by omega) (kc_nx (k := 2) (by omega) rfl i2 (kc_nx (k := 1) (by omega) rfl i1 (kc_nx (k := 0) (by omega) rfl i0 (kc_st (k := 0) (by omega) (kc_hp (i := i) (by omega) (fun j f hs => hs.1) (by omega) (kc_hp (i := i) (by omega) (fun j f hs => hs.1) (by omega) hQ)))))))
    have hO : kb_O κ i (i + 1) := ⟨by omega, fun m m1 m2 => by rw [show m = i + 1 from by omega, kb_Do (Or.inr hk)]; omega⟩
    exact Or.inl ⟨hk, by omega, hO⟩
  · refine kc_Xs (kc_Xw (by omega) (kc_Xw (by omega) (kc_Xw (by omega) (kc_Xw (by omega) (kc_Xp (by omega) (kc_Xp (Nat.le_refl _) hX)))))) (fun _ => ?_)
    rw [pk_un (by omega), pk_un (by omega), pk_un (by omega), pk_un (by omega), pk_un (by omega), pk_us, nI_clamp (by omega)]
/-- behind the jump of a mark -/
theorem xc_41 {c d : Nat} (hS : kb_S κ n) (hn40 : n ≤ 40) (hi : i < n) (h8 : κ i = 8 ∨ κ i = 9) (hM : kb_MF κ i) (hc : f_codeEnd = nI (kb_A κ i)) (hd : d < 4) (hz : κ i = 8 → a_zeroJump d = nI (kb_A κ (kb_op κ i) + 1)) (hp : κ i = 9 → a_posJump d = nI (kb_A κ (kb_op κ i) + 2)) {post : SX → Prop} (H8 : κ i = 8 → ∀ w : Int32, post (f_length, f_compiled, f_isSound, nI (kb_A κ i + 1), f_poolEnd, f_openCount, f_accumulator, f_place, f_running, f_printedCount, a_kind, a_first, a_second, a_third, a_openKind, a_openTop, a_openCell, upd a_zeroJump d (-1), a_posJump, a_leaveFirst, a_leaveSecond, upd (upd a_memory (kb_A κ i) w) (kb_A κ (kb_op κ i) + 1) (kb_iw (κ i + 2) (kb_A κ i + 1)), a_printedWords)) (H9 : κ i = 9 → ∀ w : Int32, post (f_length, f_compiled, f_isSound, nI (kb_A κ i + 1), f_poolEnd, f_openCount, f_accumulator, f_place, f_running, f_printedCount, a_kind, a_first, a_second, a_third, a_openKind, a_openTop, a_openCell, a_zeroJump, upd a_posJump d (-1), a_leaveFirst, a_leaveSecond, upd (upd a_memory (kb_A κ i) w) (kb_A κ (kb_op κ i) + 2) (kb_iw (κ i + 2) (kb_A κ i + 1)), a_printedWords)) : wX_openSection_41 post (nI (κ i)) (nI d) f_length f_compiled f_isSound f_codeEnd f_poolEnd f_openCount f_accumulator f_place f_running f_printedCount a_kind a_first a_second a_third a_openKind a_openTop a_openCell a_zeroJump a_posJump a_leaveFirst a_leaveSecond a_memory a_printedWords := by
  subst hc
  have hA := kb_A4 (κ := κ) i
  have hA2 := kb_A4 (κ := κ) (kb_op κ i)
  have b1 := (kb_op1 (κ := κ) (i := i) hM.1).1
  have hd4 : vp_in (nI d) 4 := vp_in_nI hd (by decide)
  have ed : (nI d).toNatClampNeg = d := nI_clamp (by omega)
  unfold wX_openSection_41
  refine xc_write (c := kb_A κ i) (o := 9) (l := 364) (by omega) (by omega) (by omega) rfl rfl rfl ?_
  rcases h8 with q | q
  · have H := H8 q
    rw [q] at H ⊢
    refine br_t rfl ⟨hd4, ?_⟩
    rw [ed, hz q]
    refine xc_direct (a := kb_A κ (kb_op κ i) + 1) (o := 10) (l := kb_A κ i + 1) (by omega) (by omega) (by omega) rfl rfl rfl ⟨hd4, ?_⟩
    rw [vn_m1]
    exact nm_e (H _)
  · have H := H9 q
    rw [q] at H ⊢
    refine br_f (by decide) ⟨hd4, ?_⟩
    rw [ed, hp q]
    refine xc_direct (a := kb_A κ (kb_op κ i) + 2) (o := 11) (l := kb_A κ i + 1) (by omega) (by omega) (by omega) rfl rfl rfl ⟨hd4, ?_⟩
    rw [vn_m1]
    exact nm_e (H _)
theorem xc_mk (hκ : ∀ i, a_kind i = nI (κ i)) (hn40 : n ≤ 40) (hS : kb_S κ n) (hi : i < n) (h8 : κ i = 8 ∨ κ i = 9) (I : kc_I κ n fi se th a_first m0 i f_codeEnd f_poolEnd f_openCount a_openKind a_openTop a_openCell a_zeroJump a_posJump a_leaveFirst a_leaveSecond a_memory) {post : SX → Prop} (H : ∀ (cE pE oC : Int32) (oK oT oL zJ pJ lF lS me : Nat → Int32), kc_I κ n fi se th a_first m0 (i + 1) cE pE oC oK oT oL zJ pJ lF lS me → post (f_length, f_compiled, f_isSound, cE, pE, oC, f_accumulator, f_place, f_running, f_printedCount, a_kind, a_first, a_second, a_third, oK, oT, oL, zJ, pJ, lF, lS, me, a_printedWords)) : wpX_openSection post (f_length, f_compiled, f_isSound, f_codeEnd, f_poolEnd, f_openCount, f_accumulator, f_place, f_running, f_printedCount, a_kind, a_first, a_second, a_third, a_openKind, a_openTop, a_openCell, a_zeroJump, a_posJump, a_leaveFirst, a_leaveSecond, a_memory, a_printedWords) (nI (κ i)) := by
  obtain ⟨hc, hp, ho, hB, hQ, hX⟩ := I
  have hM := (hS.1 i hi).2.2 h8
  have hK3 := kb_K3 (κ := κ) (i := i) (fun m hm => hS.1 m (by omega))
  obtain ⟨b1, b2, b3, b4⟩ := kb_op1 (κ := κ) (i := i) hM.1
  have hA := kb_A4 (κ := κ) i
  obtain ⟨d, hd⟩ : ∃ d, kb_D κ i = d + 1 := ⟨kb_D κ i - 1, by omega⟩
  have hdo : kb_D κ (kb_op κ i) = d := by omega
  have hd1 : kb_D κ i - 1 = d := by omega
  have hB0 := hB _ (kb_O4 hM.1)
  have esz : kb_sz κ i = 1 := by unfold kb_sz; rw [if_neg (by omega), if_neg (by omega), if_pos (by omega)]
  have hd4 : vp_in (nI d) 4 := vp_in_nI (by omega) (by decide)
  have ed : (nI d).toNatClampNeg = d := nI_clamp (by omega)
  have h7 := hM.2.1
  rcases hB0 with ⟨a, _⟩ | ⟨_, hoK, h4⟩
  · omega
  rw [hdo] at hoK h4
  -- what stands after the words are written
  have fin : ∀ (zJ' pJ' lF' lS' : Nat → Int32) (a : Nat) (w : Int32), (∀ x, x ≠ d → zJ' x = a_zeroJump x) → (∀ x, x ≠ d → pJ' x = a_posJump x) → (∀ x, x ≠ d → lF' x = a_leaveFirst x) → (∀ x, x ≠ d → lS' x = a_leaveSecond x) → kc_4 κ (i + 1) (kb_op κ i) (zJ' d) (pJ' d) (lF' d) (lS' d) → a + 7 = kb_A κ (kb_op κ i) + κ i → post (f_length, f_compiled, f_isSound, nI (kb_A κ i + 1), nI (kb_P κ i), nI (kb_D κ i), f_accumulator, f_place, f_running, f_printedCount, a_kind, a_first, a_second, a_third, a_openKind, a_openTop, a_openCell, zJ', pJ', lF', lS', upd (upd a_memory (kb_A κ i) w) a (kb_iw (κ i + 2) (kb_A κ i + 1)), a_printedWords) := by
    intro zJ' pJ' lF' lS' a w q1 q2 q3 q4 q5 ha
    have hA2 := kb_A4 (κ := κ) (kb_op κ i)
    refine H _ _ _ _ _ _ _ _ _ _ _ ⟨?_, ?_, ?_, kc_Bm hM h8 (by rw [hd1]; exact q1) (by rw [hd1]; exact q2) (by rw [hd1]; exact q3) (by rw [hd1]; exact q4) (by rw [hd1]; exact hoK) (by rw [hd1]; exact q5) hB, ?_, ?_⟩
    · rw [kb_As, esz]
    · rw [kb_Ps, if_neg (by omega), if_neg (by omega)]; rfl
    · rw [kb_Dn (by omega) (by omega) (by omega)]
    · exact kc_fm hS hi h8 hM ha rfl (kc_ph (k := 0) (by omega) (by omega) (Nat.le_refl _) (kc_st (k := 0) (by omega) hQ))
    · exact kc_Xs (kc_Xw (by omega) (kc_Xw (by omega) hX)) (fun q => by omega)
  subst hc; subst hp; subst ho
  refine nm_r (e' := nI d) (by rw [hd, nI_pred]) ⟨hd4, ?_⟩
  rw [ed]
  have ud : ∀ (f : Nat → Int32) (x : Int32) (y : Nat), y ≠ d → upd f d x y = f y := fun f x y hy => pk_un hy
  rcases kc_4m hM h8 h4 with ⟨e1, e2, e3⟩ | ⟨k, hk, e1, e2, e3, e4⟩
  · refine br_f (by rw [e1]; decide) ⟨hd4, ?_⟩
    rw [vn_s _ (by omega)]
    refine nm_e (xc_41 (c := 0) hS hn40 hi h8 hM rfl (by omega) (fun q => (e2 q).1) (fun q => (e3 q).1) (fun q w => ?_) (fun q w => ?_))
    · refine fin _ _ _ _ _ w (ud _ _) (fun x _ => rfl) (ud _ _) (fun x _ => rfl) ?_ (by omega)
      rw [pk_us, pk_us]; exact (e2 q).2
    · refine fin _ _ _ _ _ w (fun x _ => rfl) (ud _ _) (ud _ _) (fun x _ => rfl) ?_ (by omega)
      rw [pk_us, pk_us]; exact (e3 q).2
  · have hAk := kb_A4 (κ := κ) k
    refine br_t (by rw [e1]; exact nI_pos' (by omega)) ⟨hd4, ?_⟩
    rw [vn_s _ (by omega)]
    refine nm_e (xc_41 (c := 0) hS hn40 hi h8 hM rfl (by omega) (fun q => by omega) (fun q => e3) (fun q w => by omega) (fun q w => ?_))
    refine fin _ _ _ _ _ w (fun x _ => rfl) (ud _ _) (fun x _ => rfl) (ud _ _) ?_ (by omega)
    rw [pk_us, pk_us]; exact e4
theorem xc_8 (hκ : ∀ i, a_kind i = nI (κ i)) (hn40 : n ≤ 40) (hS : kb_S κ n) (hi : i < n) (h8 : κ i = 8 ∨ κ i = 9) (I : kc_I κ n fi se th a_first m0 i f_codeEnd f_poolEnd f_openCount a_openKind a_openTop a_openCell a_zeroJump a_posJump a_leaveFirst a_leaveSecond a_memory) {post : SX → Prop} (H : ∀ (cE pE oC : Int32) (oK oT oL zJ pJ lF lS me : Nat → Int32), kc_I κ n fi se th a_first m0 (i + 1) cE pE oC oK oT oL zJ pJ lF lS me → post (f_length, f_compiled, f_isSound, cE, pE, oC, f_accumulator, f_place, f_running, f_printedCount, a_kind, a_first, a_second, a_third, oK, oT, oL, zJ, pJ, lF, lS, me, a_printedWords)) : wpX_compileStatement post (f_length, f_compiled, f_isSound, f_codeEnd, f_poolEnd, f_openCount, f_accumulator, f_place, f_running, f_printedCount, a_kind, a_first, a_second, a_third, a_openKind, a_openTop, a_openCell, a_zeroJump, a_posJump, a_leaveFirst, a_leaveSecond, a_memory, a_printedWords) (nI i) := by
  have hin : vp_in (nI i) 40 := vp_in_nI (by omega) (by decide)
  have ek : a_kind (nI i).toNatClampNeg = nI (κ i) := by rw [nI_clamp (by omega), hκ]
  have K := xc_mk (post := post) hκ hn40 hS hi h8 I H
  refine ⟨hin, nm_r ek ?_⟩
  rcases h8 with q | q
  · rw [q] at K ⊢
    refine br_f (by decide) (br_t (by decide) (br_f (by decide) (br_t rfl ?_)))
    unfold wX_compileStatement_91
    exact K
  · rw [q] at K ⊢
    refine br_f (by decide) (br_t (by decide) (br_f (by decide) (br_f (by decide) (br_t rfl ?_))))
    unfold wX_compileStatement_91
    exact K
end
end
section
/-! ===== X compiles ends, and the whole ===== -/
section
variable {f_length f_compiled f_isSound f_codeEnd f_poolEnd f_openCount f_accumulator f_place f_running f_printedCount : Int32} {a_kind a_first a_second a_third a_openKind a_openTop a_openCell a_zeroJump a_posJump a_leaveFirst a_leaveSecond a_memory a_printedWords : Nat → Int32} {κ : Nat → Nat} {n i : Nat} {fi se th : Nat → Nat} {m0 : Nat → Int32}
theorem xc_e10 (hκ : ∀ i, a_kind i = nI (κ i)) (hn40 : n ≤ 40) (hS : kb_S κ n) (hi : i < n) (h11 : κ i = 11) (h10 : κ (kb_op κ i) = 10) (I : kc_I κ n fi se th a_first m0 i f_codeEnd f_poolEnd f_openCount a_openKind a_openTop a_openCell a_zeroJump a_posJump a_leaveFirst a_leaveSecond a_memory) {post : SX → Prop} (H : ∀ (cE pE oC : Int32) (oK oT oL zJ pJ lF lS me : Nat → Int32), kc_I κ n fi se th a_first m0 (i + 1) cE pE oC oK oT oL zJ pJ lF lS me → post (f_length, f_compiled, f_isSound, cE, pE, oC, f_accumulator, f_place, f_running, f_printedCount, a_kind, a_first, a_second, a_third, oK, oT, oL, zJ, pJ, lF, lS, me, a_printedWords)) : wpX_closeBlock post (f_length, f_compiled, f_isSound, f_codeEnd, f_poolEnd, f_openCount, f_accumulator, f_place, f_running, f_printedCount, a_kind, a_first, a_second, a_third, a_openKind, a_openTop, a_openCell, a_zeroJump, a_posJump, a_leaveFirst, a_leaveSecond, a_memory, a_printedWords) := by
  obtain ⟨hc, hp, ho, hB, hQ, hX⟩ := I
  have hD := (hS.1 i hi).1 h11
  have hK3 := kb_K3 (κ := κ) (i := i) (fun m hm => hS.1 m (by omega))
  obtain ⟨b1, b2, b3, b4⟩ := kb_op1 (κ := κ) (i := i) hD
  have hA := kb_A4 (κ := κ) i
  have hA2 := kb_A4 (κ := κ) (kb_op κ i)
  have hP := kb_Pb (κ := κ) (kb_op κ i)
  obtain ⟨d, hd⟩ : ∃ d, kb_D κ i = d + 1 := ⟨kb_D κ i - 1, by omega⟩
  have hdo : kb_D κ (kb_op κ i) = d := by omega
  have hB0 := hB _ (kb_O4 hD)
  have esz : kb_sz κ i = 4 := by unfold kb_sz; rw [h11, h10]; rfl
  have hd4 : vp_in (nI d) 4 := vp_in_nI (by omega) (by decide)
  have ed : (nI d).toNatClampNeg = d := nI_clamp (by omega)
  rcases hB0 with ⟨_, q1, q2, q3⟩ | ⟨a, _⟩
  rotate_left
  · omega
  rw [hdo] at q1 q2 q3
  subst hc; subst hp; subst ho
  have i0 : kb_I κ n fi se th i 0 = (1, kb_P κ (kb_op κ i) + 1) := by unfold kb_I; rw [h11]; rfl
  have i1 : kb_I κ n fi se th i 1 = (4, 506) := by unfold kb_I; rw [h11]; rfl
  have i2 : kb_I κ n fi se th i 2 = (2, kb_P κ (kb_op κ i) + 1) := by unfold kb_I; rw [h11]; rfl
  have i3 : kb_I κ n fi se th i 3 = (9, kb_A κ (kb_op κ i) + 2) := by unfold kb_I; rw [h11]; rfl
  refine nm_r (e' := nI d) (by rw [hd, nI_pred]) ⟨hd4, ?_⟩
  rw [ed]
  refine br_t q1 ⟨hd4, nm_r q3 ?_⟩
  refine xc_write (c := kb_A κ i) (o := 1) (l := kb_P κ (kb_op κ i) + 1) (by omega) (by omega) (by omega) rfl rfl rfl ?_
  refine xc_write (c := kb_A κ i + 1) (o := 4) (l := 506) (by omega) (by omega) (by omega) rfl rfl rfl ?_
  refine xc_write (c := kb_A κ i + 1 + 1) (o := 2) (l := kb_P κ (kb_op κ i) + 1) (by omega) (by omega) (by omega) rfl rfl rfl ⟨hd4, ?_⟩
  refine xc_write (c := kb_A κ i + 1 + 1 + 1) (o := 9) (l := kb_A κ (kb_op κ i) + 2) (by omega) (by omega) (by omega) rfl (by rw [q2]) rfl ⟨hd4, ?_⟩
  refine xc_direct (a := kb_A κ (kb_op κ i) + 3) (o := 10) (l := kb_A κ i + 1 + 1 + 1 + 1) (by omega) (by omega) (by omega) (by rw [q2]; exact nI_1 _) rfl rfl (H _ _ _ _ _ _ _ _ _ _ _ ⟨?_, ?_, ?_, kc_B0 (by omega) (by omega) (by omega) (by omega) hB, ?_, ?_⟩)
  · rw [kb_As, esz]
  · rw [kb_Ps, if_neg (by omega), if_neg (by omega)]; rfl
  · rw [kb_De h11, hd]; rfl
  · exact kc_fe10 hS hi h11 hD h10 rfl rfl (kc_nx (k := 3) (by omega) rfl i3 (kc_nx (k := 2) (by omega) rfl i2 (kc_nx (k := 1) (by omega) rfl i1 (kc_nx (k := 0) (by omega) rfl i0 (kc_st (k := 0) (by omega) hQ)))))
  · exact kc_Xs (kc_Xw (by omega) (kc_Xw (by omega) (kc_Xw (by omega) (kc_Xw (by omega) (kc_Xw (by omega) hX))))) (fun q => by omega)
theorem xc_159n {d : Nat} (hd : d < 4) (h : a_leaveSecond d = -1) {post : SX → Prop} (H : post (f_length, f_compiled, f_isSound, f_codeEnd, f_poolEnd, f_openCount, f_accumulator, f_place, f_running, f_printedCount, a_kind, a_first, a_second, a_third, a_openKind, a_openTop, a_openCell, a_zeroJump, a_posJump, a_leaveFirst, a_leaveSecond, a_memory, a_printedWords)) : wX_closeBlock_159 post (nI d) f_length f_compiled f_isSound f_codeEnd f_poolEnd f_openCount f_accumulator f_place f_running f_printedCount a_kind a_first a_second a_third a_openKind a_openTop a_openCell a_zeroJump a_posJump a_leaveFirst a_leaveSecond a_memory a_printedWords := by
  unfold wX_closeBlock_159
  rw [nI_clamp (by omega), h]
  exact ⟨vp_in_nI hd (by decide), br_t (by decide) H⟩
theorem xc_159d {d a c : Nat} (hd : d < 4) (ha : a < 200) (hc : c < 200) (hE : f_codeEnd = nI c) (h : a_leaveSecond d = nI a) {post : SX → Prop} (H : post (f_length, f_compiled, f_isSound, f_codeEnd, f_poolEnd, f_openCount, f_accumulator, f_place, f_running, f_printedCount, a_kind, a_first, a_second, a_third, a_openKind, a_openTop, a_openCell, a_zeroJump, a_posJump, a_leaveFirst, a_leaveSecond, upd a_memory a (kb_iw 9 c), a_printedWords)) : wX_closeBlock_159 post (nI d) f_length f_compiled f_isSound f_codeEnd f_poolEnd f_openCount f_accumulator f_place f_running f_printedCount a_kind a_first a_second a_third a_openKind a_openTop a_openCell a_zeroJump a_posJump a_leaveFirst a_leaveSecond a_memory a_printedWords := by
  unfold wX_closeBlock_159
  rw [nI_clamp (by omega), h]
  exact ⟨vp_in_nI hd (by decide), br_f (nI_pos (by omega)) ⟨vp_in_nI hd (by decide), xc_direct (a := a) (o := 9) (l := c) (by omega) (by omega) (by omega) rfl rfl hE H⟩⟩
theorem xc_134n {d : Nat} (hd : d < 4) (h : a_leaveFirst d = -1) {post : SX → Prop} (H : wX_closeBlock_159 post (nI d) f_length f_compiled f_isSound f_codeEnd f_poolEnd f_openCount f_accumulator f_place f_running f_printedCount a_kind a_first a_second a_third a_openKind a_openTop a_openCell a_zeroJump a_posJump a_leaveFirst a_leaveSecond a_memory a_printedWords) : wX_closeBlock_134 post (nI d) f_length f_compiled f_isSound f_codeEnd f_poolEnd f_openCount f_accumulator f_place f_running f_printedCount a_kind a_first a_second a_third a_openKind a_openTop a_openCell a_zeroJump a_posJump a_leaveFirst a_leaveSecond a_memory a_printedWords := by
  unfold wX_closeBlock_134
  rw [nI_clamp (by omega), h]
  exact ⟨vp_in_nI hd (by decide), br_t (by decide) H⟩
theorem xc_134d {d a c : Nat} (hd : d < 4) (ha : a < 200) (hc : c < 200) (hE : f_codeEnd = nI c) (h : a_leaveFirst d = nI a) {post : SX → Prop} (H : wX_closeBlock_159 post (nI d) f_length f_compiled f_isSound f_codeEnd f_poolEnd f_openCount f_accumulator f_place f_running f_printedCount a_kind a_first a_second a_third a_openKind a_openTop a_openCell a_zeroJump a_posJump a_leaveFirst a_leaveSecond (upd a_memory a (kb_iw 9 c)) a_printedWords) : wX_closeBlock_134 post (nI d) f_length f_compiled f_isSound f_codeEnd f_poolEnd f_openCount f_accumulator f_place f_running f_printedCount a_kind a_first a_second a_third a_openKind a_openTop a_openCell a_zeroJump a_posJump a_leaveFirst a_leaveSecond a_memory a_printedWords := by
  unfold wX_closeBlock_134
  rw [nI_clamp (by omega), h]
  exact ⟨vp_in_nI hd (by decide), br_f (nI_pos (by omega)) ⟨vp_in_nI hd (by decide), xc_direct (a := a) (o := 9) (l := c) (by omega) (by omega) (by omega) rfl rfl hE H⟩⟩
theorem xc_109n {d : Nat} (hd : d < 4) (h : a_posJump d = -1) {post : SX → Prop} (H : wX_closeBlock_134 post (nI d) f_length f_compiled f_isSound f_codeEnd f_poolEnd f_openCount f_accumulator f_place f_running f_printedCount a_kind a_first a_second a_third a_openKind a_openTop a_openCell a_zeroJump a_posJump a_leaveFirst a_leaveSecond a_memory a_printedWords) : wX_closeBlock_109 post (nI d) f_length f_compiled f_isSound f_codeEnd f_poolEnd f_openCount f_accumulator f_place f_running f_printedCount a_kind a_first a_second a_third a_openKind a_openTop a_openCell a_zeroJump a_posJump a_leaveFirst a_leaveSecond a_memory a_printedWords := by
  unfold wX_closeBlock_109
  rw [nI_clamp (by omega), h]
  exact ⟨vp_in_nI hd (by decide), br_t (by decide) H⟩
theorem xc_109d {d a c : Nat} (hd : d < 4) (ha : a < 200) (hc : c < 200) (hE : f_codeEnd = nI c) (h : a_posJump d = nI a) {post : SX → Prop} (H : wX_closeBlock_134 post (nI d) f_length f_compiled f_isSound f_codeEnd f_poolEnd f_openCount f_accumulator f_place f_running f_printedCount a_kind a_first a_second a_third a_openKind a_openTop a_openCell a_zeroJump a_posJump a_leaveFirst a_leaveSecond (upd a_memory a (kb_iw 11 c)) a_printedWords) : wX_closeBlock_109 post (nI d) f_length f_compiled f_isSound f_codeEnd f_poolEnd f_openCount f_accumulator f_place f_running f_printedCount a_kind a_first a_second a_third a_openKind a_openTop a_openCell a_zeroJump a_posJump a_leaveFirst a_leaveSecond a_memory a_printedWords := by
  unfold wX_closeBlock_109
  rw [nI_clamp (by omega), h]
  exact ⟨vp_in_nI hd (by decide), br_f (nI_pos (by omega)) ⟨vp_in_nI hd (by decide), xc_direct (a := a) (o := 11) (l := c) (by omega) (by omega) (by omega) rfl rfl hE H⟩⟩
theorem xc_e7 (hκ : ∀ i, a_kind i = nI (κ i)) (hn40 : n ≤ 40) (hS : kb_S κ n) (hi : i < n) (h11 : κ i = 11) (h7 : κ (kb_op κ i) = 7) (I : kc_I κ n fi se th a_first m0 i f_codeEnd f_poolEnd f_openCount a_openKind a_openTop a_openCell a_zeroJump a_posJump a_leaveFirst a_leaveSecond a_memory) {post : SX → Prop} (H : ∀ (cE pE oC : Int32) (oK oT oL zJ pJ lF lS me : Nat → Int32), kc_I κ n fi se th a_first m0 (i + 1) cE pE oC oK oT oL zJ pJ lF lS me → post (f_length, f_compiled, f_isSound, cE, pE, oC, f_accumulator, f_place, f_running, f_printedCount, a_kind, a_first, a_second, a_third, oK, oT, oL, zJ, pJ, lF, lS, me, a_printedWords)) : wpX_closeBlock post (f_length, f_compiled, f_isSound, f_codeEnd, f_poolEnd, f_openCount, f_accumulator, f_place, f_running, f_printedCount, a_kind, a_first, a_second, a_third, a_openKind, a_openTop, a_openCell, a_zeroJump, a_posJump, a_leaveFirst, a_leaveSecond, a_memory, a_printedWords) := by
  obtain ⟨hc, hp, ho, hB, hQ, hX⟩ := I
  have hD := (hS.1 i hi).1 h11
  have hK3 := kb_K3 (κ := κ) (i := i) (fun m hm => hS.1 m (by omega))
  obtain ⟨b1, b2, b3, b4⟩ := kb_op1 (κ := κ) (i := i) hD
  have hA := kb_A4 (κ := κ) i
  have hA2 := kb_A4 (κ := κ) (kb_op κ i)
  obtain ⟨d, hd⟩ : ∃ d, kb_D κ i = d + 1 := ⟨kb_D κ i - 1, by omega⟩
  have hdo : kb_D κ (kb_op κ i) = d := by omega
  have hB0 := hB _ (kb_O4 hD)
  have esz : kb_sz κ i = 0 := by unfold kb_sz; rw [h11, h7]; rfl
  have hd3 : d < 4 := by omega
  have hd4 : vp_in (nI d) 4 := vp_in_nI (by omega) (by decide)
  have ed : (nI d).toNatClampNeg = d := nI_clamp (by omega)
  rcases hB0 with ⟨a, _⟩ | ⟨_, q1, h4⟩
  · omega
  rw [hdo] at q1 h4
  subst hc; subst hp; subst ho
  have fin : ∀ me : Nat → Int32, kc_Q κ n fi se th (kc_S κ (i + 1)) me → kc_X κ a_first m0 i me → post (f_length, f_compiled, f_isSound, nI (kb_A κ i), nI (kb_P κ i), nI d, f_accumulator, f_place, f_running, f_printedCount, a_kind, a_first, a_second, a_third, a_openKind, a_openTop, a_openCell, a_zeroJump, a_posJump, a_leaveFirst, a_leaveSecond, me, a_printedWords) := by
    intro me hq hx
    refine H _ _ _ _ _ _ _ _ _ _ _ ⟨?_, ?_, ?_, kc_B0 (by omega) (by omega) (by omega) (by omega) hB, hq, kc_Xs hx (fun q => by omega)⟩
    · rw [kb_As, esz]; rfl
    · rw [kb_Ps, if_neg (by omega), if_neg (by omega)]; rfl
    · rw [kb_De h11, hd]; rfl
  refine nm_r (e' := nI d) (by rw [hd, nI_pred]) ⟨hd4, ?_⟩
  rw [ed]
  refine br_f (by rw [q1]; decide) ⟨hd4, ?_⟩
  rcases h4 with ⟨n8, n9, c1, c2, c3, c4⟩ | ⟨k, hk, k8, n9, c1, c2, c3, c4⟩ | ⟨k, hk, k9, n8, c1, c2, c3, c4⟩ | ⟨k, k', hk, k8, hk', k9, c1, c2, c3, c4⟩
  · rw [c1]
    refine br_f (nI_pos (by omega)) ⟨hd4, xc_direct (a := kb_A κ (kb_op κ i) + 1) (o := 10) (l := kb_A κ i) (by omega) (by omega) (by omega) rfl rfl rfl ?_⟩
    refine xc_109d (a := kb_A κ (kb_op κ i) + 2) (c := kb_A κ i) hd3 (by omega) (by omega) rfl c2 (xc_134n hd3 c3 (xc_159n hd3 c4 (fin _ (kc_e1 hS hi h11 hD h7 n8 n9 hQ) (kc_Xw (by omega) (kc_Xw (by omega) hX)))))
  · have hAk := kb_A4 (κ := κ) k
    rw [c1]
    refine br_t (by decide) ?_
    refine xc_109d (a := kb_A κ (kb_op κ i) + 2) (c := kb_A κ i) hd3 (by omega) (by omega) rfl c2 (xc_134d (a := kb_A κ k) (c := kb_A κ i) hd3 (by omega) (by omega) rfl c3 (xc_159n hd3 c4 (fin _ (kc_e2 hS hi h11 hD h7 hk k8 n9 hQ) (kc_Xw (by omega) (kc_Xw (by omega) hX)))))
  · have hAk := kb_A4 (κ := κ) k
    rw [c1]
    refine br_f (nI_pos (by omega)) ⟨hd4, xc_direct (a := kb_A κ (kb_op κ i) + 1) (o := 10) (l := kb_A κ i) (by omega) (by omega) (by omega) rfl rfl rfl ?_⟩
    refine xc_109n hd3 c2 (xc_134d (a := kb_A κ k) (c := kb_A κ i) hd3 (by omega) (by omega) rfl c3 (xc_159n hd3 c4 (fin _ (kc_e3 hS hi h11 hD h7 hk k9 n8 hQ) (kc_Xw (by omega) (kc_Xw (by omega) hX)))))
  · have hAk := kb_A4 (κ := κ) k
    have hAk' := kb_A4 (κ := κ) k'
    rw [c1]
    refine br_t (by decide) ?_
    refine xc_109n hd3 c2 (xc_134d (a := kb_A κ k) (c := kb_A κ i) hd3 (by omega) (by omega) rfl c3 (xc_159d (a := kb_A κ k') (c := kb_A κ i) hd3 (by omega) (by omega) rfl c4 (fin _ (kc_e4 hS hi h11 hD h7 hk k8 hk' k9 hQ) (kc_Xw (by omega) (kc_Xw (by omega) hX)))))
theorem xc_11 (hκ : ∀ i, a_kind i = nI (κ i)) (hn40 : n ≤ 40) (hS : kb_S κ n) (hi : i < n) (h11 : κ i = 11) (I : kc_I κ n fi se th a_first m0 i f_codeEnd f_poolEnd f_openCount a_openKind a_openTop a_openCell a_zeroJump a_posJump a_leaveFirst a_leaveSecond a_memory) {post : SX → Prop} (H : ∀ (cE pE oC : Int32) (oK oT oL zJ pJ lF lS me : Nat → Int32), kc_I κ n fi se th a_first m0 (i + 1) cE pE oC oK oT oL zJ pJ lF lS me → post (f_length, f_compiled, f_isSound, cE, pE, oC, f_accumulator, f_place, f_running, f_printedCount, a_kind, a_first, a_second, a_third, oK, oT, oL, zJ, pJ, lF, lS, me, a_printedWords)) : wpX_compileStatement post (f_length, f_compiled, f_isSound, f_codeEnd, f_poolEnd, f_openCount, f_accumulator, f_place, f_running, f_printedCount, a_kind, a_first, a_second, a_third, a_openKind, a_openTop, a_openCell, a_zeroJump, a_posJump, a_leaveFirst, a_leaveSecond, a_memory, a_printedWords) (nI i) := by
  have hin : vp_in (nI i) 40 := vp_in_nI (by omega) (by decide)
  have ek : a_kind (nI i).toNatClampNeg = nI 11 := by rw [nI_clamp (by omega), hκ, h11]
  have hD := (hS.1 i hi).1 h11
  have K : wpX_closeBlock post (f_length, f_compiled, f_isSound, f_codeEnd, f_poolEnd, f_openCount, f_accumulator, f_place, f_running, f_printedCount, a_kind, a_first, a_second, a_third, a_openKind, a_openTop, a_openCell, a_zeroJump, a_posJump, a_leaveFirst, a_leaveSecond, a_memory, a_printedWords) := by
    rcases (kb_op1 (κ := κ) (i := i) hD).2.2.2 with q | q
    · exact xc_e7 hκ hn40 hS hi h11 q I H
    · exact xc_e10 hκ hn40 hS hi h11 q I H
  exact ⟨hin, nm_r ek (br_f (by decide) (br_t (by decide) (br_f (by decide) (br_f (by decide) (br_f (by decide) (br_f (by decide) (br_t rfl K)))))))⟩
/-- the operands -/
def kc_O (κ : Nat → Nat) (n : Nat) (fi se th : Nat → Nat) (af as at' : Nat → Int32) : Prop := ∀ i, i < n → (κ i ≠ 0 → κ i ≠ 8 → κ i ≠ 9 → κ i ≠ 11 → af i = nI (fi i) ∧ fi i < 6) ∧ (κ i ≤ 6 → as i = nI (se i) ∧ se i < 6) ∧ ((κ i = 1 ∨ κ i = 2 ∨ κ i = 3 ∨ κ i = 6) → at' i = nI (th i) ∧ th i < 6)
theorem xc_stmt (hκ : ∀ i, a_kind i = nI (κ i)) (hn40 : n ≤ 40) (hS : kb_S κ n) (hi : i < n) (h12 : ∀ i, κ i ≤ 12) (hO : kc_O κ n fi se th a_first a_second a_third) (I : kc_I κ n fi se th a_first m0 i f_codeEnd f_poolEnd f_openCount a_openKind a_openTop a_openCell a_zeroJump a_posJump a_leaveFirst a_leaveSecond a_memory) {post : SX → Prop} (H : ∀ (cE pE oC : Int32) (oK oT oL zJ pJ lF lS me : Nat → Int32), kc_I κ n fi se th a_first m0 (i + 1) cE pE oC oK oT oL zJ pJ lF lS me → post (f_length, f_compiled, f_isSound, cE, pE, oC, f_accumulator, f_place, f_running, f_printedCount, a_kind, a_first, a_second, a_third, oK, oT, oL, zJ, pJ, lF, lS, me, a_printedWords)) : wpX_compileStatement post (f_length, f_compiled, f_isSound, f_codeEnd, f_poolEnd, f_openCount, f_accumulator, f_place, f_running, f_printedCount, a_kind, a_first, a_second, a_third, a_openKind, a_openTop, a_openCell, a_zeroJump, a_posJump, a_leaveFirst, a_leaveSecond, a_memory, a_printedWords) (nI i) := by
  have h12i := h12 i
  obtain ⟨o1, o2, o3⟩ := hO i hi
  by_cases q0 : κ i = 0
  · obtain ⟨a, b⟩ := o2 (by omega)
    exact xc_0 hκ hn40 hS hi q0 a b I H
  by_cases q6 : κ i ≤ 6
  · obtain ⟨a, b⟩ := o2 (by omega)
    obtain ⟨c, d⟩ := o1 (by omega) (by omega) (by omega) (by omega)
    exact xc_ar hκ hn40 hS hi (by omega) q6 a b c d (fun _ _ => o3 (by omega)) I H
  by_cases q8 : κ i = 8 ∨ κ i = 9
  · exact xc_8 hκ hn40 hS hi q8 I H
  by_cases q11 : κ i = 11
  · exact xc_11 hκ hn40 hS hi q11 I H
  obtain ⟨c, d⟩ := o1 (by omega) (by omega) (by omega) (by omega)
  have q : κ i = 7 ∨ κ i = 10 ∨ κ i = 12 := by omega
  rcases q with q | q | q
  · exact xc_7 hκ hn40 hS hi q c d I H
  · exact xc_10 hκ hn40 hS hi q c d I H
  · exact xc_12 hκ hn40 hS hi q c d I H
/-- the code of a whole program lies in memory -/
def kc_C (κ : Nat → Nat) (n : Nat) (fi se th : Nat → Nat) (af me : Nat → Int32) : Prop := (∀ j f, j < n → f < kb_sz κ j → me (kb_A κ j + f) = kb_iw (kb_I κ n fi se th j f).1 (kb_I κ n fi se th j f).2) ∧ (∀ j, j < n → κ j = 0 ∨ κ j = 10 → me (kb_P κ j) = tt_w (af j).toInt) ∧ me 506 = tt_w 1 ∧ me (kb_A κ n) = kb_iw 0 364
theorem xc_loop (hκ : ∀ i, a_kind i = nI (κ i)) (hn40 : n ≤ 40) (hS : kb_S κ n) (h12 : ∀ i, κ i ≤ 12) (hO : kc_O κ n fi se th a_first a_second a_third) {post : SX → Prop} (H : ∀ (cE pE oC : Int32) (oK oT oL zJ pJ lF lS me : Nat → Int32), kc_C κ n fi se th a_first me → (∀ v, v < 6 → me (500 + v) = m0 (500 + v)) → post (nI n, f_compiled, f_isSound, cE, pE, oC, f_accumulator, f_place, f_running, f_printedCount, a_kind, a_first, a_second, a_third, oK, oT, oL, zJ, pJ, lF, lS, me, a_printedWords)) : ∀ (d i : Nat) (cE pE oC : Int32) (oK oT oL zJ pJ lF lS me : Nat → Int32), i + d = n → kc_I κ n fi se th a_first m0 i cE pE oC oK oT oL zJ pJ lF lS me → wX_compile_61 post (d + 1) (nI i) (nI n) f_compiled f_isSound cE pE oC f_accumulator f_place f_running f_printedCount a_kind a_first a_second a_third oK oT oL zJ pJ lF lS me a_printedWords := by
  intro d
  induction d with
  | zero =>
    intro i cE pE oC oK oT oL zJ pJ lF lS me hid I
    have e : i = n := by omega
    subst e
    obtain ⟨hc, hp, ho, hB, hQ, hX⟩ := I
    have hA := kb_A4 (κ := κ) i
    refine pk_le i i (fun _ => xc_write (c := kb_A κ i) (o := 0) (l := 364) (by omega) (by omega) (by omega) rfl rfl hc (H _ _ _ _ _ _ _ _ _ _ _ ⟨fun j f hj hf => ?_, fun j hj hk => ?_, ?_, pk_us⟩ (fun v hv => ?_))) (fun q => absurd q (by omega))
    · have := kb_Am (κ := κ) hj
      rw [pk_un (by omega)]
      refine hQ j f ⟨hj, fun hP => ?_⟩ hf
      have nO : ∀ o, ¬ kb_O κ o i := fun o ho => by have := ho.2 i ho.1 (Nat.le_refl _); have := hS.2; omega
      rcases hP with ⟨_, _, q⟩ | ⟨_, q, _⟩ | ⟨_, q⟩
      · exact nO _ q
      · exact nO _ q
      · exact nO _ q
    · have := kb_Pb (κ := κ) j
      rw [pk_un (by omega)]; exact hX.1 j hj hk
    · rw [pk_un (by omega)]; exact hX.2.1
    · rw [pk_un (by omega)]; exact hX.2.2 v hv
  | succ d ih =>
    intro i cE pE oC oK oT oL zJ pJ lF lS me hid I
    refine pk_le n i (fun q => absurd q (by omega)) (fun _ => xc_stmt hκ hn40 hS (by omega) h12 hO I (fun cE' pE' oC' oK' oT' oL' zJ' pJ' lF' lS' me' I' => nm_r (nI_1 i) (ih (i + 1) _ _ _ _ _ _ _ _ _ _ _ (by omega) I')))
theorem xc_compile (hκ : ∀ i, a_kind i = nI (κ i)) (hn40 : n ≤ 40) (h12 : ∀ i, κ i ≤ 12) (hO : kc_O κ n fi se th a_first a_second a_third) (hl : f_length = nI n) (hc : f_compiled = 0) {post : SX → Prop} (H1 : kb_S κ n → ∀ (cE pE oC : Int32) (oK oT oL zJ pJ lF lS me : Nat → Int32), kc_C κ n fi se th a_first me → (∀ v, v < 6 → me (500 + v) = a_memory (500 + v)) → post (f_length, 1, 1, cE, pE, oC, f_accumulator, f_place, f_running, f_printedCount, a_kind, a_first, a_second, a_third, oK, oT, oL, zJ, pJ, lF, lS, me, a_printedWords)) (H0 : ¬ kb_S κ n → ∀ ok : Nat → Int32, post (f_length, 1, 0, f_codeEnd, f_poolEnd, f_openCount, f_accumulator, f_place, f_running, f_printedCount, a_kind, a_first, a_second, a_third, ok, a_openTop, a_openCell, a_zeroJump, a_posJump, a_leaveFirst, a_leaveSecond, a_memory, a_printedWords)) : wpX_compile post (f_length, f_compiled, f_isSound, f_codeEnd, f_poolEnd, f_openCount, f_accumulator, f_place, f_running, f_printedCount, a_kind, a_first, a_second, a_third, a_openKind, a_openTop, a_openCell, a_zeroJump, a_posJump, a_leaveFirst, a_leaveSecond, a_memory, a_printedWords) := by
  subst hl
  refine br_t hc (xb_fit hκ h12 hn40 rfl (fun ok hS => ⟨rfl, rfl, br_f (by decide) (xw_wordOf (z := 1) (by decide) (by decide) rfl (nm_e ⟨n + 1, ?_⟩))⟩) (fun ok hS => ⟨rfl, rfl, br_t rfl (H0 hS ok)⟩))
  refine xc_loop (m0 := a_memory) hκ hn40 hS h12 hO (H1 hS) n 0 _ _ _ _ _ _ _ _ _ _ _ (by omega) ⟨rfl, rfl, rfl, fun o ho => absurd ho.1 (by omega), fun j f hs => absurd hs.1 (by omega), fun j hj => absurd hj (by omega), pk_us, fun v hv => ?_⟩
  rw [pk_un (by omega)]
end
end
section
/-! ===== X executes ===== -/
section
variable {f_length f_compiled f_isSound f_codeEnd f_poolEnd f_openCount f_accumulator f_place f_running f_printedCount : Int32} {a_kind a_first a_second a_third a_openKind a_openTop a_openCell a_zeroJump a_posJump a_leaveFirst a_leaveSecond a_memory a_printedWords : Nat → Int32}
theorem xe_c {c : Nat} (hc : c ≤ 728) : Int32.ofInt ((c : Int) - 364) + 364 = nI c := by
  rw [show (364 : Int32) = Int32.ofInt 364 from rfl, ← Int32.ofInt_add, show (c : Int) - 364 + 364 = c from by omega, ← zi_n]
theorem xe_0 {n s p : Nat} (hs : s < 40000) (hp : p < 728) {post : Int32 → SX → Prop} (hm : a_memory p = kb_iw 0 364) (h : wX_run_37 post n (nI (s + 1)) f_length f_compiled f_isSound f_codeEnd f_poolEnd f_openCount f_accumulator (nI (p + 1)) 0 f_printedCount a_kind a_first a_second a_third a_openKind a_openTop a_openCell a_zeroJump a_posJump a_leaveFirst a_leaveSecond a_memory a_printedWords) : wX_run_37 post (n + 1) (nI s) f_length f_compiled f_isSound f_codeEnd f_poolEnd f_openCount f_accumulator (nI p) 1 f_printedCount a_kind a_first a_second a_third a_openKind a_openTop a_openCell a_zeroJump a_posJump a_leaveFirst a_leaveSecond a_memory a_printedWords := by
  have em : a_memory (nI p).toNatClampNeg = tt_w (729 * ((0 : Nat) : Int) + ((364 : Nat) : Int) - 364) := by rw [nI_clamp (by omega)]; exact hm
  refine pk_le 40000 s (fun q => absurd q (by omega)) (fun _ => br_f (by decide) ⟨vp_in_nI (by omega) (by decide), nm_r em (xw_op (by omega) (by omega) (xw_cell (by omega) (by omega) (nm_r (xe_c (by omega)) (nm_r (nI_1 p) ?_))))⟩)
  exact br_t rfl (nm_r (nI_1 s) h)
theorem xe_1 {n s p : Nat} (hs : s < 40000) (hp : p < 728) {c : Nat} (hc : c ≤ 728) {post : Int32 → SX → Prop} (hm : a_memory p = kb_iw 1 c) (h : wX_run_37 post n (nI (s + 1)) f_length f_compiled f_isSound f_codeEnd f_poolEnd f_openCount (a_memory c) (nI (p + 1)) 1 f_printedCount a_kind a_first a_second a_third a_openKind a_openTop a_openCell a_zeroJump a_posJump a_leaveFirst a_leaveSecond a_memory a_printedWords) : wX_run_37 post (n + 1) (nI s) f_length f_compiled f_isSound f_codeEnd f_poolEnd f_openCount f_accumulator (nI p) 1 f_printedCount a_kind a_first a_second a_third a_openKind a_openTop a_openCell a_zeroJump a_posJump a_leaveFirst a_leaveSecond a_memory a_printedWords := by
  have em : a_memory (nI p).toNatClampNeg = tt_w (729 * ((1 : Nat) : Int) + (c : Int) - 364) := by rw [nI_clamp (by omega)]; exact hm
  refine pk_le 40000 s (fun q => absurd q (by omega)) (fun _ => br_f (by decide) ⟨vp_in_nI (by omega) (by decide), nm_r em (xw_op (by omega) hc (xw_cell (by omega) hc (nm_r (xe_c hc) (nm_r (nI_1 p) ?_))))⟩)
  exact br_f (by decide) (br_t rfl ⟨vp_in_nI (by omega) (by decide), nm_r (by rw [nI_clamp (by omega)]) (nm_r (nI_1 s) h)⟩)
theorem xe_2 {n s p : Nat} (hs : s < 40000) (hp : p < 728) {c : Nat} (hc : c ≤ 728) {post : Int32 → SX → Prop} (hm : a_memory p = kb_iw 2 c) (h : wX_run_37 post n (nI (s + 1)) f_length f_compiled f_isSound f_codeEnd f_poolEnd f_openCount f_accumulator (nI (p + 1)) 1 f_printedCount a_kind a_first a_second a_third a_openKind a_openTop a_openCell a_zeroJump a_posJump a_leaveFirst a_leaveSecond (upd a_memory c f_accumulator) a_printedWords) : wX_run_37 post (n + 1) (nI s) f_length f_compiled f_isSound f_codeEnd f_poolEnd f_openCount f_accumulator (nI p) 1 f_printedCount a_kind a_first a_second a_third a_openKind a_openTop a_openCell a_zeroJump a_posJump a_leaveFirst a_leaveSecond a_memory a_printedWords := by
  have em : a_memory (nI p).toNatClampNeg = tt_w (729 * ((2 : Nat) : Int) + (c : Int) - 364) := by rw [nI_clamp (by omega)]; exact hm
  refine pk_le 40000 s (fun q => absurd q (by omega)) (fun _ => br_f (by decide) ⟨vp_in_nI (by omega) (by decide), nm_r em (xw_op (by omega) hc (xw_cell (by omega) hc (nm_r (xe_c hc) (nm_r (nI_1 p) ?_))))⟩)
  exact br_f (by decide) (br_f (by decide) (br_t rfl ⟨vp_in_nI (by omega) (by decide), nm_r (by rw [nI_clamp (by omega)]) (nm_r (nI_1 s) h)⟩))
/-- what 3 to 6 reckon -/
def xe_v (o : Nat) (x y : Int) : Int := if o = 3 then x + y else if o = 4 then x - y else if o = 5 then x * y else tt_V (tt_mn (tt_d x) (tt_d y)) 9
theorem xe_3 {n s p : Nat} (hs : s < 40000) (hp : p < 728) {o c : Nat} (ho : 3 ≤ o) (ho' : o ≤ 6) (hc : c ≤ 728) {x y : Int} (hy : a_memory c = tt_w y) {post : Int32 → SX → Prop} (hm : a_memory p = kb_iw o c) (h : wX_run_37 post n (nI (s + 1)) f_length f_compiled f_isSound f_codeEnd f_poolEnd f_openCount (tt_w (xe_v o x y)) (nI (p + 1)) 1 f_printedCount a_kind a_first a_second a_third a_openKind a_openTop a_openCell a_zeroJump a_posJump a_leaveFirst a_leaveSecond a_memory a_printedWords) : wX_run_37 post (n + 1) (nI s) f_length f_compiled f_isSound f_codeEnd f_poolEnd f_openCount (tt_w x) (nI p) 1 f_printedCount a_kind a_first a_second a_third a_openKind a_openTop a_openCell a_zeroJump a_posJump a_leaveFirst a_leaveSecond a_memory a_printedWords := by
  have em : a_memory (nI p).toNatClampNeg = tt_w (729 * (o : Int) + (c : Int) - 364) := by rw [nI_clamp (by omega)]; exact hm
  have ey : a_memory (nI c).toNatClampNeg = tt_w y := by rw [nI_clamp (by omega), hy]
  refine pk_le 40000 s (fun q => absurd q (by omega)) (fun _ => br_f (by decide) ⟨vp_in_nI (by omega) (by decide), nm_r em (xw_op (by omega) hc (xw_cell (by omega) hc (nm_r (xe_c hc) (nm_r (nI_1 p) ?_))))⟩)
  have hin : vp_in (nI c) 729 := vp_in_nI (by omega) (by decide)
  rw [ey]
  have q : o = 3 ∨ o = 4 ∨ o = 5 ∨ o = 6 := by omega
  rcases q with q | q | q | q
  · subst q
    refine br_f (by decide) (br_f (by decide) (br_f (by decide) (br_f (by decide) ⟨hin, ?_⟩)))
    exact br_t rfl (xw_sum (nm_r (nI_1 s) h))
  · subst q
    refine br_f (by decide) (br_f (by decide) (br_f (by decide) (br_f (by decide) ⟨hin, ?_⟩)))
    exact br_f (by decide) (xw_negated (br_t rfl (xw_sum (nm_r (nI_1 s) (by rw [← Int.sub_eq_add_neg]; exact h)))))
  · subst q
    refine br_f (by decide) (br_f (by decide) (br_f (by decide) (br_f (by decide) ⟨hin, ?_⟩)))
    exact br_f (by decide) (xw_negated (br_f (by decide) (br_t rfl (xw_product (nm_r (nI_1 s) h)))))
  · subst q
    refine br_f (by decide) (br_f (by decide) (br_f (by decide) (br_f (by decide) ⟨hin, ?_⟩)))
    exact br_f (by decide) (xw_negated (br_f (by decide) (br_f (by decide) (xw_lesser (nm_r (nI_1 s) h)))))
theorem xe_7 {n s p : Nat} (hs : s < 40000) (hp : p < 728) {x : Int} {post : Int32 → SX → Prop} (hm : a_memory p = kb_iw 7 364) (h : wX_run_37 post n (nI (s + 1)) f_length f_compiled f_isSound f_codeEnd f_poolEnd f_openCount (tt_w (3 * x)) (nI (p + 1)) 1 f_printedCount a_kind a_first a_second a_third a_openKind a_openTop a_openCell a_zeroJump a_posJump a_leaveFirst a_leaveSecond a_memory a_printedWords) : wX_run_37 post (n + 1) (nI s) f_length f_compiled f_isSound f_codeEnd f_poolEnd f_openCount (tt_w x) (nI p) 1 f_printedCount a_kind a_first a_second a_third a_openKind a_openTop a_openCell a_zeroJump a_posJump a_leaveFirst a_leaveSecond a_memory a_printedWords := by
  have em : a_memory (nI p).toNatClampNeg = tt_w (729 * ((7 : Nat) : Int) + ((364 : Nat) : Int) - 364) := by rw [nI_clamp (by omega)]; exact hm
  refine pk_le 40000 s (fun q => absurd q (by omega)) (fun _ => br_f (by decide) ⟨vp_in_nI (by omega) (by decide), nm_r em (xw_op (by omega) (by omega) (xw_cell (by omega) (by omega) (nm_r (xe_c (by omega)) (nm_r (nI_1 p) ?_))))⟩)
  exact br_f (by decide) (br_f (by decide) (br_f (by decide) (br_t (by decide) (br_t rfl (xw_up (nm_r (nI_1 s) h))))))
theorem xe_8 {n s p : Nat} (hs : s < 40000) (hp : p < 728) {x : Int} (hx : -9841 ≤ x) (hx' : x ≤ 9841) {post : Int32 → SX → Prop} (hm : a_memory p = kb_iw 8 364) (h : wX_run_37 post n (nI (s + 1)) f_length f_compiled f_isSound f_codeEnd f_poolEnd f_openCount (tt_w ((x - tt_d x 0) / 3)) (nI (p + 1)) 1 f_printedCount a_kind a_first a_second a_third a_openKind a_openTop a_openCell a_zeroJump a_posJump a_leaveFirst a_leaveSecond a_memory a_printedWords) : wX_run_37 post (n + 1) (nI s) f_length f_compiled f_isSound f_codeEnd f_poolEnd f_openCount (tt_w x) (nI p) 1 f_printedCount a_kind a_first a_second a_third a_openKind a_openTop a_openCell a_zeroJump a_posJump a_leaveFirst a_leaveSecond a_memory a_printedWords := by
  have em : a_memory (nI p).toNatClampNeg = tt_w (729 * ((8 : Nat) : Int) + ((364 : Nat) : Int) - 364) := by rw [nI_clamp (by omega)]; exact hm
  refine pk_le 40000 s (fun q => absurd q (by omega)) (fun _ => br_f (by decide) ⟨vp_in_nI (by omega) (by decide), nm_r em (xw_op (by omega) (by omega) (xw_cell (by omega) (by omega) (nm_r (xe_c (by omega)) (nm_r (nI_1 p) ?_))))⟩)
  exact br_f (by decide) (br_f (by decide) (br_f (by decide) (br_t (by decide) (br_f (by decide) (br_t rfl (xw_down hx hx' (nm_r (nI_1 s) h)))))))
theorem xe_12 {n s p : Nat} (hs : s < 40000) (hp : p < 728) {c k : Nat} (hc : c ≤ 728) (hk : k < 100000) {post : Int32 → SX → Prop} (hm : a_memory p = kb_iw 12 c) (h : wX_run_37 post n (nI (s + 1)) f_length f_compiled f_isSound f_codeEnd f_poolEnd f_openCount f_accumulator (nI (p + 1)) 1 (nI (k + 1)) a_kind a_first a_second a_third a_openKind a_openTop a_openCell a_zeroJump a_posJump a_leaveFirst a_leaveSecond a_memory (if k < 48 then upd a_printedWords k (a_memory c) else a_printedWords)) : wX_run_37 post (n + 1) (nI s) f_length f_compiled f_isSound f_codeEnd f_poolEnd f_openCount f_accumulator (nI p) 1 (nI k) a_kind a_first a_second a_third a_openKind a_openTop a_openCell a_zeroJump a_posJump a_leaveFirst a_leaveSecond a_memory a_printedWords := by
  have em : a_memory (nI p).toNatClampNeg = tt_w (729 * ((12 : Nat) : Int) + (c : Int) - 364) := by rw [nI_clamp (by omega)]; exact hm
  refine pk_le 40000 s (fun q => absurd q (by omega)) (fun _ => br_f (by decide) ⟨vp_in_nI (by omega) (by decide), nm_r em (xw_op (by omega) hc (xw_cell (by omega) hc (nm_r (xe_c hc) (nm_r (nI_1 p) ?_))))⟩)
  refine br_f (by decide) (br_f (by decide) (br_f (by decide) (br_t (by decide) (br_f (by decide) (br_f (by decide) (br_t rfl ⟨vp_in_nI (by omega) (by decide), ?_⟩))))))
  unfold wpX_print
  refine pk_le 48 k (fun q => nm_r (nI_1 k) (nm_r (nI_1 s) ?_)) (fun q => ⟨vp_in_nI q (by decide), nm_r (e' := upd a_printedWords k (a_memory c)) (by rw [nI_clamp (by omega), nI_clamp (by omega)]) (nm_r (nI_1 k) (nm_r (nI_1 s) ?_))⟩)
  · rw [if_neg (by omega)] at h; exact h
  · rw [if_pos q] at h; exact h
theorem xe_sg {post : Int32 → Prop} (x : Int32) (h : ∀ r, post r) : wpX_signOf post (f_length, f_compiled, f_isSound, f_codeEnd, f_poolEnd, f_openCount, f_accumulator, f_place, f_running, f_printedCount, a_kind, a_first, a_second, a_third, a_openKind, a_openTop, a_openCell, a_zeroJump, a_posJump, a_leaveFirst, a_leaveSecond, a_memory, a_printedWords) x :=
  nm_e (nm_e (br_c (fun _ => br_c (fun _ => h _) (fun _ => h _)) (fun _ => h _)))
theorem xe_9 {n s p : Nat} (hs : s < 40000) (hp : p < 728) {c : Nat} (hc : c ≤ 728) {post : Int32 → SX → Prop} (hm : a_memory p = kb_iw 9 c) (h : wX_run_37 post n (nI (s + 1)) f_length f_compiled f_isSound f_codeEnd f_poolEnd f_openCount f_accumulator (nI c) 1 f_printedCount a_kind a_first a_second a_third a_openKind a_openTop a_openCell a_zeroJump a_posJump a_leaveFirst a_leaveSecond a_memory a_printedWords) : wX_run_37 post (n + 1) (nI s) f_length f_compiled f_isSound f_codeEnd f_poolEnd f_openCount f_accumulator (nI p) 1 f_printedCount a_kind a_first a_second a_third a_openKind a_openTop a_openCell a_zeroJump a_posJump a_leaveFirst a_leaveSecond a_memory a_printedWords := by
  have em : a_memory (nI p).toNatClampNeg = tt_w (729 * ((9 : Nat) : Int) + (c : Int) - 364) := by rw [nI_clamp (by omega)]; exact hm
  refine pk_le 40000 s (fun q => absurd q (by omega)) (fun _ => br_f (by decide) ⟨vp_in_nI (by omega) (by decide), nm_r em (xw_op (by omega) hc (xw_cell (by omega) hc (nm_r (xe_c hc) (nm_r (nI_1 p) ?_))))⟩)
  refine br_f (by decide) (br_f (by decide) (br_f (by decide) (br_t (by decide) (br_f (by decide) (br_f (by decide) (br_f (by decide) ?_))))))
  unfold wpX_jump
  refine xe_sg _ (fun r => br_t rfl (br_f (by decide) (br_f (by decide) (nm_r (nI_1 s) h))))
theorem xe_10 {n s p : Nat} (hs : s < 40000) (hp : p < 728) {c : Nat} (hc : c ≤ 728) {x : Int} (hx : -9841 ≤ x) (hx' : x ≤ 9841) {post : Int32 → SX → Prop} (hm : a_memory p = kb_iw 10 c) (h : wX_run_37 post n (nI (s + 1)) f_length f_compiled f_isSound f_codeEnd f_poolEnd f_openCount (tt_w x) (nI (if x = 0 then c else p + 1)) 1 f_printedCount a_kind a_first a_second a_third a_openKind a_openTop a_openCell a_zeroJump a_posJump a_leaveFirst a_leaveSecond a_memory a_printedWords) : wX_run_37 post (n + 1) (nI s) f_length f_compiled f_isSound f_codeEnd f_poolEnd f_openCount (tt_w x) (nI p) 1 f_printedCount a_kind a_first a_second a_third a_openKind a_openTop a_openCell a_zeroJump a_posJump a_leaveFirst a_leaveSecond a_memory a_printedWords := by
  have em : a_memory (nI p).toNatClampNeg = tt_w (729 * ((10 : Nat) : Int) + (c : Int) - 364) := by rw [nI_clamp (by omega)]; exact hm
  refine pk_le 40000 s (fun q => absurd q (by omega)) (fun _ => br_f (by decide) ⟨vp_in_nI (by omega) (by decide), nm_r em (xw_op (by omega) hc (xw_cell (by omega) hc (nm_r (xe_c hc) (nm_r (nI_1 p) ?_))))⟩)
  refine br_f (by decide) (br_f (by decide) (br_f (by decide) (br_t (by decide) (br_f (by decide) (br_f (by decide) (br_f (by decide) ?_))))))
  unfold wpX_jump
  refine xw_sign hx hx' (fun q => ?_) (fun q => ?_) (fun q => ?_)
  · rw [if_pos q] at h
    exact br_f (by decide) (br_t rfl (br_t rfl (br_f (by decide) (nm_r (nI_1 s) h))))
  · rw [if_neg (by omega)] at h
    exact br_f (by decide) (br_t rfl (br_f (by decide) (br_f (by decide) (nm_r (nI_1 s) h))))
  · rw [if_neg (by omega)] at h
    exact br_f (by decide) (br_t rfl (br_f (by decide) (br_f (by decide) (nm_r (nI_1 s) h))))
theorem xe_11 {n s p : Nat} (hs : s < 40000) (hp : p < 728) {c : Nat} (hc : c ≤ 728) {x : Int} (hx : -9841 ≤ x) (hx' : x ≤ 9841) {post : Int32 → SX → Prop} (hm : a_memory p = kb_iw 11 c) (h : wX_run_37 post n (nI (s + 1)) f_length f_compiled f_isSound f_codeEnd f_poolEnd f_openCount (tt_w x) (nI (if 0 < x then c else p + 1)) 1 f_printedCount a_kind a_first a_second a_third a_openKind a_openTop a_openCell a_zeroJump a_posJump a_leaveFirst a_leaveSecond a_memory a_printedWords) : wX_run_37 post (n + 1) (nI s) f_length f_compiled f_isSound f_codeEnd f_poolEnd f_openCount (tt_w x) (nI p) 1 f_printedCount a_kind a_first a_second a_third a_openKind a_openTop a_openCell a_zeroJump a_posJump a_leaveFirst a_leaveSecond a_memory a_printedWords := by
  have em : a_memory (nI p).toNatClampNeg = tt_w (729 * ((11 : Nat) : Int) + (c : Int) - 364) := by rw [nI_clamp (by omega)]; exact hm
  refine pk_le 40000 s (fun q => absurd q (by omega)) (fun _ => br_f (by decide) ⟨vp_in_nI (by omega) (by decide), nm_r em (xw_op (by omega) hc (xw_cell (by omega) hc (nm_r (xe_c hc) (nm_r (nI_1 p) ?_))))⟩)
  refine br_f (by decide) (br_f (by decide) (br_f (by decide) (br_t (by decide) (br_f (by decide) (br_f (by decide) (br_f (by decide) ?_))))))
  unfold wpX_jump
  refine xw_sign hx hx' (fun q => ?_) (fun q => ?_) (fun q => ?_)
  · rw [if_neg (by omega)] at h
    exact br_f (by decide) (br_f (by decide) (br_t rfl (br_f (by decide) (nm_r (nI_1 s) h))))
  · rw [if_pos q] at h
    exact br_f (by decide) (br_f (by decide) (br_t rfl (br_t rfl (nm_r (nI_1 s) h))))
  · rw [if_neg (by omega)] at h
    exact br_f (by decide) (br_f (by decide) (br_t rfl (br_f (by decide) (nm_r (nI_1 s) h))))
end
end
section
/-! ===== Y passes a statement ===== -/
section
variable {g_n g_printed : Int32} {b_kind b_a b_b b_c b_var b_out b_left : Nat → Int32} {κ : Nat → Nat} {n i : Nat} {fi se th : Nat → Nat} {af : Nat → Int32}
theorem yp_e300 (hκ : ∀ i, b_kind i = nI (κ i)) (h12 : ∀ i, κ i ≤ 12) (hi : i < 40) (hq : κ i < 12) {post : SY → Prop} (h : post (g_n, g_printed, b_kind, b_a, b_b, b_c, b_var, b_out, b_left)) : wY_plain_300 post (nI i) g_n g_printed b_kind b_a b_b b_c b_var b_out b_left :=
  ⟨vp_in_nI hi (by decide), kk_eq hκ h12 hi 12 (fun q => absurd q (by omega)) (fun _ => h)⟩
theorem yp_e272 (hκ : ∀ i, b_kind i = nI (κ i)) (h12 : ∀ i, κ i ≤ 12) (hi : i < 40) (hq : κ i < 6) {post : SY → Prop} {x y : Int32} (h : post (g_n, g_printed, b_kind, b_a, b_b, b_c, b_var, b_out, b_left)) : wY_plain_272 post (nI i) x y g_n g_printed b_kind b_a b_b b_c b_var b_out b_left :=
  ⟨vp_in_nI hi (by decide), kk_eq hκ h12 hi 6 (fun q => absurd q (by omega)) (fun _ => yp_e300 hκ h12 hi (by omega) h)⟩
theorem yp_e241 (hκ : ∀ i, b_kind i = nI (κ i)) (h12 : ∀ i, κ i ≤ 12) (hi : i < 40) (hq : κ i < 5) {post : SY → Prop} {x y : Int32} (h : post (g_n, g_printed, b_kind, b_a, b_b, b_c, b_var, b_out, b_left)) : wY_plain_241 post (nI i) x y g_n g_printed b_kind b_a b_b b_c b_var b_out b_left :=
  ⟨vp_in_nI hi (by decide), kk_eq hκ h12 hi 5 (fun q => absurd q (by omega)) (fun _ => yp_e272 hκ h12 hi (by omega) h)⟩
theorem yp_e212 (hκ : ∀ i, b_kind i = nI (κ i)) (h12 : ∀ i, κ i ≤ 12) (hi : i < 40) (hq : κ i < 4) {post : SY → Prop} {x y : Int32} (h : post (g_n, g_printed, b_kind, b_a, b_b, b_c, b_var, b_out, b_left)) : wY_plain_212 post (nI i) x y g_n g_printed b_kind b_a b_b b_c b_var b_out b_left :=
  ⟨vp_in_nI hi (by decide), kk_eq hκ h12 hi 4 (fun q => absurd q (by omega)) (fun _ => yp_e241 hκ h12 hi (by omega) h)⟩
theorem yp_e182 (hκ : ∀ i, b_kind i = nI (κ i)) (h12 : ∀ i, κ i ≤ 12) (hi : i < 40) (hq : κ i < 3) {post : SY → Prop} {x y : Int32} (h : post (g_n, g_printed, b_kind, b_a, b_b, b_c, b_var, b_out, b_left)) : wY_plain_182 post (nI i) x y g_n g_printed b_kind b_a b_b b_c b_var b_out b_left :=
  ⟨vp_in_nI hi (by decide), kk_eq hκ h12 hi 3 (fun q => absurd q (by omega)) (fun _ => yp_e212 hκ h12 hi (by omega) h)⟩
theorem yp_e153 (hκ : ∀ i, b_kind i = nI (κ i)) (h12 : ∀ i, κ i ≤ 12) (hi : i < 40) (hq : κ i < 2) {post : SY → Prop} {x y : Int32} (h : post (g_n, g_printed, b_kind, b_a, b_b, b_c, b_var, b_out, b_left)) : wY_plain_153 post (nI i) x y g_n g_printed b_kind b_a b_b b_c b_var b_out b_left :=
  ⟨vp_in_nI hi (by decide), kk_eq hκ h12 hi 2 (fun q => absurd q (by omega)) (fun _ => yp_e182 hκ h12 hi (by omega) h)⟩
theorem yp_e124 (hκ : ∀ i, b_kind i = nI (κ i)) (h12 : ∀ i, κ i ≤ 12) (hi : i < 40) (hq : κ i < 1) {post : SY → Prop} {x y : Int32} (h : post (g_n, g_printed, b_kind, b_a, b_b, b_c, b_var, b_out, b_left)) : wY_plain_124 post (nI i) x y g_n g_printed b_kind b_a b_b b_c b_var b_out b_left :=
  ⟨vp_in_nI hi (by decide), kk_eq hκ h12 hi 1 (fun q => absurd q (by omega)) (fun _ => yp_e153 hκ h12 hi (by omega) h)⟩
theorem yp_e92 (hκ : ∀ i, b_kind i = nI (κ i)) (h12 : ∀ i, κ i ≤ 12) (hi : i < 40) (hq : κ i < 0) {post : SY → Prop} {x y : Int32} (h : post (g_n, g_printed, b_kind, b_a, b_b, b_c, b_var, b_out, b_left)) : wY_plain_92 post (nI i) x y g_n g_printed b_kind b_a b_b b_c b_var b_out b_left :=
  ⟨vp_in_nI hi (by decide), kk_eq hκ h12 hi 0 (fun q => absurd q (by omega)) (fun _ => yp_e124 hκ h12 hi (by omega) h)⟩
theorem yp_b124 (hκ : ∀ i, b_kind i = nI (κ i)) (h12 : ∀ i, κ i ≤ 12) (hi : i < 40) (hq : 1 ≤ κ i) {post : SY → Prop} {x y : Int32} (h : wY_plain_124 post (nI i) x y g_n g_printed b_kind b_a b_b b_c b_var b_out b_left) : wY_plain_92 post (nI i) x y g_n g_printed b_kind b_a b_b b_c b_var b_out b_left :=
  ⟨vp_in_nI hi (by decide), kk_eq hκ h12 hi 0 (fun q => absurd q (by omega)) (fun _ => h)⟩
theorem yp_b153 (hκ : ∀ i, b_kind i = nI (κ i)) (h12 : ∀ i, κ i ≤ 12) (hi : i < 40) (hq : 2 ≤ κ i) {post : SY → Prop} {x y : Int32} (h : wY_plain_153 post (nI i) x y g_n g_printed b_kind b_a b_b b_c b_var b_out b_left) : wY_plain_92 post (nI i) x y g_n g_printed b_kind b_a b_b b_c b_var b_out b_left :=
  yp_b124 hκ h12 hi (by omega) ⟨vp_in_nI hi (by decide), kk_eq hκ h12 hi 1 (fun q => absurd q (by omega)) (fun _ => h)⟩
theorem yp_b182 (hκ : ∀ i, b_kind i = nI (κ i)) (h12 : ∀ i, κ i ≤ 12) (hi : i < 40) (hq : 3 ≤ κ i) {post : SY → Prop} {x y : Int32} (h : wY_plain_182 post (nI i) x y g_n g_printed b_kind b_a b_b b_c b_var b_out b_left) : wY_plain_92 post (nI i) x y g_n g_printed b_kind b_a b_b b_c b_var b_out b_left :=
  yp_b153 hκ h12 hi (by omega) ⟨vp_in_nI hi (by decide), kk_eq hκ h12 hi 2 (fun q => absurd q (by omega)) (fun _ => h)⟩
theorem yp_b212 (hκ : ∀ i, b_kind i = nI (κ i)) (h12 : ∀ i, κ i ≤ 12) (hi : i < 40) (hq : 4 ≤ κ i) {post : SY → Prop} {x y : Int32} (h : wY_plain_212 post (nI i) x y g_n g_printed b_kind b_a b_b b_c b_var b_out b_left) : wY_plain_92 post (nI i) x y g_n g_printed b_kind b_a b_b b_c b_var b_out b_left :=
  yp_b182 hκ h12 hi (by omega) ⟨vp_in_nI hi (by decide), kk_eq hκ h12 hi 3 (fun q => absurd q (by omega)) (fun _ => h)⟩
theorem yp_b241 (hκ : ∀ i, b_kind i = nI (κ i)) (h12 : ∀ i, κ i ≤ 12) (hi : i < 40) (hq : 5 ≤ κ i) {post : SY → Prop} {x y : Int32} (h : wY_plain_241 post (nI i) x y g_n g_printed b_kind b_a b_b b_c b_var b_out b_left) : wY_plain_92 post (nI i) x y g_n g_printed b_kind b_a b_b b_c b_var b_out b_left :=
  yp_b212 hκ h12 hi (by omega) ⟨vp_in_nI hi (by decide), kk_eq hκ h12 hi 4 (fun q => absurd q (by omega)) (fun _ => h)⟩
theorem yp_b272 (hκ : ∀ i, b_kind i = nI (κ i)) (h12 : ∀ i, κ i ≤ 12) (hi : i < 40) (hq : 6 ≤ κ i) {post : SY → Prop} {x y : Int32} (h : wY_plain_272 post (nI i) x y g_n g_printed b_kind b_a b_b b_c b_var b_out b_left) : wY_plain_92 post (nI i) x y g_n g_printed b_kind b_a b_b b_c b_var b_out b_left :=
  yp_b241 hκ h12 hi (by omega) ⟨vp_in_nI hi (by decide), kk_eq hκ h12 hi 5 (fun q => absurd q (by omega)) (fun _ => h)⟩
theorem yp_b300 (hκ : ∀ i, b_kind i = nI (κ i)) (h12 : ∀ i, κ i ≤ 12) (hi : i < 40) (hq : 7 ≤ κ i) {post : SY → Prop} {x y : Int32} (h : wY_plain_300 post (nI i) g_n g_printed b_kind b_a b_b b_c b_var b_out b_left) : wY_plain_92 post (nI i) x y g_n g_printed b_kind b_a b_b b_c b_var b_out b_left :=
  yp_b272 hκ h12 hi (by omega) ⟨vp_in_nI hi (by decide), kk_eq hκ h12 hi 6 (fun q => absurd q (by omega)) (fun _ => h)⟩
/-- the operands on Y's side -/
def ky_O (κ : Nat → Nat) (n : Nat) (fi se th : Nat → Nat) (af ya yb yc : Nat → Int32) : Prop := ∀ i, i < n → (κ i = 0 → ya i = nI (se i) ∧ se i < 6 ∧ yb i = af i) ∧ (κ i ≠ 0 → κ i ≠ 8 → κ i ≠ 9 → κ i ≠ 11 → ya i = nI (fi i) ∧ fi i < 6) ∧ (1 ≤ κ i → κ i ≤ 6 → yb i = nI (se i) ∧ se i < 6) ∧ ((κ i = 1 ∨ κ i = 2 ∨ κ i = 3 ∨ κ i = 6) → yc i = nI (th i) ∧ th i < 6)
def ky_V (va : Nat → Int) (yv : Nat → Int32) : Prop := ∀ v, v < 6 → yv v = Int32.ofInt (va v) ∧ -9841 ≤ va v ∧ va v ≤ 9841
def ky_r (k : Nat) (x y : Int) : Int := if k = 1 then tt_b (x + y) else if k = 2 then tt_b (x - y) else if k = 3 then tt_b (x * y) else if k = 4 then tt_b (3 * x) else if k = 5 then (x - tt_d x 0) / 3 else tt_V (tt_mn (tt_d x) (tt_d y)) 9
theorem yp_pl (hκ : ∀ i, b_kind i = nI (κ i)) (h12 : ∀ i, κ i ≤ 12) (hi : i < 40) (hq : κ i ≤ 6 ∨ κ i = 12) {post : Int32 → SY → Prop} (h : wpY_plain (fun u => post (nI (i + 1)) u) (g_n, g_printed, b_kind, b_a, b_b, b_c, b_var, b_out, b_left) (nI i)) : wpY_pass post (g_n, g_printed, b_kind, b_a, b_b, b_c, b_var, b_out, b_left) (nI i) := by
  have hin : vp_in (nI i) 40 := vp_in_nI hi (by decide)
  refine ⟨hin, kk_eq hκ h12 hi 7 (fun q => absurd q (by omega)) (fun _ => ⟨hin, kk_eq hκ h12 hi 10 (fun q => absurd q (by omega)) (fun _ => ⟨hin, kk_eq hκ h12 hi 8 (fun q => absurd q (by omega)) (fun _ => ⟨hin, kk_eq hκ h12 hi 9 (fun q => absurd q (by omega)) (fun _ => ⟨hin, kk_eq hκ h12 hi 11 (fun q => absurd q (by omega)) (fun _ => ?_)⟩)⟩)⟩)⟩)⟩
  rw [nI_1]
  exact h
theorem yp_0 (hκ : ∀ i, b_kind i = nI (κ i)) (h12 : ∀ i, κ i ≤ 12) (hi : i < 40) (hk : κ i = 0) (ha : b_a i = nI (se i)) (ha6 : se i < 6) {post : Int32 → SY → Prop} (h : post (nI (i + 1)) (g_n, g_printed, b_kind, b_a, b_b, b_c, upd b_var (se i) (Int32.ofInt (tt_b (b_b i).toInt)), b_out, b_left)) : wpY_pass post (g_n, g_printed, b_kind, b_a, b_b, b_c, b_var, b_out, b_left) (nI i) := by
  have hin : vp_in (nI i) 40 := vp_in_nI hi (by decide)
  have ei : (nI i).toNatClampNeg = i := nI_clamp (by omega)
  have b1 := (b_b i).le_toInt
  have b2 := (b_b i).toInt_lt
  refine yp_pl hκ h12 hi (by omega) ⟨hin, kk_eq hκ h12 hi 0 (fun _ => ?_) (fun q => absurd hk q)⟩
  unfold wY_plain_20
  refine ⟨hin, kk_eq hκ h12 hi 1 (fun q => absurd q (by omega)) (fun _ => ⟨hin, kk_eq hκ h12 hi 2 (fun q => absurd q (by omega)) (fun _ => ⟨hin, kk_eq hκ h12 hi 3 (fun q => absurd q (by omega)) (fun _ => ⟨hin, kk_eq hκ h12 hi 6 (fun q => absurd q (by omega)) (fun _ => ?_)⟩)⟩)⟩)⟩
  refine ⟨hin, kk_eq hκ h12 hi 0 (fun _ => ⟨hin, hin, ?_⟩) (fun q => absurd hk q)⟩
  rw [ei, ha]
  refine yw_wrap (z := (b_b i).toInt) (by omega) (by omega) (Int64.ofInt_int32ToInt _).symm ⟨vp_in_nI ha6 (by decide), ?_⟩
  rw [nI_clamp (n := se i) (by omega)]
  exact nm_e (yp_e124 hκ h12 hi (by omega) h)
theorem yp_ar (hκ : ∀ i, b_kind i = nI (κ i)) (h12 : ∀ i, κ i ≤ 12) (hi : i < 40) (hk : 1 ≤ κ i) (hk' : κ i ≤ 6) (ha : b_a i = nI (fi i)) (ha6 : fi i < 6) (hb : b_b i = nI (se i)) (hb6 : se i < 6) (hc : κ i ≠ 4 → κ i ≠ 5 → b_c i = nI (th i) ∧ th i < 6) {va : Nat → Int} (hV : ky_V va b_var) {post : Int32 → SY → Prop} (h : post (nI (i + 1)) (g_n, g_printed, b_kind, b_a, b_b, b_c, upd b_var (fi i) (Int32.ofInt (ky_r (κ i) (va (se i)) (va (th i)))), b_out, b_left)) : wpY_pass post (g_n, g_printed, b_kind, b_a, b_b, b_c, b_var, b_out, b_left) (nI i) := by
  have hin : vp_in (nI i) 40 := vp_in_nI hi (by decide)
  have ei : (nI i).toNatClampNeg = i := nI_clamp (by omega)
  have ef : (nI (fi i)).toNatClampNeg = fi i := nI_clamp (by omega)
  have hf6 : vp_in (nI (fi i)) 6 := vp_in_nI ha6 (by decide)
  obtain ⟨x1, x2, x3⟩ := hV _ hb6
  refine yp_pl hκ h12 hi (by omega) ⟨hin, kk_eq hκ h12 hi 0 (fun q => absurd q (by omega)) (fun _ => ⟨hin, kk_eq hκ h12 hi 12 (fun q => absurd q (by omega)) (fun _ => ⟨hin, ?_⟩)⟩)⟩
  rw [ei, hb]
  refine ⟨vp_in_nI hb6 (by decide), ?_⟩
  rw [nI_clamp (n := se i) (by omega), x1]
  -- what stands behind the choice of the second operand
  have K35 : (∀ z : Int32, (κ i ≠ 4 → κ i ≠ 5 → z = Int32.ofInt (va (th i)) ∧ -9841 ≤ va (th i) ∧ va (th i) ≤ 9841) → wY_plain_92 (fun u => post (nI (i + 1)) u) (nI i) (Int32.ofInt (va (se i))) z g_n g_printed b_kind b_a b_b b_c b_var b_out b_left) → wY_plain_35 (fun u => post (nI (i + 1)) u) (nI i) (Int32.ofInt (va (se i))) g_n g_printed b_kind b_a b_b b_c b_var b_out b_left := by
    intro K
    have K77 : κ i ≠ 4 → κ i ≠ 5 → wY_plain_77 (fun u => post (nI (i + 1)) u) (nI i) (Int32.ofInt (va (se i))) g_n g_printed b_kind b_a b_b b_c b_var b_out b_left := by
      intro q4 q5
      obtain ⟨c1, c2⟩ := hc q4 q5
      obtain ⟨y1, y2, y3⟩ := hV _ c2
      refine ⟨hin, ?_⟩
      rw [ei, c1]
      refine ⟨vp_in_nI c2 (by decide), ?_⟩
      rw [nI_clamp (n := th i) (by omega), y1]
      exact K _ (fun _ _ => ⟨rfl, y2, y3⟩)
    exact ⟨hin, kk_eq hκ h12 hi 1 (fun q => K77 (by omega) (by omega)) (fun q1 => ⟨hin, kk_eq hκ h12 hi 2 (fun q => K77 (by omega) (by omega)) (fun q2 => ⟨hin, kk_eq hκ h12 hi 3 (fun q => K77 (by omega) (by omega)) (fun q3 => ⟨hin, kk_eq hκ h12 hi 6 (fun q => K77 (by omega) (by omega)) (fun q6 => K _ (fun q4 q5 => absurd hk' (by omega)))⟩)⟩)⟩)⟩
  refine K35 (fun z hz => ?_)
  have hq : κ i = 1 ∨ κ i = 2 ∨ κ i = 3 ∨ κ i = 4 ∨ κ i = 5 ∨ κ i = 6 := by omega
  generalize va (se i) = x at *
  generalize va (th i) = y at *
  rcases hq with q | q | q | q | q | q
  · obtain ⟨z1, z2, z3⟩ := hz (by omega) (by omega)
    subst z1
    refine yp_b124 hκ h12 hi (by omega) ⟨hin, kk_eq hκ h12 hi 1 (fun _ => ⟨hin, ?_⟩) (fun q' => absurd q q')⟩
    rw [ei, ha]
    refine yw_wrap (z := x + y) (by omega) (by omega) (by rw [← Int32.ofInt_add, zi_l (by omega) (by omega)]) ⟨hf6, ?_⟩
    rw [ef]
    rw [q] at h
    exact nm_e (yp_e153 hκ h12 hi (by omega) h)
  · obtain ⟨z1, z2, z3⟩ := hz (by omega) (by omega)
    subst z1
    refine yp_b153 hκ h12 hi (by omega) ⟨hin, kk_eq hκ h12 hi 2 (fun _ => ⟨hin, ?_⟩) (fun q' => absurd q q')⟩
    rw [ei, ha]
    refine yw_wrap (z := x - y) (by omega) (by omega) (by rw [← Int32.ofInt_sub, zi_l (by omega) (by omega)]) ⟨hf6, ?_⟩
    rw [ef]
    rw [q] at h
    exact nm_e (yp_e182 hκ h12 hi (by omega) h)
  · obtain ⟨z1, z2, z3⟩ := hz (by omega) (by omega)
    subst z1
    have hxy : -100000000 ≤ x * y ∧ x * y ≤ 100000000 := by
      have h1 : x.natAbs ≤ 9841 := by omega
      have h2 : y.natAbs ≤ 9841 := by omega
      have h3 : (x * y).natAbs ≤ 9841 * 9841 := by rw [Int.natAbs_mul]; exact Nat.mul_le_mul h1 h2
      omega
    refine yp_b182 hκ h12 hi (by omega) ⟨hin, kk_eq hκ h12 hi 3 (fun _ => ⟨hin, ?_⟩) (fun q' => absurd q q')⟩
    rw [ei, ha]
    refine yw_wrap (z := x * y) (by omega) (by omega) (by rw [zi_l (by omega) (by omega), zi_l (by omega) (by omega), ← Int64.ofInt_mul]) ⟨hf6, ?_⟩
    rw [ef]
    rw [q] at h
    exact nm_e (yp_e212 hκ h12 hi (by omega) h)
  · refine yp_b212 hκ h12 hi (by omega) ⟨hin, kk_eq hκ h12 hi 4 (fun _ => ⟨hin, ?_⟩) (fun q' => absurd q q')⟩
    rw [ei, ha]
    refine yw_wrap (z := 3 * x) (by omega) (by omega) (by rw [show (3 : Int32) = Int32.ofInt 3 from rfl, ← Int32.ofInt_mul, zi_l (by omega) (by omega)]) ⟨hf6, ?_⟩
    rw [ef]
    rw [q] at h
    exact nm_e (yp_e241 hκ h12 hi (by omega) h)
  · refine yp_b241 hκ h12 hi (by omega) ⟨hin, kk_eq hκ h12 hi 5 (fun _ => ⟨hin, ?_⟩) (fun q' => absurd q q')⟩
    rw [ei, ha]
    refine yw_tritOf (i := 0) x2 x3 (by omega) rfl rfl ⟨by decide, hf6, ?_⟩
    rw [ef]
    have hd := tt_dnV (tt_dT x)
    rw [tt_dV9, tt_bi x2 x3] at hd
    have ht := (tt_dT x).1 0
    have e : (Int32.ofInt x - Int32.ofInt (tt_d x 0)) / 3 = Int32.ofInt ((x - tt_d x 0) / 3) := by
      rw [show (3 : Int32) = Int32.ofInt 3 from rfl, ← Int32.ofInt_sub, zi_div (by omega) (by omega) (by decide) (by decide), zt_e (q := (x - tt_d x 0) / 3) (by omega)]
    rw [e]
    rw [q] at h
    exact nm_e (yp_e272 hκ h12 hi (by omega) h)
  · obtain ⟨z1, z2, z3⟩ := hz (by omega) (by omega)
    subst z1
    refine yp_b272 hκ h12 hi (by omega) ⟨hin, kk_eq hκ h12 hi 6 (fun _ => ⟨hin, ?_⟩) (fun q' => absurd q q')⟩
    rw [ei, ha]
    refine yw_low x2 x3 z2 z3 ⟨hf6, ?_⟩
    rw [ef]
    rw [q] at h
    exact nm_e (yp_e300 hκ h12 hi (by omega) h)
theorem yp_12 (hκ : ∀ i, b_kind i = nI (κ i)) (h12 : ∀ i, κ i ≤ 12) (hi : i < 40) (hk : κ i = 12) (ha : b_a i = nI (fi i)) (ha6 : fi i < 6) {k : Nat} (hg : g_printed = nI k) (hk2 : k < 100000) {post : Int32 → SY → Prop} (h : post (nI (i + 1)) (g_n, nI (k + 1), b_kind, b_a, b_b, b_c, b_var, if k < 48 then upd b_out k (b_var (fi i)) else b_out, b_left)) : wpY_pass post (g_n, g_printed, b_kind, b_a, b_b, b_c, b_var, b_out, b_left) (nI i) := by
  subst hg
  have hin : vp_in (nI i) 40 := vp_in_nI hi (by decide)
  have ei : (nI i).toNatClampNeg = i := nI_clamp (by omega)
  refine yp_pl hκ h12 hi (by omega) ⟨hin, kk_eq hκ h12 hi 0 (fun q => absurd q (by omega)) (fun _ => ⟨hin, kk_eq hκ h12 hi 12 (fun _ => ?_) (fun q => absurd hk q)⟩)⟩
  unfold wY_plain_20
  refine ⟨hin, kk_eq hκ h12 hi 1 (fun q => absurd q (by omega)) (fun _ => ⟨hin, kk_eq hκ h12 hi 2 (fun q => absurd q (by omega)) (fun _ => ⟨hin, kk_eq hκ h12 hi 3 (fun q => absurd q (by omega)) (fun _ => ⟨hin, kk_eq hκ h12 hi 6 (fun q => absurd q (by omega)) (fun _ => ?_)⟩)⟩)⟩)⟩
  refine yp_b300 hκ h12 hi (by omega) ⟨hin, kk_eq hκ h12 hi 12 (fun _ => ?_) (fun q => absurd hk q)⟩
  rw [ei, ha]
  refine pk_le 48 k (fun q => nm_r (nI_1 k) ?_) (fun q => ⟨hin, vp_in_nI ha6 (by decide), vp_in_nI q (by decide), nm_r (e' := upd b_out k (b_var (fi i))) (by rw [nI_clamp (by omega), nI_clamp (by omega)]) (nm_r (nI_1 k) ?_)⟩)
  · rw [if_neg (by omega)] at h; exact h
  · rw [if_pos q] at h; exact h
/-! the block statements -/
theorem yp_39 (hκ : ∀ i, b_kind i = nI (κ i)) (h12 : ∀ i, κ i ≤ 12) (hn40 : n ≤ 40) (hS : kb_S κ n) (hi : i < n) (hk : κ i = 7) {m : Nat} (hm : m = 8 ∨ m = 9) {post : Int32 → Prop} {z : Int32} (hz : z = nI m) (h : post (nI (kb_ch κ n i m))) : wY_choose_39 post (nI (kb_en κ n i)) z (nI i) g_n g_printed b_kind b_a b_b b_c b_var b_out b_left := by
  subst hz
  obtain ⟨a1, a2, a3, a5, a6, a4⟩ := kb_en1 hS.2 hi (Or.inl hk)
  have hK : kb_K κ (kb_en κ n i) := fun m hm => hS.1 m (by omega)
  unfold wY_choose_39
  refine yb_mk hκ h12 (by omega) a1 (by omega) (kb_K5 hK) (kb_K4 hK) (fun k q1 q2 q3 q4 => br_t (nI_pos' (by omega)) ?_) (fun q => br_f (by decide) ?_)
  · rw [nI_1, ← kb_ch1 (m := m) q1 q2 q3 q4]; exact h
  · rw [nI_1, ← kb_ch0 (m := m) a1 q]; exact h
theorem yp_7 (hκ : ∀ i, b_kind i = nI (κ i)) (h12 : ∀ i, κ i ≤ 12) (hn40 : n ≤ 40) (hS : kb_S κ n) (hg : g_n = nI n) (hi : i < n) (hk : κ i = 7) (ha : b_a i = nI (fi i)) (ha6 : fi i < 6) {va : Nat → Int} (hV : ky_V va b_var) {post : Int32 → SY → Prop} (h : post (nI (if va (fi i) < 0 then i + 1 else if va (fi i) = 0 then kb_ch κ n i 8 else kb_ch κ n i 9)) (g_n, g_printed, b_kind, b_a, b_b, b_c, b_var, b_out, b_left)) : wpY_pass post (g_n, g_printed, b_kind, b_a, b_b, b_c, b_var, b_out, b_left) (nI i) := by
  have hin : vp_in (nI i) 40 := vp_in_nI (by omega) (by decide)
  obtain ⟨x1, x2, x3⟩ := hV _ ha6
  refine ⟨hin, kk_eq hκ h12 (by omega) 7 (fun _ => ?_) (fun q => absurd hk q)⟩
  unfold wpY_choose
  refine yb_endOf hκ h12 hn40 hS.2 hg hi (Or.inl hk) (kb_K4 hS.1) ⟨hin, ?_⟩
  rw [nI_clamp (n := i) (by omega), ha]
  refine ⟨vp_in_nI ha6 (by decide), nm_r (e' := Int32.ofInt (va (fi i))) (by rw [nI_clamp (by omega), x1]) ?_⟩
  refine zk_le 0 (va (fi i)) (fun q => zk_eq (va (fi i)) 0 (fun q2 => ?_) (fun q2 => ?_) rfl rfl) (fun q => ?_) rfl rfl
  · rw [if_neg (by omega), if_pos q2] at h
    exact yp_39 (m := 8) hκ h12 hn40 hS hi hk (Or.inl rfl) rfl h
  · rw [if_neg (by omega), if_neg q2] at h
    exact yp_39 (m := 9) hκ h12 hn40 hS hi hk (Or.inr rfl) rfl h
  · rw [if_pos (by omega)] at h
    rw [nI_1]; exact h
theorem yp_10 (hκ : ∀ i, b_kind i = nI (κ i)) (h12 : ∀ i, κ i ≤ 12) (hn40 : n ≤ 40) (hS : kb_S κ n) (hg : g_n = nI n) (hi : i < n) (hk : κ i = 10) (ha : b_a i = nI (fi i)) (ha6 : fi i < 6) {post : Int32 → SY → Prop} (h : post (nI (if fi i = 0 then kb_en κ n i + 1 else i + 1)) (g_n, g_printed, b_kind, b_a, b_b, b_c, b_var, b_out, upd b_left i (nI (fi i)))) : wpY_pass post (g_n, g_printed, b_kind, b_a, b_b, b_c, b_var, b_out, b_left) (nI i) := by
  have hin : vp_in (nI i) 40 := vp_in_nI (by omega) (by decide)
  refine ⟨hin, kk_eq hκ h12 (by omega) 7 (fun q => absurd q (by omega)) (fun _ => ⟨hin, kk_eq hκ h12 (by omega) 10 (fun _ => ⟨hin, hin, ?_⟩) (fun q => absurd hk q)⟩)⟩
  rw [nI_clamp (n := i) (by omega), ha]
  refine nm_e ⟨hin, pk_eq (fi i) 0 (fun q => ?_) (fun q => ?_)⟩
  · rw [if_pos q] at h
    exact yb_endOf hκ h12 hn40 hS.2 hg hi (Or.inr hk) (kb_K4 hS.1) (by rw [nI_1]; exact h)
  · rw [if_neg q] at h
    rw [nI_1]; exact h
theorem yp_8 (hκ : ∀ i, b_kind i = nI (κ i)) (h12 : ∀ i, κ i ≤ 12) (hn40 : n ≤ 40) (hS : kb_S κ n) (hg : g_n = nI n) (hi : i < n) (hk : κ i = 8 ∨ κ i = 9) {post : Int32 → SY → Prop} (h : post (nI (kb_en κ n (kb_op κ i) + 1)) (g_n, g_printed, b_kind, b_a, b_b, b_c, b_var, b_out, b_left)) : wpY_pass post (g_n, g_printed, b_kind, b_a, b_b, b_c, b_var, b_out, b_left) (nI i) := by
  have hin : vp_in (nI i) 40 := vp_in_nI (by omega) (by decide)
  have hM := (hS.1 i hi).2.2 hk
  have hK : kb_K κ i := fun m hm => hS.1 m (by omega)
  obtain ⟨b1, b2, b3, b4⟩ := kb_op1 (κ := κ) (i := i) hM.1
  have K : wY_pass_85 post (nI i) g_n g_printed b_kind b_a b_b b_c b_var b_out b_left := by
    unfold wY_pass_85
    refine yb_op hκ h12 (by omega) (kb_K5 hK) (kb_K4 hK) (fun _ => ?_) (fun q => absurd hM.1 (by omega))
    exact yb_endOf hκ h12 hn40 hS.2 hg (by omega) b4 (kb_K4 hS.1) (by rw [nI_1]; exact h)
  refine ⟨hin, kk_eq hκ h12 (by omega) 7 (fun q => absurd q (by omega)) (fun _ => ⟨hin, kk_eq hκ h12 (by omega) 10 (fun q => absurd q (by omega)) (fun _ => ⟨hin, kk_eq hκ h12 (by omega) 8 (fun _ => K) (fun _ => ⟨hin, kk_eq hκ h12 (by omega) 9 (fun _ => K) (fun _ => absurd hk (by omega))⟩)⟩)⟩)⟩
theorem yp_11 (hκ : ∀ i, b_kind i = nI (κ i)) (h12 : ∀ i, κ i ≤ 12) (hn40 : n ≤ 40) (hS : kb_S κ n) (hg : g_n = nI n) (hi : i < n) (hk : κ i = 11) {post : Int32 → SY → Prop} (h7 : κ (kb_op κ i) = 7 → post (nI (i + 1)) (g_n, g_printed, b_kind, b_a, b_b, b_c, b_var, b_out, b_left)) (h10 : κ (kb_op κ i) = 10 → ∃ l : Nat, l < 1000 ∧ b_left (kb_op κ i) = nI (l + 1) ∧ post (nI (if l = 0 then i + 1 else kb_op κ i + 1)) (g_n, g_printed, b_kind, b_a, b_b, b_c, b_var, b_out, upd b_left (kb_op κ i) (nI l))) : wpY_pass post (g_n, g_printed, b_kind, b_a, b_b, b_c, b_var, b_out, b_left) (nI i) := by
  have hin : vp_in (nI i) 40 := vp_in_nI (by omega) (by decide)
  have hD := (hS.1 i hi).1 hk
  have hK : kb_K κ i := fun m hm => hS.1 m (by omega)
  obtain ⟨b1, b2, b3, b4⟩ := kb_op1 (κ := κ) (i := i) hD
  have hin2 : vp_in (nI (kb_op κ i)) 40 := vp_in_nI (by omega) (by decide)
  refine ⟨hin, kk_eq hκ h12 (by omega) 7 (fun q => absurd q (by omega)) (fun _ => ⟨hin, kk_eq hκ h12 (by omega) 10 (fun q => absurd q (by omega)) (fun _ => ⟨hin, kk_eq hκ h12 (by omega) 8 (fun q => absurd q (by omega)) (fun _ => ⟨hin, kk_eq hκ h12 (by omega) 9 (fun q => absurd q (by omega)) (fun _ => ⟨hin, kk_eq hκ h12 (by omega) 11 (fun _ => ?_) (fun q => absurd hk q)⟩)⟩)⟩)⟩)⟩
  refine yb_op hκ h12 (by omega) (kb_K5 hK) (kb_K4 hK) (fun _ => ⟨hin2, kk_eq hκ h12 (by omega) 7 (fun q => ?_) (fun q => ⟨hin2, hin2, ?_⟩)⟩) (fun q => absurd hD (by omega))
  · rw [nI_1]; exact h7 q
  · obtain ⟨l, l1, l2, l3⟩ := h10 (by omega)
    rw [nI_clamp (n := kb_op κ i) (by omega), l2, nI_pred]
    refine nm_e ⟨hin2, ?_⟩
    rw [pk_us]
    refine pk_le l 0 (fun q => ?_) (fun q => ?_)
    · rw [if_pos (by omega)] at l3
      rw [nI_1]; exact l3
    · rw [if_neg (by omega)] at l3
      rw [nI_1]; exact l3
end
end
section
/-! ===== how many statements Y passes ===== -/
def kb_Bf (κ : Nat → Nat) (n : Nat) : Nat → Nat → Nat
  | 0, _ => 0
  | f + 1, i => if n ≤ i then 0 else if κ i = 10 then 1 + 5 * kb_Bf κ n f (i + 1) + kb_Bf κ n f (kb_en κ n i + 1) else if κ i = 11 ∧ κ (kb_op κ i) = 10 then 1 else 1 + kb_Bf κ n f (i + 1)
def kb_B (κ : Nat → Nat) (n i : Nat) : Nat := kb_Bf κ n n i
/-- within the loop at o -/
def kb_I' (κ : Nat → Nat) (n o i : Nat) : Prop := κ o = 10 ∧ o < i ∧ i ≤ kb_en κ n o
section
variable {κ : Nat → Nat} {n : Nat}
theorem kb_Bst (hS : kb_S κ n) : ∀ f g i : Nat, n ≤ f + i → n ≤ g + i → kb_Bf κ n f i = kb_Bf κ n g i := by
  intro f
  induction f with
  | zero =>
    intro g i h1 h2
    cases g with
    | zero => rfl
    | succ g => exact (if_pos (by omega)).symm
  | succ f ih =>
    intro g i h1 h2
    cases g with
    | zero => exact if_pos (by omega)
    | succ g =>
      show (if n ≤ i then 0 else if κ i = 10 then 1 + 5 * kb_Bf κ n f (i + 1) + kb_Bf κ n f (kb_en κ n i + 1) else if κ i = 11 ∧ κ (kb_op κ i) = 10 then 1 else 1 + kb_Bf κ n f (i + 1)) = (if n ≤ i then 0 else if κ i = 10 then 1 + 5 * kb_Bf κ n g (i + 1) + kb_Bf κ n g (kb_en κ n i + 1) else if κ i = 11 ∧ κ (kb_op κ i) = 10 then 1 else 1 + kb_Bf κ n g (i + 1))
      by_cases hn : n ≤ i
      · rw [if_pos hn, if_pos hn]
      · rw [if_neg hn, if_neg hn, ih g (i + 1) (by omega) (by omega)]
        by_cases hk : κ i = 10
        · have := (kb_en1 hS.2 (by omega : i < n) (Or.inr hk)).1
          rw [if_pos hk, if_pos hk, ih g (kb_en κ n i + 1) (by omega) (by omega)]
        · rw [if_neg hk, if_neg hk]
theorem kb_Be (hS : kb_S κ n) {i : Nat} (hi : i < n) : kb_B κ n i = if κ i = 10 then 1 + 5 * kb_B κ n (i + 1) + kb_B κ n (kb_en κ n i + 1) else if κ i = 11 ∧ κ (kb_op κ i) = 10 then 1 else 1 + kb_B κ n (i + 1) := by
  have e : kb_B κ n i = kb_Bf κ n (n + 1) i := kb_Bst hS n (n + 1) i (by omega) (by omega)
  rw [e]
  exact if_neg (by omega)
theorem kb_Bn {i : Nat} (hi : n ≤ i) : kb_B κ n i = 0 := by
  unfold kb_B
  cases n with
  | zero => rfl
  | succ n => exact if_pos hi
theorem kb_B10 (hS : kb_S κ n) {i : Nat} (hi : i < n) (hk : κ i = 10) : kb_B κ n i = 1 + 5 * kb_B κ n (i + 1) + kb_B κ n (kb_en κ n i + 1) := by rw [kb_Be hS hi, if_pos hk]
theorem kb_B11 (hS : kb_S κ n) {i : Nat} (hi : i < n) (hk : κ i = 11) (ho : κ (kb_op κ i) = 10) : kb_B κ n i = 1 := by rw [kb_Be hS hi, if_neg (by omega), if_pos ⟨hk, ho⟩]
theorem kb_Bo (hS : kb_S κ n) {i : Nat} (hi : i < n) (hk : κ i ≠ 10) (ho : ¬ (κ i = 11 ∧ κ (kb_op κ i) = 10)) : kb_B κ n i = 1 + kb_B κ n (i + 1) := by rw [kb_Be hS hi, if_neg hk, if_neg ho]
theorem kb_B1 (hS : kb_S κ n) {i : Nat} (hi : i < n) : 1 ≤ kb_B κ n i := by
  rw [kb_Be hS hi]
  split
  · omega
  · split <;> omega
/-! which loops one is in -/
theorem kl_n (hS : kb_S κ n) {o : Nat} (ho : o < n) (h : κ o = 10) : o < kb_en κ n o ∧ kb_en κ n o < n := by
  obtain ⟨a1, a2, _⟩ := kb_en1 hS.2 ho (Or.inr h)
  exact ⟨a1, a2⟩
/-- nested blocks -/
theorem kl_ne (hS : kb_S κ n) {o p : Nat} (ho : κ o = 7 ∨ κ o = 10) (hp : κ p = 7 ∨ κ p = 10) (hpn : p < n) (h1 : o < p) (h2 : p ≤ kb_en κ n o) : kb_en κ n p < kb_en κ n o := by
  obtain ⟨a1, a2, a3, a5, a6, a4⟩ := kb_en1 hS.2 (by omega : o < n) ho
  obtain ⟨c1, c2, c3, c5, c6, c4⟩ := kb_en1 hS.2 hpn hp
  have d := a4 p h1 h2
  rcases Nat.lt_trichotomy (kb_en κ n p) (kb_en κ n o) with q | q | q
  · exact q
  · rw [q] at c3; omega
  · have e : p ≠ kb_en κ n o := fun e => by rw [← e] at a6; omega
    have := c4 (kb_en κ n o + 1) (by omega) (by omega); omega
theorem kl_1 (hS : kb_S κ n) {i o : Nat} (hi : i < n) (ho : o < n) (hk : κ i ≠ 10) (he : ¬ (κ i = 11 ∧ κ (kb_op κ i) = 10)) : kb_I' κ n o (i + 1) ↔ kb_I' κ n o i := by
  constructor
  · rintro ⟨h1, h2, h3⟩
    have : o ≠ i := fun e => by rw [e] at h1; omega
    exact ⟨h1, by omega, by omega⟩
  · rintro ⟨h1, h2, h3⟩
    obtain ⟨a1, a2, a3, a5, a6, a4⟩ := kb_en1 hS.2 ho (Or.inr h1)
    have : i ≠ kb_en κ n o := by
      intro e
      rw [← e] at a6 a5
      refine he ⟨a6, ?_⟩
      rw [kb_O6 (κ := κ) (o := o) (i := i) ⟨h2, fun m q1 q2 => a4 m q1 (by omega)⟩ (by omega)]
      exact h1
    exact ⟨h1, by omega, by omega⟩
/-- behind the end of a block that one is at, or at a mark of -/
theorem kl_2 (hS : kb_S κ n) {p i o : Nat} (hp : p < n) (ho : o < n) (hk : κ p = 7 ∨ κ p = 10) (hi : i = p ∨ (p < i ∧ i ≤ kb_en κ n p ∧ kb_D κ i = kb_D κ p + 1 ∧ κ p = 7)) : kb_I' κ n o (kb_en κ n p + 1) ↔ kb_I' κ n o i := by
  obtain ⟨c1, c2, c3, c5, c6, c4⟩ := kb_en1 hS.2 hp hk
  constructor
  · rintro ⟨h1, h2, h3⟩
    obtain ⟨a1, a2, a3, a5, a6, a4⟩ := kb_en1 hS.2 ho (Or.inr h1)
    have hop : o < p := by
      rcases Nat.lt_trichotomy o p with q | q | q
      · exact q
      · rw [q] at h3; omega
      · have e1 := c4 o q (by omega)
        have e2 := a4 (kb_en κ n p + 1) (by omega) h3
        omega
    exact ⟨h1, by omega, by omega⟩
  · rintro ⟨h1, h2, h3⟩
    obtain ⟨a1, a2, a3, a5, a6, a4⟩ := kb_en1 hS.2 ho (Or.inr h1)
    have hop : o < p := by
      rcases hi with q | ⟨q1, q2, q3, q4⟩
      · omega
      · have e1 := a4 i h2 h3
        rcases Nat.lt_trichotomy o p with q | q | q
        · exact q
        · rw [q] at h1; omega
        · have e2 := c4 o q (by omega); omega
    have := kl_ne hS (Or.inr h1) hk hp hop (by omega)
    exact ⟨h1, by omega, by omega⟩
/-- behind a mark of the choice that one is at -/
theorem kl_3 (hS : kb_S κ n) {p k o m : Nat} (hp : p < n) (ho : o < n) (hk : κ p = 7) (hm : m = 8 ∨ m = 9) (hM : kb_M κ p m k) (hkn : k < n) : kb_I' κ n o (k + 1) ↔ kb_I' κ n o p := by
  obtain ⟨c1, c2, c3, c5, c6, c4⟩ := kb_en1 hS.2 hp (Or.inl hk)
  obtain ⟨m1, m2, m3, m4, m5⟩ := kb_mi hS.2 hkn hm hM
  have hkk := hM.2.1
  constructor
  · rintro ⟨h1, h2, h3⟩
    obtain ⟨a1, a2, a3, a5, a6, a4⟩ := kb_en1 hS.2 ho (Or.inr h1)
    have hok : o ≠ k := fun e => by rw [e] at h1; omega
    have hop : o < p := by
      rcases Nat.lt_trichotomy o p with q | q | q
      · exact q
      · rw [q] at h1; omega
      · have e1 := c4 o q (by omega)
        have e2 := a4 (k + 1) (by omega) h3
        have e3 := kb_Dn (κ := κ) (i := k) (by omega) (by omega) (by omega)
        omega
    exact ⟨h1, hop, by have := hM.1; omega⟩
  · rintro ⟨h1, h2, h3⟩
    have := kl_ne hS (Or.inr h1) (Or.inl hk) hp h2 h3
    exact ⟨h1, by have := hM.1; omega, by omega⟩
theorem kl_4 (hS : kb_S κ n) {i o : Nat} (hi : i < n) (ho : o < n) (hk : κ i = 10) : kb_I' κ n o (i + 1) ↔ (kb_I' κ n o i ∨ o = i) := by
  obtain ⟨c1, c2⟩ := kl_n hS hi hk
  constructor
  · rintro ⟨h1, h2, h3⟩
    by_cases e : o = i
    · exact Or.inr e
    · exact Or.inl ⟨h1, by omega, by omega⟩
  · rintro (⟨h1, h2, h3⟩ | e)
    · obtain ⟨a1, a2, a3, a5, a6, a4⟩ := kb_en1 hS.2 ho (Or.inr h1)
      have : i ≠ kb_en κ n o := fun e => by rw [← e] at a6; omega
      exact ⟨h1, by omega, by omega⟩
    · subst e; exact ⟨hk, by omega, by omega⟩
theorem kl_e (hS : kb_S κ n) {i : Nat} (hi : i < n) (hk : κ i = 11) : 0 < kb_D κ i ∧ kb_op κ i < i ∧ kb_en κ n (kb_op κ i) = i := by
  have hD := (hS.1 i hi).1 hk
  exact ⟨hD, (kb_op1 hD).1, kb_oe11 hS.2 hi hD hk⟩
theorem kl_5 (hS : kb_S κ n) {i o : Nat} (hi : i < n) (ho : o < n) (hk : κ i = 11) (h10 : κ (kb_op κ i) = 10) : kb_I' κ n o (kb_op κ i + 1) ↔ kb_I' κ n o i := by
  obtain ⟨hD, hlt, een⟩ := kl_e hS hi hk
  obtain ⟨c1, c2, c3, c5, c6, c4⟩ := kb_en1 hS.2 (by omega : kb_op κ i < n) (Or.inr h10)
  rw [een] at c1 c2 c3 c4 c5 c6
  constructor
  · rintro ⟨h1, h2, h3⟩
    by_cases e : o = kb_op κ i
    · rw [e]; exact ⟨h10, hlt, by omega⟩
    · have := kl_ne hS (Or.inr h1) (Or.inr h10) (by omega) (by omega) (by omega : kb_op κ i ≤ kb_en κ n o)
      exact ⟨h1, by omega, by omega⟩
  · rintro ⟨h1, h2, h3⟩
    obtain ⟨a1, a2, a3, a5, a6, a4⟩ := kb_en1 hS.2 ho (Or.inr h1)
    by_cases e : o = kb_op κ i
    · rw [e]; exact ⟨h10, by omega, by omega⟩
    · have e1 := a4 i h2 h3
      have hop : o < kb_op κ i := by
        rcases Nat.lt_trichotomy o (kb_op κ i) with q | q | q
        · exact q
        · exact absurd q e
        · have e2 := c4 o q (by omega); omega
      exact ⟨h1, by omega, by omega⟩
theorem kl_6 (hS : kb_S κ n) {i o : Nat} (hi : i < n) (ho : o < n) (hk : κ i = 11) (h10 : κ (kb_op κ i) = 10) : kb_I' κ n o (i + 1) ↔ (kb_I' κ n o i ∧ o ≠ kb_op κ i) := by
  obtain ⟨hD, hlt, een⟩ := kl_e hS hi hk
  constructor
  · rintro ⟨h1, h2, h3⟩
    have : o ≠ i := fun e => by rw [e] at h1; omega
    refine ⟨⟨h1, by omega, by omega⟩, fun e => ?_⟩
    rw [e, een] at h3; omega
  · rintro ⟨⟨h1, h2, h3⟩, h4⟩
    obtain ⟨a1, a2, a3, a5, a6, a4⟩ := kb_en1 hS.2 ho (Or.inr h1)
    have : i ≠ kb_en κ n o := by
      intro e
      rw [← e] at a5
      exact h4 (kb_O6 (κ := κ) (o := o) (i := i) ⟨h2, fun m q1 q2 => a4 m q1 (by omega)⟩ (by omega)).symm
    exact ⟨h1, by omega, by omega⟩
/-- a jump ahead within the same loops makes what is left less -/
theorem kb_Bm (hS : kb_S κ n) : ∀ d i t : Nat, t - i ≤ d → i < t → t ≤ n → (∀ o, o < n → (kb_I' κ n o t ↔ kb_I' κ n o i)) → kb_B κ n t < kb_B κ n i := by
  intro d
  induction d with
  | zero => intro i t h1 h2; omega
  | succ d ih =>
    intro i t h1 h2 h3 hL
    have hi : i < n := by omega
    by_cases hk : κ i = 10
    · obtain ⟨c1, c2⟩ := kl_n hS hi hk
      have hne : kb_en κ n i < t := by
        rcases Nat.lt_or_ge (kb_en κ n i) t with q | q
        · exact q
        · have := ((hL i hi).mp ⟨hk, h2, q⟩).2.1; omega
      rw [kb_B10 hS hi hk]
      by_cases e : kb_en κ n i + 1 = t
      · rw [e]; omega
      · have := ih (kb_en κ n i + 1) t (by omega) (by omega) h3 (fun o ho => (hL o ho).trans (kl_2 hS hi ho (Or.inr hk) (Or.inl rfl)).symm)
        omega
    · by_cases he : κ i = 11 ∧ κ (kb_op κ i) = 10
      · obtain ⟨hD, hlt, een⟩ := kl_e hS hi he.1
        have := ((hL (kb_op κ i) (by omega)).mpr ⟨he.2, hlt, by omega⟩).2.2
        omega
      · rw [kb_Bo hS hi hk he]
        by_cases e : i + 1 = t
        · rw [e]; omega
        · have := ih (i + 1) t (by omega) (by omega) h3 (fun o ho => (hL o ho).trans (kl_1 hS hi ho hk he).symm)
          omega
/-- the bound -/
theorem kb_Bb (hS : kb_S κ n) : ∀ d i t c : Nat, t - i ≤ d → i ≤ t → t ≤ n → c ≤ 3 → (∀ m, i ≤ m → m ≤ t → c ≤ kb_D κ m) → (∀ o, o < n → (kb_I' κ n o t ↔ kb_I' κ n o i)) → kb_B κ n i ≤ 5 ^ (3 - c) * (t - i) + kb_B κ n t := by
  intro d
  induction d with
  | zero =>
    intro i t c h1 h2 _ _ _ _
    have : i = t := by omega
    subst this; omega
  | succ d ih =>
    intro i t c h1 h2 h3 hc hD hL
    by_cases eit : i = t
    · subst eit; omega
    have hi : i < n := by omega
    have hp : 1 ≤ 5 ^ (3 - c) := Nat.pow_pos (by decide)
    obtain ⟨x, hx⟩ : ∃ x, t - i = x + 1 := ⟨t - i - 1, by omega⟩
    by_cases hk : κ i = 10
    · obtain ⟨c1, c2, c3, c5, c6, c4⟩ := kb_en1 hS.2 hi (Or.inr hk)
      have hdi := (hS.1 i hi).2.1 (Or.inr hk)
      have hci := hD i (Nat.le_refl _) h2
      have hne : kb_en κ n i < t := by
        rcases Nat.lt_or_ge (kb_en κ n i) t with q | q
        · exact q
        · have := ((hL i hi).mp ⟨hk, by omega, q⟩).2.1; omega
      have eop : κ (kb_op κ (kb_en κ n i)) = 10 := by
        rw [kb_O6 (κ := κ) (o := i) (i := kb_en κ n i) ⟨c1, c4⟩ (by omega)]; exact hk
      have b1 := ih (i + 1) (kb_en κ n i) (c + 1) (by omega) (by omega) (by omega) (by omega) (fun m q1 q2 => by have := c4 m (by omega) q2; omega) (fun o ho => by
        constructor
        · rintro ⟨g1, g2, g3⟩
          obtain ⟨a1, a2, a3, a5, a6, a4⟩ := kb_en1 hS.2 ho (Or.inr g1)
          have : o < i + 1 := by
            rcases Nat.lt_or_ge o (i + 1) with q | q
            · exact q
            · have e1 := c4 o (by omega) (by omega)
              have e2 := a4 (kb_en κ n i) g2 g3
              omega
          exact ⟨g1, this, by omega⟩
        · rintro ⟨g1, g2, g3⟩
          by_cases e : o = i
          · subst e; exact ⟨g1, c1, Nat.le_refl _⟩
          · have := kl_ne hS (Or.inr g1) (Or.inr hk) hi (by omega) (by omega : i ≤ kb_en κ n o)
            exact ⟨g1, by omega, by omega⟩)
      have b2 := ih (kb_en κ n i + 1) t c (by omega) (by omega) h3 hc (fun m q1 q2 => hD m (by omega) q2) (fun o ho => (hL o ho).trans (kl_2 hS hi ho (Or.inr hk) (Or.inl rfl)).symm)
      rw [kb_B11 hS c2 c6 eop] at b1
      rw [kb_B10 hS hi hk]
      have ep : 5 ^ (3 - c) = 5 * 5 ^ (3 - (c + 1)) := by
        rw [show 3 - c = (3 - (c + 1)) + 1 from by omega, Nat.pow_succ, Nat.mul_comm]
      have hp2 : 1 ≤ 5 ^ (3 - (c + 1)) := Nat.pow_pos (by decide)
      obtain ⟨y, hy⟩ : ∃ y, kb_en κ n i - (i + 1) = y := ⟨_, rfl⟩
      obtain ⟨z, hz⟩ : ∃ z, t - (kb_en κ n i + 1) = z := ⟨_, rfl⟩
      have exyz : t - i = y + z + 2 := by omega
      rw [hy] at b1
      rw [hz] at b2
      rw [exyz, ep, Nat.mul_add, Nat.mul_add]
      rw [ep] at b2
      generalize 5 ^ (3 - (c + 1)) = w at *
      have e1 : 5 * w * y = 5 * (w * y) := Nat.mul_assoc ..
      rw [e1]
      omega
    · by_cases he : κ i = 11 ∧ κ (kb_op κ i) = 10
      · obtain ⟨hD', hlt, een⟩ := kl_e hS hi he.1
        have := ((hL (kb_op κ i) (by omega)).mpr ⟨he.2, hlt, by omega⟩).2.2
        omega
      · rw [kb_Bo hS hi hk he]
        have b := ih (i + 1) t c (by omega) (by omega) h3 hc (fun m q1 q2 => hD m (by omega) q2) (fun o ho => (hL o ho).trans (kl_1 hS hi ho hk he).symm)
        rw [show t - (i + 1) = x from by omega] at b
        rw [hx, Nat.mul_add]
        omega
theorem kb_B0 (hS : kb_S κ n) (hn : n ≤ 40) : kb_B κ n 0 ≤ 5000 := by
  have b := kb_Bb hS n 0 n 0 (by omega) (by omega) (Nat.le_refl _) (by omega) (fun m _ _ => Nat.zero_le _) (fun o ho => ⟨fun h => by
    obtain ⟨c1, c2⟩ := kl_n hS ho h.1
    have := h.2.2; omega, fun h => absurd h.2.1 (by omega)⟩)
  rw [kb_Bn (Nat.le_refl n)] at b
  have e : 5 ^ (3 - 0) = 125 := rfl
  rw [e] at b
  omega
/-! sums -/
def sm_s (g : Nat → Nat) : Nat → Nat
  | 0 => 0
  | k + 1 => sm_s g k + g k
theorem sm_c {g h : Nat → Nat} : ∀ {k : Nat}, (∀ o, o < k → g o = h o) → sm_s g k = sm_s h k := by
  intro k
  induction k with
  | zero => intro _; rfl
  | succ k ih =>
    intro hh
    show sm_s g k + g k = sm_s h k + h k
    rw [ih (fun o ho => hh o (by omega)), hh k (by omega)]
theorem sm_1 {g h : Nat → Nat} {p : Nat} : ∀ {k : Nat}, p < k → (∀ o, o < k → o ≠ p → g o = h o) → sm_s g k + h p = sm_s h k + g p := by
  intro k
  induction k with
  | zero => intro h; omega
  | succ k ih =>
    intro hp hh
    show sm_s g k + g k + h p = sm_s h k + h k + g p
    by_cases e : p = k
    · subst e
      rw [sm_c (fun o ho => hh o (by omega) (by omega))]; omega
    · have := ih (by omega) (fun o ho => hh o (by omega))
      have := hh k (by omega) (by omega)
      omega
def kb_t (κ : Nat → Nat) (n : Nat) (lv : Nat → Nat) (i o : Nat) : Nat := if κ o = 10 ∧ o < i ∧ i ≤ kb_en κ n o then (lv o - 1) * kb_B κ n (o + 1) + kb_B κ n (kb_en κ n o + 1) else 0
/-- what is left to pass -/
def kb_mu (κ : Nat → Nat) (n : Nat) (lv : Nat → Nat) (i : Nat) : Nat := kb_B κ n i + sm_s (kb_t κ n lv i) n
theorem kb_tp {lv : Nat → Nat} {i o : Nat} (h : kb_I' κ n o i) : kb_t κ n lv i o = (lv o - 1) * kb_B κ n (o + 1) + kb_B κ n (kb_en κ n o + 1) := if_pos h
theorem kb_tn {lv : Nat → Nat} {i o : Nat} (h : ¬ kb_I' κ n o i) : kb_t κ n lv i o = 0 := if_neg h
theorem kb_ts {lv : Nat → Nat} {i j o : Nat} (h : kb_I' κ n o i ↔ kb_I' κ n o j) : kb_t κ n lv i o = kb_t κ n lv j o := by
  by_cases q : kb_I' κ n o i
  · rw [kb_tp q, kb_tp (h.mp q)]
  · rw [kb_tn q, kb_tn (fun q' => q (h.mpr q'))]
/-- going on in the same loops -/
theorem kb_m1 {lv : Nat → Nat} {i j : Nat} (hB : kb_B κ n j < kb_B κ n i) (h : ∀ o, o < n → (kb_I' κ n o j ↔ kb_I' κ n o i)) : kb_mu κ n lv j < kb_mu κ n lv i := by
  unfold kb_mu
  rw [sm_c (g := kb_t κ n lv j) (h := kb_t κ n lv i) (fun o ho => kb_ts (h o ho))]; omega
theorem kb_m2 (hS : kb_S κ n) {lv : Nat → Nat} {i l : Nat} (hi : i < n) (hk : κ i = 10) (hl : 1 ≤ l) (hl' : l ≤ 5) : kb_mu κ n (fun o => if o = i then l else lv o) (i + 1) < kb_mu κ n lv i := by
  obtain ⟨c1, c2⟩ := kl_n hS hi hk
  have s := sm_1 (g := kb_t κ n (fun o => if o = i then l else lv o) (i + 1)) (h := kb_t κ n lv i) (p := i) hi (fun o ho hne => by
    have hh := kl_4 hS hi ho hk
    by_cases q : kb_I' κ n o i
    · rw [kb_tp q, kb_tp (hh.mpr (Or.inl q))]
      show ((if o = i then l else lv o) - 1) * _ + _ = _
      rw [if_neg hne]
    · rw [kb_tn q, kb_tn (fun q' => (hh.mp q').elim q hne)])
  have e1 : kb_t κ n (fun o => if o = i then l else lv o) (i + 1) i = (l - 1) * kb_B κ n (i + 1) + kb_B κ n (kb_en κ n i + 1) := by
    unfold kb_t
    rw [if_pos ⟨hk, by omega, by omega⟩]
    show ((if i = i then l else lv i) - 1) * _ + _ = _
    rw [if_pos rfl]
  have e2 : kb_t κ n lv i i = 0 := if_neg (by omega)
  rw [e1, e2] at s
  unfold kb_mu
  rw [kb_B10 hS hi hk]
  have : (l - 1) * kb_B κ n (i + 1) ≤ 4 * kb_B κ n (i + 1) := Nat.mul_le_mul_right _ (by omega)
  omega
theorem kb_m3 (hS : kb_S κ n) {lv : Nat → Nat} {i l : Nat} (hi : i < n) (hk : κ i = 11) (h10 : κ (kb_op κ i) = 10) (hl : lv (kb_op κ i) = l + 1) : kb_mu κ n (fun o => if o = kb_op κ i then l else lv o) (if l = 0 then i + 1 else kb_op κ i + 1) < kb_mu κ n lv i := by
  obtain ⟨hD, hlt, een⟩ := kl_e hS hi hk
  have hpn : kb_op κ i < n := by omega
  have e2 : kb_t κ n lv i (kb_op κ i) = l * kb_B κ n (kb_op κ i + 1) + kb_B κ n (i + 1) := by
    unfold kb_t
    rw [if_pos ⟨h10, hlt, by omega⟩, hl, een]; rfl
  unfold kb_mu
  rw [kb_B11 hS hi hk h10]
  by_cases q0 : l = 0
  · rw [if_pos q0]
    have s := sm_1 (g := kb_t κ n (fun o => if o = kb_op κ i then l else lv o) (i + 1)) (h := kb_t κ n lv i) (p := kb_op κ i) hpn (fun o ho hne => by
      have hh := kl_6 hS hi ho hk h10
      by_cases q : kb_I' κ n o i
      · rw [kb_tp q, kb_tp (hh.mpr ⟨q, hne⟩)]
        show ((if o = kb_op κ i then l else lv o) - 1) * _ + _ = _
        rw [if_neg hne]
      · rw [kb_tn q, kb_tn (fun q' => q (hh.mp q').1)])
    have e1 : kb_t κ n (fun o => if o = kb_op κ i then l else lv o) (i + 1) (kb_op κ i) = 0 := if_neg (by omega)
    rw [e1, e2] at s
    omega
  · rw [if_neg q0]
    have s := sm_1 (g := kb_t κ n (fun o => if o = kb_op κ i then l else lv o) (kb_op κ i + 1)) (h := kb_t κ n lv i) (p := kb_op κ i) hpn (fun o ho hne => by
      have hh := kl_5 hS hi ho hk h10
      by_cases q : kb_I' κ n o i
      · rw [kb_tp q, kb_tp (hh.mpr q)]
        show ((if o = kb_op κ i then l else lv o) - 1) * _ + _ = _
        rw [if_neg hne]
      · rw [kb_tn q, kb_tn (fun q' => q (hh.mp q'))])
    have e1 : kb_t κ n (fun o => if o = kb_op κ i then l else lv o) (kb_op κ i + 1) (kb_op κ i) = (l - 1) * kb_B κ n (kb_op κ i + 1) + kb_B κ n (i + 1) := by
      unfold kb_t
      rw [if_pos ⟨h10, by omega, by omega⟩, een]
      show ((if kb_op κ i = kb_op κ i then l else lv (kb_op κ i)) - 1) * _ + _ = _
      rw [if_pos rfl]
    rw [e1, e2] at s
    obtain ⟨c, hc⟩ : ∃ c, l = c + 1 := ⟨l - 1, by omega⟩
    subst hc
    rw [show c + 1 - 1 = c from by omega, Nat.add_mul] at s
    omega
end
end
section
/-! ===== the machine and the reference side by side ===== -/
def ks_R (κ : Nat → Nat) (n : Nat) (fi se th : Nat → Nat) (af : Nat → Int32) (va : Nat → Int) (lv : Nat → Nat) (i : Nat) (me yv yl : Nat → Int32) : Prop :=
  kc_C κ n fi se th af me ∧ ky_V va yv ∧ (∀ v, v < 6 → me (500 + v) = tt_w (va v)) ∧ ∀ o, o < n → kb_I' κ n o i → yl o = nI (lv o) ∧ 1 ≤ lv o ∧ lv o ≤ 5 ∧ me (kb_P κ o + 1) = tt_w (lv o)
def ks_P (k : Nat) (pw yo : Nat → Int32) : Prop := ∀ j, j < k → j < 48 → ∃ z : Int, -9841 ≤ z ∧ z ≤ 9841 ∧ pw j = tt_w z ∧ yo j = Int32.ofInt z
def ks_E (κ : Nat → Nat) (n : Nat) (fi se th : Nat → Nat) (af : Nat → Int32) (RX : (Int32 → SX → Prop) → Nat → Prop) (RY : (Int32 → SY → Prop) → Nat → Prop) (mX : Int32 → Int32 → Nat → (Nat → Int32) → (Nat → Int32) → SX) (mY : Nat → (Nat → Int32) → (Nat → Int32) → (Nat → Int32) → SY) (s t : Nat) : Prop :=
  ∃ (acc pl : Int32) (k : Nat) (me pw yv yo yl : Nat → Int32) (va : Nat → Int), kc_C κ n fi se th af me ∧ ky_V va yv ∧ (∀ v, v < 6 → me (500 + v) = tt_w (va v)) ∧ ks_P k pw yo ∧ k ≤ 5000 ∧ (∀ post : Int32 → SX → Prop, post (nI k) (mX acc pl k me pw) → ∀ F, 40001 ≤ F + s → RX post F) ∧ (∀ post : Int32 → SY → Prop, post (nI k) (mY k yv yo yl) → ∀ F, 5001 ≤ F + t → RY post F)
theorem ks_go {κ : Nat → Nat} {n : Nat} {fi se th : Nat → Nat} {af : Nat → Int32} {RX RX' : (Int32 → SX → Prop) → Nat → Prop} {RY RY' : (Int32 → SY → Prop) → Nat → Prop} {mX : Int32 → Int32 → Nat → (Nat → Int32) → (Nat → Int32) → SX} {mY : Nat → (Nat → Int32) → (Nat → Int32) → (Nat → Int32) → SY} {s t e : Nat} (hs : s + e ≤ 40000) (ht : t < 5000) (hX : ∀ post F, RX' post F → RX post (F + e)) (hY : ∀ post F, RY' post F → RY post (F + 1)) (h : ks_E κ n fi se th af RX' RY' mX mY (s + e) (t + 1)) : ks_E κ n fi se th af RX RY mX mY s t := by
  obtain ⟨acc, pl, k, me, pw, yv, yo, yl, va, h1, h2, h3, h4, h5, h6, h7⟩ := h
  refine ⟨acc, pl, k, me, pw, yv, yo, yl, va, h1, h2, h3, h4, h5, fun post hp F hF => ?_, fun post hp F hF => ?_⟩
  · obtain ⟨F', rfl⟩ : ∃ F', F = F' + e := ⟨F - e, by omega⟩
    exact hX post F' (h6 post hp F' (by omega))
  · obtain ⟨F', rfl⟩ : ∃ F', F = F' + 1 := ⟨F - 1, by omega⟩
    exact hY post F' (h7 post hp F' (by omega))
def ks_F (f_length f_compiled f_isSound f_codeEnd f_poolEnd f_openCount : Int32) (a_kind a_first a_second a_third a_openKind a_openTop a_openCell a_zeroJump a_posJump a_leaveFirst a_leaveSecond : Nat → Int32) (b_kind b_a b_b b_c : Nat → Int32) (κ : Nat → Nat) (n : Nat) (fi se th : Nat → Nat) (af : Nat → Int32) (s t i k : Nat) (acc : Int32) (me pw yv yo yl : Nat → Int32) : Prop :=
  ks_E κ n fi se th af (fun post F => wX_run_37 post F (nI s) f_length f_compiled f_isSound f_codeEnd f_poolEnd f_openCount acc (nI (kb_A κ i)) 1 (nI k) a_kind a_first a_second a_third a_openKind a_openTop a_openCell a_zeroJump a_posJump a_leaveFirst a_leaveSecond me pw) (fun post F => wY_run_20 post F (nI i) (nI t) (nI n) (nI k) b_kind b_a b_b b_c yv yo yl) (fun acc pl k me pw => (f_length, f_compiled, f_isSound, f_codeEnd, f_poolEnd, f_openCount, acc, pl, 0, nI k, a_kind, a_first, a_second, a_third, a_openKind, a_openTop, a_openCell, a_zeroJump, a_posJump, a_leaveFirst, a_leaveSecond, me, pw)) (fun k yv yo yl => (nI n, nI k, b_kind, b_a, b_b, b_c, yv, yo, yl)) s t
section
variable {κ : Nat → Nat} {n : Nat} {fi se th : Nat → Nat} {af : Nat → Int32}
theorem kc_at {j f o c : Nat} {me : Nat → Int32} (h : kc_C κ n fi se th af me) (hj : j < n) (hf : f < kb_sz κ j) (hI : kb_I κ n fi se th j f = (o, c)) : me (kb_A κ j + f) = kb_iw o c := by
  rw [h.1 j f hj hf, hI]
theorem kc_Cu {a : Nat} {w : Int32} {me : Nat → Int32} (hn40 : n ≤ 40) (ha : (500 ≤ a ∧ a < 506) ∨ ∃ o, κ o = 10 ∧ a = kb_P κ o + 1) (h : kc_C κ n fi se th af me) : kc_C κ n fi se th af (upd me a w) := by
  have h500 : 500 ≤ a ∧ a ≠ 506 := by
    rcases ha with q | ⟨o, q1, q2⟩
    · omega
    · have := kb_Pb (κ := κ) o; omega
  refine ⟨fun j f hj hf => ?_, fun j hj hk => ?_, ?_, ?_⟩
  · have b1 := kb_A4 (κ := κ) j
    have b2 := kb_sz4 (κ := κ) j
    rw [pk_un (by omega)]; exact h.1 j f hj hf
  · have : kb_P κ j ≠ a := by
      have b := kb_Pb (κ := κ) j
      rcases ha with q | ⟨o, q1, q2⟩
      · omega
      · rcases Nat.lt_trichotomy j o with q | q | q
        · have := kb_Pm0 q hk; omega
        · subst q; omega
        · have := kb_Pm1 q q1; omega
    rw [pk_un this]; exact h.2.1 j hj hk
  · rw [pk_un (by omega)]; exact h.2.2.1
  · have b1 := kb_A4 (κ := κ) n
    rw [pk_un (by omega)]; exact h.2.2.2
/-- a variable is written -/
theorem ks_Rv {va : Nat → Int} {lv : Nat → Nat} {i j v : Nat} {me yv yl : Nat → Int32} {z : Int} {w : Int32} (hn40 : n ≤ 40) (R : ks_R κ n fi se th af va lv i me yv yl) (hL : ∀ o, o < n → (kb_I' κ n o j ↔ kb_I' κ n o i)) (hv : v < 6) (hz : -9841 ≤ z) (hz' : z ≤ 9841) (hw : w = tt_w z) : ks_R κ n fi se th af (fun x => if x = v then z else va x) lv j (upd me (500 + v) w) (upd yv v (Int32.ofInt z)) yl := by
  obtain ⟨r1, r2, r3, r4⟩ := R
  refine ⟨kc_Cu hn40 (Or.inl (by omega)) r1, fun x hx => ?_, fun x hx => ?_, fun o ho hI => ?_⟩
  · by_cases e : x = v
    · subst e
      rw [pk_us]
      show Int32.ofInt z = Int32.ofInt (if x = x then z else va x) ∧ -9841 ≤ (if x = x then z else va x) ∧ (if x = x then z else va x) ≤ 9841
      rw [if_pos rfl]; exact ⟨rfl, hz, hz'⟩
    · rw [pk_un e]
      show yv x = Int32.ofInt (if x = v then z else va x) ∧ -9841 ≤ (if x = v then z else va x) ∧ (if x = v then z else va x) ≤ 9841
      rw [if_neg e]; exact r2 x hx
  · show upd me (500 + v) w (500 + x) = tt_w (if x = v then z else va x)
    by_cases e : x = v
    · subst e
      rw [pk_us, if_pos rfl]; exact hw
    · rw [pk_un (by omega), if_neg e]; exact r3 x hx
  · obtain ⟨q1, q2, q3, q4⟩ := r4 o ho ((hL o ho).mp hI)
    have b := kb_Pb (κ := κ) o
    exact ⟨q1, q2, q3, by rw [pk_un (by omega)]; exact q4⟩
/-- nothing is written -/
theorem ks_Rj {va : Nat → Int} {lv : Nat → Nat} {i j : Nat} {me yv yl : Nat → Int32} (R : ks_R κ n fi se th af va lv i me yv yl) (hL : ∀ o, o < n → (kb_I' κ n o j ↔ kb_I' κ n o i)) : ks_R κ n fi se th af va lv j me yv yl :=
  ⟨R.1, R.2.1, R.2.2.1, fun o ho hI => R.2.2.2 o ho ((hL o ho).mp hI)⟩
/-- a loop's counter is written -/
theorem ks_Rl {va : Nat → Int} {lv : Nat → Nat} {i j p l : Nat} {me yv yl : Nat → Int32} {w : Int32} (hn40 : n ≤ 40) (R : ks_R κ n fi se th af va lv i me yv yl) (hp : κ p = 10) (hL : ∀ o, o < n → kb_I' κ n o j → kb_I' κ n o i ∨ o = p) (hl : kb_I' κ n p j → 1 ≤ l) (hl' : l ≤ 5) (hw : w = tt_w l) : ks_R κ n fi se th af va (fun o => if o = p then l else lv o) j (upd me (kb_P κ p + 1) w) yv (upd yl p (nI l)) := by
  obtain ⟨r1, r2, r3, r4⟩ := R
  have bp := kb_Pb (κ := κ) p
  refine ⟨kc_Cu hn40 (Or.inr ⟨p, hp, rfl⟩) r1, r2, fun x hx => ?_, fun o ho hI => ?_⟩
  · rw [pk_un (by omega)]; exact r3 x hx
  · show upd yl p (nI l) o = nI (if o = p then l else lv o) ∧ 1 ≤ (if o = p then l else lv o) ∧ (if o = p then l else lv o) ≤ 5 ∧ upd me (kb_P κ p + 1) w (kb_P κ o + 1) = tt_w ((if o = p then l else lv o : Nat) : Int)
    by_cases e : o = p
    · subst e
      rw [pk_us, pk_us, if_pos rfl]
      exact ⟨rfl, hl hI, hl', hw⟩
    · have hne : kb_P κ o + 1 ≠ kb_P κ p + 1 := by
        have h10 := hI.1
        rcases Nat.lt_trichotomy o p with q | q | q
        · have := kb_Pm1 q h10; omega
        · exact absurd q e
        · have := kb_Pm1 q hp; omega
      rw [pk_un e, pk_un hne, if_neg e]
      exact r4 o ho ((hL o ho hI).elim id (fun q => absurd q e))
end
section
variable {f_length f_compiled f_isSound f_codeEnd f_poolEnd f_openCount : Int32} {a_kind a_first a_second a_third a_openKind a_openTop a_openCell a_zeroJump a_posJump a_leaveFirst a_leaveSecond : Nat → Int32} {b_kind b_a b_b b_c : Nat → Int32} {κ : Nat → Nat} {n : Nat} {fi se th : Nat → Nat} {af : Nat → Int32}
/-- Y's turn out of its pass -/
theorem ks_Y {i i' k k' t : Nat} {yv yo yl yv' yo' yl' : Nat → Int32} (ht : t < 5000) (hn40 : n ≤ 40) (hi : i < n) (h : ∀ post : Int32 → SY → Prop, post (nI i') (nI n, nI k', b_kind, b_a, b_b, b_c, yv', yo', yl') → wpY_pass post (nI n, nI k, b_kind, b_a, b_b, b_c, yv, yo, yl) (nI i)) : ∀ (post : Int32 → SY → Prop) F, wY_run_20 post F (nI i') (nI (t + 1)) (nI n) (nI k') b_kind b_a b_b b_c yv' yo' yl' → wY_run_20 post (F + 1) (nI i) (nI t) (nI n) (nI k) b_kind b_a b_b b_c yv yo yl := by
  intro post F hF
  refine pk_le 5000 t (fun q => absurd q (by omega)) (fun _ => pk_le n i (fun q => absurd q (by omega)) (fun _ => h _ ?_))
  exact nm_r (nI_1 t) hF
/-- the end of the program -/
theorem ks_end {s t k : Nat} {va : Nat → Int} {lv : Nat → Nat} {acc : Int32} {me pw yv yo yl : Nat → Int32} (hn40 : n ≤ 40) (hs : s < 39000) (ht : t ≤ 5000) (hk : k ≤ t) (R : ks_R κ n fi se th af va lv n me yv yl) (P : ks_P k pw yo) : ks_F f_length f_compiled f_isSound f_codeEnd f_poolEnd f_openCount a_kind a_first a_second a_third a_openKind a_openTop a_openCell a_zeroJump a_posJump a_leaveFirst a_leaveSecond b_kind b_a b_b b_c κ n fi se th af s t n k acc me pw yv yo yl := by
  have hA := kb_A4 (κ := κ) n
  refine ⟨acc, nI (kb_A κ n + 1), k, me, pw, yv, yo, yl, va, R.1, R.2.1, R.2.2.1, P, by omega, fun post hp F hF => ?_, fun post hp F hF => ?_⟩
  · obtain ⟨F', rfl⟩ : ∃ F', F = F' + 1 + 1 := ⟨F - 2, by omega⟩
    refine xe_0 (p := kb_A κ n) (by omega) (by omega) R.1.2.2.2 ?_
    exact pk_le 40000 (s + 1) (fun q => absurd q (by omega)) (fun _ => br_t rfl hp)
  · obtain ⟨F', rfl⟩ : ∃ F', F = F' + 1 := ⟨F - 1, by omega⟩
    exact pk_le 5000 t (fun _ => hp) (fun _ => pk_le n n (fun _ => hp) (fun q => absurd q (by omega)))
theorem ks_0 {s t i k : Nat} {va : Nat → Int} {lv : Nat → Nat} {acc : Int32} {me pw yv yo yl : Nat → Int32} (hκ : ∀ i, b_kind i = nI (κ i)) (h12 : ∀ i, κ i ≤ 12) (hn40 : n ≤ 40) (hS : kb_S κ n) (hO : ky_O κ n fi se th af b_a b_b b_c) (hs : s < 39000) (ht : t < 5000) (hk : k ≤ t) (hi : i < n) (R : ks_R κ n fi se th af va lv i me yv yl) (P : ks_P k pw yo) (h0 : κ i = 0) (H : ∀ (i' s' k' : Nat) (va' : Nat → Int) (lv' : Nat → Nat) (acc' : Int32) (me' pw' yv' yo' yl' : Nat → Int32), kb_mu κ n lv' i' < kb_mu κ n lv i → s' ≤ s + 6 → k' ≤ k + 1 → i' ≤ n → ks_R κ n fi se th af va' lv' i' me' yv' yl' → ks_P k' pw' yo' → ks_F f_length f_compiled f_isSound f_codeEnd f_poolEnd f_openCount a_kind a_first a_second a_third a_openKind a_openTop a_openCell a_zeroJump a_posJump a_leaveFirst a_leaveSecond b_kind b_a b_b b_c κ n fi se th af s' (t + 1) i' k' acc' me' pw' yv' yo' yl') : ks_F f_length f_compiled f_isSound f_codeEnd f_poolEnd f_openCount a_kind a_first a_second a_third a_openKind a_openTop a_openCell a_zeroJump a_posJump a_leaveFirst a_leaveSecond b_kind b_a b_b b_c κ n fi se th af s t i k acc me pw yv yo yl := by
  obtain ⟨o1, o2, o3⟩ := (hO i hi).1 h0
  have hA := kb_A4 (κ := κ) i
  have hP := kb_Pb (κ := κ) i
  have esz : kb_sz κ i = 2 := by unfold kb_sz; rw [h0]; rfl
  have c0 : me (kb_A κ i) = kb_iw 1 (kb_P κ i) := kc_at (f := 0) R.1 hi (by omega) (by unfold kb_I; rw [if_pos h0, if_pos rfl])
  have c1 : me (kb_A κ i + 1) = kb_iw 2 (500 + se i) := kc_at (f := 1) R.1 hi (by omega) (by unfold kb_I; rw [if_pos h0, if_neg (by decide)])
  have cp := R.1.2.1 i hi (Or.inl h0)
  have hL : ∀ o, o < n → (kb_I' κ n o (i + 1) ↔ kb_I' κ n o i) := fun o ho => kl_1 hS hi ho (by omega) (by omega)
  have bb := tt_bb (b_b i).toInt
  refine ks_go (e := 2) (by omega) ht (fun post F h => ?_) (ks_Y ht hn40 hi (fun post hp => yp_0 hκ h12 (by omega) h0 o1 o2 hp)) (H (i + 1) (s + 2) k _ _ (tt_w (af i).toInt) _ pw _ yo yl (kb_m1 ?_ hL) (by omega) (by omega) (by omega) (ks_Rv hn40 R hL o2 bb.1 bb.2 (tt_wb _).symm) P)
  · refine xe_1 (c := kb_P κ i) (by omega) (by omega) (by omega) c0 ?_
    rw [cp]
    refine xe_2 (c := 500 + se i) (by omega) (by omega) (by omega) c1 ?_
    rw [kb_As, esz, o3] at h
    exact h
  · rw [kb_Bo hS hi (by omega) (by omega)]; omega
end
end
section
/-! ===== the machine and the reference side by side: the other statements ===== -/
section
variable {f_length f_compiled f_isSound f_codeEnd f_poolEnd f_openCount : Int32} {a_kind a_first a_second a_third a_openKind a_openTop a_openCell a_zeroJump a_posJump a_leaveFirst a_leaveSecond : Nat → Int32} {b_kind b_a b_b b_c : Nat → Int32} {κ : Nat → Nat} {n : Nat} {fi se th : Nat → Nat} {af : Nat → Int32}
theorem ky_rb (k : Nat) {x : Int} (y : Int) (hx : -9841 ≤ x) (hx' : x ≤ 9841) : -9841 ≤ ky_r k x y ∧ ky_r k x y ≤ 9841 := by
  unfold ky_r
  split
  · exact tt_bb _
  · split
    · exact tt_bb _
    · split
      · exact tt_bb _
      · split
        · exact tt_bb _
        · split
          · have ht := (tt_dT x).1 0
            omega
          · exact tt_Vb9 (tt_mnT (tt_dT x) (tt_dT y))
theorem ks_ar {s t i k : Nat} {va : Nat → Int} {lv : Nat → Nat} {acc : Int32} {me pw yv yo yl : Nat → Int32} (hκ : ∀ i, b_kind i = nI (κ i)) (h12 : ∀ i, κ i ≤ 12) (hn40 : n ≤ 40) (hS : kb_S κ n) (hO : ky_O κ n fi se th af b_a b_b b_c) (hs : s < 39000) (ht : t < 5000) (hk : k ≤ t) (hi : i < n) (R : ks_R κ n fi se th af va lv i me yv yl) (P : ks_P k pw yo) (h1 : 1 ≤ κ i) (h6 : κ i ≤ 6) (H : ∀ (i' s' k' : Nat) (va' : Nat → Int) (lv' : Nat → Nat) (acc' : Int32) (me' pw' yv' yo' yl' : Nat → Int32), kb_mu κ n lv' i' < kb_mu κ n lv i → s' ≤ s + 6 → k' ≤ k + 1 → i' ≤ n → ks_R κ n fi se th af va' lv' i' me' yv' yl' → ks_P k' pw' yo' → ks_F f_length f_compiled f_isSound f_codeEnd f_poolEnd f_openCount a_kind a_first a_second a_third a_openKind a_openTop a_openCell a_zeroJump a_posJump a_leaveFirst a_leaveSecond b_kind b_a b_b b_c κ n fi se th af s' (t + 1) i' k' acc' me' pw' yv' yo' yl') : ks_F f_length f_compiled f_isSound f_codeEnd f_poolEnd f_openCount a_kind a_first a_second a_third a_openKind a_openTop a_openCell a_zeroJump a_posJump a_leaveFirst a_leaveSecond b_kind b_a b_b b_c κ n fi se th af s t i k acc me pw yv yo yl := by
  obtain ⟨_, p2, p3, p4⟩ := hO i hi
  obtain ⟨a1, a2⟩ := p2 (by omega) (by omega) (by omega) (by omega)
  obtain ⟨b1, b2⟩ := p3 h1 h6
  have hA := kb_A4 (κ := κ) i
  have esz : kb_sz κ i = 3 := by unfold kb_sz; rw [if_neg (by omega), if_pos (by omega)]
  have c0 : me (kb_A κ i) = kb_iw 1 (500 + se i) := kc_at (f := 0) R.1 hi (by omega) (by unfold kb_I; rw [if_neg (by omega), if_pos h6, if_pos rfl])
  have c1 : me (kb_A κ i + 1) = kb_iw (kb_oc (κ i)) (if κ i = 4 ∨ κ i = 5 then 364 else 500 + th i) := kc_at (f := 1) R.1 hi (by omega) (by unfold kb_I; rw [if_neg (by omega), if_pos h6, if_neg (by decide), if_pos rfl])
  have c2 : me (kb_A κ i + 2) = kb_iw 2 (500 + fi i) := kc_at (f := 2) R.1 hi (by omega) (by unfold kb_I; rw [if_neg (by omega), if_pos h6, if_neg (by decide), if_neg (by decide)])
  obtain ⟨x1, x2, x3⟩ := R.2.1 _ b2
  have x4 := R.2.2.1 _ b2
  have hL : ∀ o, o < n → (kb_I' κ n o (i + 1) ↔ kb_I' κ n o i) := fun o ho => kl_1 hS hi ho (by omega) (by omega)
  have bb := ky_rb (κ i) (va (th i)) x2 x3
  refine ks_go (e := 3) (by omega) ht (fun post F h => ?_) (ks_Y ht hn40 hi (fun post hp => yp_ar hκ h12 (by omega) h1 h6 a1 a2 b1 b2 (fun _ _ => p4 (by omega)) R.2.1 hp)) (H (i + 1) (s + 3) k _ _ (tt_w (ky_r (κ i) (va (se i)) (va (th i)))) _ pw _ yo yl (kb_m1 ?_ hL) (by omega) (by omega) (by omega) (ks_Rv hn40 R hL a2 bb.1 bb.2 rfl) P)
  · rw [kb_As, esz] at h
    have st : ∀ w : Int32, w = tt_w (ky_r (κ i) (va (se i)) (va (th i))) → wX_run_37 post (F + 1) (nI (s + 1 + 1)) f_length f_compiled f_isSound f_codeEnd f_poolEnd f_openCount w (nI (kb_A κ i + 1 + 1)) 1 (nI k) a_kind a_first a_second a_third a_openKind a_openTop a_openCell a_zeroJump a_posJump a_leaveFirst a_leaveSecond me pw := by
      intro w hw
      subst hw
      exact xe_2 (c := 500 + fi i) (by omega) (by omega) (by omega) c2 h
    refine xe_1 (c := 500 + se i) (by omega) (by omega) (by omega) c0 ?_
    rw [x4]
    have q : κ i = 1 ∨ κ i = 2 ∨ κ i = 3 ∨ κ i = 4 ∨ κ i = 5 ∨ κ i = 6 := by omega
    rcases q with q | q | q | q | q | q
    · obtain ⟨t1, t2⟩ := p4 (by omega)
      rw [q] at c1 st
      exact xe_3 (o := 3) (c := 500 + th i) (by omega) (by omega) (by omega) (by omega) (by omega) (R.2.2.1 _ t2) c1 (st _ (tt_wb _).symm)
    · obtain ⟨t1, t2⟩ := p4 (by omega)
      rw [q] at c1 st
      exact xe_3 (o := 4) (c := 500 + th i) (by omega) (by omega) (by omega) (by omega) (by omega) (R.2.2.1 _ t2) c1 (st _ (tt_wb _).symm)
    · obtain ⟨t1, t2⟩ := p4 (by omega)
      rw [q] at c1 st
      exact xe_3 (o := 5) (c := 500 + th i) (by omega) (by omega) (by omega) (by omega) (by omega) (R.2.2.1 _ t2) c1 (st _ (tt_wb _).symm)
    · rw [q] at c1 st
      exact xe_7 (by omega) (by omega) c1 (st _ (tt_wb _).symm)
    · rw [q] at c1 st
      exact xe_8 (by omega) (by omega) x2 x3 c1 (st _ rfl)
    · obtain ⟨t1, t2⟩ := p4 (by omega)
      rw [q] at c1 st
      exact xe_3 (o := 6) (c := 500 + th i) (by omega) (by omega) (by omega) (by omega) (by omega) (R.2.2.1 _ t2) c1 (st _ rfl)
  · rw [kb_Bo hS hi (by omega) (by omega)]; omega
theorem ks_12 {s t i k : Nat} {va : Nat → Int} {lv : Nat → Nat} {acc : Int32} {me pw yv yo yl : Nat → Int32} (hκ : ∀ i, b_kind i = nI (κ i)) (h12 : ∀ i, κ i ≤ 12) (hn40 : n ≤ 40) (hS : kb_S κ n) (hO : ky_O κ n fi se th af b_a b_b b_c) (hs : s < 39000) (ht : t < 5000) (hk : k ≤ t) (hi : i < n) (R : ks_R κ n fi se th af va lv i me yv yl) (P : ks_P k pw yo) (h0 : κ i = 12) (H : ∀ (i' s' k' : Nat) (va' : Nat → Int) (lv' : Nat → Nat) (acc' : Int32) (me' pw' yv' yo' yl' : Nat → Int32), kb_mu κ n lv' i' < kb_mu κ n lv i → s' ≤ s + 6 → k' ≤ k + 1 → i' ≤ n → ks_R κ n fi se th af va' lv' i' me' yv' yl' → ks_P k' pw' yo' → ks_F f_length f_compiled f_isSound f_codeEnd f_poolEnd f_openCount a_kind a_first a_second a_third a_openKind a_openTop a_openCell a_zeroJump a_posJump a_leaveFirst a_leaveSecond b_kind b_a b_b b_c κ n fi se th af s' (t + 1) i' k' acc' me' pw' yv' yo' yl') : ks_F f_length f_compiled f_isSound f_codeEnd f_poolEnd f_openCount a_kind a_first a_second a_third a_openKind a_openTop a_openCell a_zeroJump a_posJump a_leaveFirst a_leaveSecond b_kind b_a b_b b_c κ n fi se th af s t i k acc me pw yv yo yl := by
  obtain ⟨_, p2, p3, p4⟩ := hO i hi
  obtain ⟨a1, a2⟩ := p2 (by omega) (by omega) (by omega) (by omega)
  have hA := kb_A4 (κ := κ) i
  have esz : kb_sz κ i = 1 := by unfold kb_sz; rw [h0]; rfl
  have c0 : me (kb_A κ i) = kb_iw 12 (500 + fi i) := kc_at (f := 0) R.1 hi (by omega) (by unfold kb_I; rw [h0]; rfl)
  obtain ⟨x1, x2, x3⟩ := R.2.1 _ a2
  have x4 := R.2.2.1 _ a2
  have hL : ∀ o, o < n → (kb_I' κ n o (i + 1) ↔ kb_I' κ n o i) := fun o ho => kl_1 hS hi ho (by omega) (by omega)
  refine ks_go (e := 1) (by omega) ht (fun post F h => ?_) (ks_Y ht hn40 hi (fun post hp => yp_12 (k := k) hκ h12 (by omega) h0 a1 a2 rfl (by omega) hp)) (H (i + 1) (s + 1) (k + 1) va lv acc me (if k < 48 then upd pw k (me (500 + fi i)) else pw) yv _ yl (kb_m1 ?_ hL) (by omega) (by omega) (by omega) (ks_Rj R hL) ?_)
  · rw [kb_As, esz] at h
    exact xe_12 (c := 500 + fi i) (by omega) (by omega) (by omega) (by omega) c0 h
  · rw [kb_Bo hS hi (by omega) (by omega)]; omega
  · intro j hj hj'
    by_cases e : j = k
    · subst e
      rw [if_pos hj', if_pos hj', pk_us, pk_us]
      exact ⟨_, x2, x3, x4, x1⟩
    · by_cases q : k < 48
      · rw [if_pos q, if_pos q, pk_un e, pk_un e]
        exact P j (by omega) hj'
      · rw [if_neg q, if_neg q]
        exact P j (by omega) hj'
theorem ks_7 {s t i k : Nat} {va : Nat → Int} {lv : Nat → Nat} {acc : Int32} {me pw yv yo yl : Nat → Int32} (hκ : ∀ i, b_kind i = nI (κ i)) (h12 : ∀ i, κ i ≤ 12) (hn40 : n ≤ 40) (hS : kb_S κ n) (hO : ky_O κ n fi se th af b_a b_b b_c) (hs : s < 39000) (ht : t < 5000) (hk : k ≤ t) (hi : i < n) (R : ks_R κ n fi se th af va lv i me yv yl) (P : ks_P k pw yo) (h0 : κ i = 7) (H : ∀ (i' s' k' : Nat) (va' : Nat → Int) (lv' : Nat → Nat) (acc' : Int32) (me' pw' yv' yo' yl' : Nat → Int32), kb_mu κ n lv' i' < kb_mu κ n lv i → s' ≤ s + 6 → k' ≤ k + 1 → i' ≤ n → ks_R κ n fi se th af va' lv' i' me' yv' yl' → ks_P k' pw' yo' → ks_F f_length f_compiled f_isSound f_codeEnd f_poolEnd f_openCount a_kind a_first a_second a_third a_openKind a_openTop a_openCell a_zeroJump a_posJump a_leaveFirst a_leaveSecond b_kind b_a b_b b_c κ n fi se th af s' (t + 1) i' k' acc' me' pw' yv' yo' yl') : ks_F f_length f_compiled f_isSound f_codeEnd f_poolEnd f_openCount a_kind a_first a_second a_third a_openKind a_openTop a_openCell a_zeroJump a_posJump a_leaveFirst a_leaveSecond b_kind b_a b_b b_c κ n fi se th af s t i k acc me pw yv yo yl := by
  obtain ⟨_, p2, p3, p4⟩ := hO i hi
  obtain ⟨a1, a2⟩ := p2 (by omega) (by omega) (by omega) (by omega)
  obtain ⟨e1, e2, e3, e5, e6, e4⟩ := kb_en1 hS.2 hi (Or.inl h0)
  have hA := kb_A4 (κ := κ) i
  have esz : kb_sz κ i = 3 := kc_sz7 h0
  have c0 : me (kb_A κ i) = kb_iw 1 (500 + fi i) := kc_at (f := 0) R.1 hi (by omega) (by unfold kb_I; rw [h0]; rfl)
  have c1 : me (kb_A κ i + 1) = kb_iw 10 (kb_A κ (kb_ch κ n i 8)) := kc_at (f := 1) R.1 hi (by omega) (by unfold kb_I; rw [h0]; rfl)
  have c2 : me (kb_A κ i + 1 + 1) = kb_iw 11 (kb_A κ (kb_ch κ n i 9)) := kc_at (f := 2) R.1 hi (by omega) (by unfold kb_I; rw [h0]; rfl)
  obtain ⟨x1, x2, x3⟩ := R.2.1 _ a2
  have x4 := R.2.2.1 _ a2
  have J : ∀ m, m = 8 ∨ m = 9 → kb_ch κ n i m ≤ n ∧ i < kb_ch κ n i m ∧ ∀ o, o < n → (kb_I' κ n o (kb_ch κ n i m) ↔ kb_I' κ n o i) := by
    intro m hm
    rcases kb_ch2 (κ := κ) (n := n) (o := i) (m := m) e1 with q | ⟨k, q1, q2, q3, q4⟩
    · rw [q]; exact ⟨by omega, by omega, fun o ho => kl_2 hS hi ho (Or.inl h0) (Or.inl rfl)⟩
    · rw [q4]; exact ⟨by omega, by omega, fun o ho => kl_3 hS hi ho h0 hm q3 (by omega)⟩
  have J8 := J 8 (Or.inl rfl)
  have J9 := J 9 (Or.inr rfl)
  have A8 := kb_A4 (κ := κ) (kb_ch κ n i 8)
  have A9 := kb_A4 (κ := κ) (kb_ch κ n i 9)
  have hL : ∀ o, o < n → (kb_I' κ n o (i + 1) ↔ kb_I' κ n o i) := fun o ho => kl_1 hS hi ho (by omega) (by omega)
  have Y : ∀ i', (if va (fi i) < 0 then i + 1 else if va (fi i) = 0 then kb_ch κ n i 8 else kb_ch κ n i 9) = i' → ∀ post : Int32 → SY → Prop, post (nI i') (nI n, nI k, b_kind, b_a, b_b, b_c, yv, yo, yl) → wpY_pass post (nI n, nI k, b_kind, b_a, b_b, b_c, yv, yo, yl) (nI i) := by
    intro i' e post hp
    subst e
    exact yp_7 hκ h12 hn40 hS rfl hi h0 a1 a2 R.2.1 hp
  rcases (by omega : va (fi i) < 0 ∨ va (fi i) = 0 ∨ 0 < va (fi i)) with q | q | q
  · refine ks_go (e := 3) (by omega) ht (fun post F h => ?_) (ks_Y ht hn40 hi (Y (i + 1) (by rw [if_pos q]))) (H (i + 1) (s + 3) k va lv (tt_w (va (fi i))) me pw yv yo yl (kb_m1 ?_ hL) (by omega) (by omega) (by omega) (ks_Rj R hL) P)
    · rw [kb_As, esz] at h
      refine xe_1 (c := 500 + fi i) (by omega) (by omega) (by omega) c0 ?_
      rw [x4]
      refine xe_10 (c := kb_A κ (kb_ch κ n i 8)) (by omega) (by omega) (by omega) x2 x3 c1 ?_
      rw [if_neg (by omega)]
      refine xe_11 (c := kb_A κ (kb_ch κ n i 9)) (by omega) (by omega) (by omega) x2 x3 c2 ?_
      rw [if_neg (by omega)]
      exact h
    · rw [kb_Bo hS hi (by omega) (by omega)]; omega
  · refine ks_go (e := 2) (by omega) ht (fun post F h => ?_) (ks_Y ht hn40 hi (Y (kb_ch κ n i 8) (by rw [if_neg (by omega), if_pos q]))) (H (kb_ch κ n i 8) (s + 2) k va lv (tt_w (va (fi i))) me pw yv yo yl (kb_m1 (kb_Bm hS _ i _ (Nat.le_refl _) J8.2.1 J8.1 J8.2.2) J8.2.2) (by omega) (by omega) J8.1 (ks_Rj R J8.2.2) P)
    refine xe_1 (c := 500 + fi i) (by omega) (by omega) (by omega) c0 ?_
    rw [x4]
    refine xe_10 (c := kb_A κ (kb_ch κ n i 8)) (by omega) (by omega) (by omega) x2 x3 c1 ?_
    rw [if_pos q]
    exact h
  · refine ks_go (e := 3) (by omega) ht (fun post F h => ?_) (ks_Y ht hn40 hi (Y (kb_ch κ n i 9) (by rw [if_neg (by omega), if_neg (by omega)]))) (H (kb_ch κ n i 9) (s + 3) k va lv (tt_w (va (fi i))) me pw yv yo yl (kb_m1 (kb_Bm hS _ i _ (Nat.le_refl _) J9.2.1 J9.1 J9.2.2) J9.2.2) (by omega) (by omega) J9.1 (ks_Rj R J9.2.2) P)
    refine xe_1 (c := 500 + fi i) (by omega) (by omega) (by omega) c0 ?_
    rw [x4]
    refine xe_10 (c := kb_A κ (kb_ch κ n i 8)) (by omega) (by omega) (by omega) x2 x3 c1 ?_
    rw [if_neg (by omega)]
    refine xe_11 (c := kb_A κ (kb_ch κ n i 9)) (by omega) (by omega) (by omega) x2 x3 c2 ?_
    rw [if_pos q]
    exact h
theorem ks_8 {s t i k : Nat} {va : Nat → Int} {lv : Nat → Nat} {acc : Int32} {me pw yv yo yl : Nat → Int32} (hκ : ∀ i, b_kind i = nI (κ i)) (h12 : ∀ i, κ i ≤ 12) (hn40 : n ≤ 40) (hS : kb_S κ n) (hO : ky_O κ n fi se th af b_a b_b b_c) (hs : s < 39000) (ht : t < 5000) (hk : k ≤ t) (hi : i < n) (R : ks_R κ n fi se th af va lv i me yv yl) (P : ks_P k pw yo) (h0 : κ i = 8 ∨ κ i = 9) (H : ∀ (i' s' k' : Nat) (va' : Nat → Int) (lv' : Nat → Nat) (acc' : Int32) (me' pw' yv' yo' yl' : Nat → Int32), kb_mu κ n lv' i' < kb_mu κ n lv i → s' ≤ s + 6 → k' ≤ k + 1 → i' ≤ n → ks_R κ n fi se th af va' lv' i' me' yv' yl' → ks_P k' pw' yo' → ks_F f_length f_compiled f_isSound f_codeEnd f_poolEnd f_openCount a_kind a_first a_second a_third a_openKind a_openTop a_openCell a_zeroJump a_posJump a_leaveFirst a_leaveSecond b_kind b_a b_b b_c κ n fi se th af s' (t + 1) i' k' acc' me' pw' yv' yo' yl') : ks_F f_length f_compiled f_isSound f_codeEnd f_poolEnd f_openCount a_kind a_first a_second a_third a_openKind a_openTop a_openCell a_zeroJump a_posJump a_leaveFirst a_leaveSecond b_kind b_a b_b b_c κ n fi se th af s t i k acc me pw yv yo yl := by
  have hM := (hS.1 i hi).2.2 h0
  obtain ⟨b1, b2, b3, b4⟩ := kb_op1 (κ := κ) (i := i) hM.1
  have hmi := kb_mi (κ := κ) (o := kb_op κ i) (m := κ i) (k := i) hS.2 hi h0 ⟨b1, rfl, rfl, hM.1⟩
  obtain ⟨m1, m2, m3, m4, m5⟩ := hmi
  obtain ⟨e1, e2, e3, e5, e6, e4⟩ := kb_en1 hS.2 m4 m5
  have hA := kb_A4 (κ := κ) i
  have hA2 := kb_A4 (κ := κ) (kb_en κ n (kb_op κ i) + 1)
  have esz : kb_sz κ i = 1 := by unfold kb_sz; rw [if_neg (by omega), if_neg (by omega), if_pos (by omega)]
  have c0 : me (kb_A κ i) = kb_iw 9 (kb_A κ (kb_en κ n (kb_op κ i) + 1)) := kc_at (f := 0) R.1 hi (by omega) (by unfold kb_I; rw [if_neg (by omega), if_neg (by omega), if_neg (by omega), if_pos (by omega)])
  have hL : ∀ o, o < n → (kb_I' κ n o (kb_en κ n (kb_op κ i) + 1) ↔ kb_I' κ n o i) := fun o ho => kl_2 hS m4 ho m5 (Or.inr ⟨b1, by omega, m3, hM.2.1⟩)
  refine ks_go (e := 1) (by omega) ht (fun post F h => ?_) (ks_Y ht hn40 hi (fun post hp => yp_8 hκ h12 hn40 hS rfl hi h0 hp)) (H _ (s + 1) k va lv acc me pw yv yo yl (kb_m1 (kb_Bm hS _ i _ (Nat.le_refl _) (by omega) (by omega) hL) hL) (by omega) (by omega) (by omega) (ks_Rj R hL) P)
  exact xe_9 (c := kb_A κ (kb_en κ n (kb_op κ i) + 1)) (by omega) (by omega) (by omega) c0 h
theorem ks_10 {s t i k : Nat} {va : Nat → Int} {lv : Nat → Nat} {acc : Int32} {me pw yv yo yl : Nat → Int32} (hκ : ∀ i, b_kind i = nI (κ i)) (h12 : ∀ i, κ i ≤ 12) (hn40 : n ≤ 40) (hS : kb_S κ n) (hO : ky_O κ n fi se th af b_a b_b b_c) (hs : s < 39000) (ht : t < 5000) (hk : k ≤ t) (hi : i < n) (R : ks_R κ n fi se th af va lv i me yv yl) (P : ks_P k pw yo) (haf : ∀ i, i < n → κ i = 10 → af i = nI (fi i)) (h0 : κ i = 10) (H : ∀ (i' s' k' : Nat) (va' : Nat → Int) (lv' : Nat → Nat) (acc' : Int32) (me' pw' yv' yo' yl' : Nat → Int32), kb_mu κ n lv' i' < kb_mu κ n lv i → s' ≤ s + 6 → k' ≤ k + 1 → i' ≤ n → ks_R κ n fi se th af va' lv' i' me' yv' yl' → ks_P k' pw' yo' → ks_F f_length f_compiled f_isSound f_codeEnd f_poolEnd f_openCount a_kind a_first a_second a_third a_openKind a_openTop a_openCell a_zeroJump a_posJump a_leaveFirst a_leaveSecond b_kind b_a b_b b_c κ n fi se th af s' (t + 1) i' k' acc' me' pw' yv' yo' yl') : ks_F f_length f_compiled f_isSound f_codeEnd f_poolEnd f_openCount a_kind a_first a_second a_third a_openKind a_openTop a_openCell a_zeroJump a_posJump a_leaveFirst a_leaveSecond b_kind b_a b_b b_c κ n fi se th af s t i k acc me pw yv yo yl := by
  obtain ⟨_, p2, p3, p4⟩ := hO i hi
  obtain ⟨a1, a2⟩ := p2 (by omega) (by omega) (by omega) (by omega)
  obtain ⟨e1, e2, e3, e5, e6, e4⟩ := kb_en1 hS.2 hi (Or.inr h0)
  have hA := kb_A4 (κ := κ) i
  have hA2 := kb_A4 (κ := κ) (kb_en κ n i + 1)
  have hP := kb_Pb (κ := κ) i
  have esz : kb_sz κ i = 4 := by unfold kb_sz; rw [h0]; rfl
  have c0 : me (kb_A κ i) = kb_iw 1 (kb_P κ i) := kc_at (f := 0) R.1 hi (by omega) (by unfold kb_I; rw [h0]; rfl)
  have c1 : me (kb_A κ i + 1) = kb_iw 2 (kb_P κ i + 1) := kc_at (f := 1) R.1 hi (by omega) (by unfold kb_I; rw [h0]; rfl)
  have c2 : me (kb_A κ i + 1 + 1) = kb_iw 1 (kb_P κ i + 1) := kc_at (f := 2) R.1 hi (by omega) (by unfold kb_I; rw [h0]; rfl)
  have c3 : me (kb_A κ i + 1 + 1 + 1) = kb_iw 10 (kb_A κ (kb_en κ n i + 1)) := kc_at (f := 3) R.1 hi (by omega) (by unfold kb_I; rw [h0]; rfl)
  have cp : me (kb_P κ i) = tt_w (fi i : Nat) := by rw [R.1.2.1 i hi (Or.inr h0), haf i hi h0, nI_toInt (by omega)]
  -- four steps
  have X : ∀ (post : Int32 → SX → Prop) (F : Nat), wX_run_37 post F (nI (s + 4)) f_length f_compiled f_isSound f_codeEnd f_poolEnd f_openCount (tt_w (fi i : Nat)) (nI (if fi i = 0 then kb_A κ (kb_en κ n i + 1) else kb_A κ i + 4)) 1 (nI k) a_kind a_first a_second a_third a_openKind a_openTop a_openCell a_zeroJump a_posJump a_leaveFirst a_leaveSecond (upd me (kb_P κ i + 1) (tt_w (fi i : Nat))) pw → wX_run_37 post (F + 4) (nI s) f_length f_compiled f_isSound f_codeEnd f_poolEnd f_openCount acc (nI (kb_A κ i)) 1 (nI k) a_kind a_first a_second a_third a_openKind a_openTop a_openCell a_zeroJump a_posJump a_leaveFirst a_leaveSecond me pw := by
    intro post F h
    refine xe_1 (c := kb_P κ i) (by omega) (by omega) (by omega) c0 ?_
    rw [cp]
    refine xe_2 (c := kb_P κ i + 1) (by omega) (by omega) (by omega) c1 ?_
    refine xe_1 (c := kb_P κ i + 1) (by omega) (by omega) (by omega) (by rw [pk_un (by omega)]; exact c2) ?_
    rw [pk_us]
    refine xe_10 (c := kb_A κ (kb_en κ n i + 1)) (by omega) (by omega) (by omega) (by omega) (by omega) (by rw [pk_un (by omega)]; exact c3) ?_
    by_cases q : fi i = 0
    · rw [if_pos q] at h
      rw [if_pos (by omega)]
      exact h
    · rw [if_neg q] at h
      rw [if_neg (by omega)]
      exact h
  by_cases q : fi i = 0
  · have hL : ∀ o, o < n → (kb_I' κ n o (kb_en κ n i + 1) ↔ kb_I' κ n o i) := fun o ho => kl_2 hS hi ho (Or.inr h0) (Or.inl rfl)
    refine ks_go (e := 4) (by omega) ht (fun post F h => X post F (by rw [if_pos q]; exact h)) (ks_Y ht hn40 hi (fun post hp => yp_10 hκ h12 hn40 hS rfl hi h0 a1 a2 (by rw [if_pos q]; exact hp))) (H (kb_en κ n i + 1) (s + 4) k va (fun o => if o = i then fi i else lv o) (tt_w (fi i : Nat)) _ pw yv yo _ ?_ (by omega) (by omega) (by omega) (ks_Rl hn40 R h0 (fun o ho hI => Or.inl ((hL o ho).mp hI)) (fun hI => by have := hI.2.2; omega) (by omega) rfl) P)
    unfold kb_mu
    have e : sm_s (kb_t κ n (fun o => if o = i then fi i else lv o) (kb_en κ n i + 1)) n = sm_s (kb_t κ n lv i) n := by
      refine sm_c (fun o ho => ?_)
      by_cases hI : kb_I' κ n o i
      · rw [kb_tp hI, kb_tp ((hL o ho).mpr hI)]
        show ((if o = i then fi i else lv o) - 1) * _ + _ = _
        rw [if_neg (by have := hI.2.1; omega)]
      · rw [kb_tn hI, kb_tn (fun h => hI ((hL o ho).mp h))]
    rw [e, kb_B10 hS hi h0]; omega
  · have hL : ∀ o, o < n → (kb_I' κ n o (i + 1) ↔ (kb_I' κ n o i ∨ o = i)) := fun o ho => kl_4 hS hi ho h0
    refine ks_go (e := 4) (by omega) ht (fun post F h => X post F (by rw [if_neg q]; rw [kb_As, esz] at h; exact h)) (ks_Y ht hn40 hi (fun post hp => yp_10 hκ h12 hn40 hS rfl hi h0 a1 a2 (by rw [if_neg q]; exact hp))) (H (i + 1) (s + 4) k va (fun o => if o = i then fi i else lv o) (tt_w (fi i : Nat)) _ pw yv yo _ (kb_m2 hS hi h0 (by omega) (by omega)) (by omega) (by omega) (by omega) (ks_Rl hn40 R h0 (fun o ho hI => (hL o ho).mp hI) (fun hI => by omega) (by omega) rfl) P)
theorem ks_11 {s t i k : Nat} {va : Nat → Int} {lv : Nat → Nat} {acc : Int32} {me pw yv yo yl : Nat → Int32} (hκ : ∀ i, b_kind i = nI (κ i)) (h12 : ∀ i, κ i ≤ 12) (hn40 : n ≤ 40) (hS : kb_S κ n) (hO : ky_O κ n fi se th af b_a b_b b_c) (hs : s < 39000) (ht : t < 5000) (hk : k ≤ t) (hi : i < n) (R : ks_R κ n fi se th af va lv i me yv yl) (P : ks_P k pw yo) (h0 : κ i = 11) (H : ∀ (i' s' k' : Nat) (va' : Nat → Int) (lv' : Nat → Nat) (acc' : Int32) (me' pw' yv' yo' yl' : Nat → Int32), kb_mu κ n lv' i' < kb_mu κ n lv i → s' ≤ s + 6 → k' ≤ k + 1 → i' ≤ n → ks_R κ n fi se th af va' lv' i' me' yv' yl' → ks_P k' pw' yo' → ks_F f_length f_compiled f_isSound f_codeEnd f_poolEnd f_openCount a_kind a_first a_second a_third a_openKind a_openTop a_openCell a_zeroJump a_posJump a_leaveFirst a_leaveSecond b_kind b_a b_b b_c κ n fi se th af s' (t + 1) i' k' acc' me' pw' yv' yo' yl') : ks_F f_length f_compiled f_isSound f_codeEnd f_poolEnd f_openCount a_kind a_first a_second a_third a_openKind a_openTop a_openCell a_zeroJump a_posJump a_leaveFirst a_leaveSecond b_kind b_a b_b b_c κ n fi se th af s t i k acc me pw yv yo yl := by
  obtain ⟨hD, hlt, een⟩ := kl_e hS hi h0
  have ho7 := (kb_op1 (κ := κ) (i := i) hD).2.2.2
  have hA := kb_A4 (κ := κ) i
  have hA1 := kb_A4 (κ := κ) (i + 1)
  have hA2 := kb_A4 (κ := κ) (kb_op κ i)
  have hP := kb_Pb (κ := κ) (kb_op κ i)
  rcases ho7 with q7 | q10
  · have esz : kb_sz κ i = 0 := by unfold kb_sz; rw [h0, q7]; rfl
    have hL : ∀ o, o < n → (kb_I' κ n o (i + 1) ↔ kb_I' κ n o i) := fun o ho => kl_1 hS hi ho (by omega) (by omega)
    refine ks_go (e := 0) (by omega) ht (fun post F h => ?_) (ks_Y ht hn40 hi (fun post hp => yp_11 hκ h12 hn40 hS rfl hi h0 (fun _ => hp) (fun q => by omega))) (H (i + 1) (s + 0) k va lv acc me pw yv yo yl (kb_m1 ?_ hL) (by omega) (by omega) (by omega) (ks_Rj R hL) P)
    · rw [kb_As, esz] at h; exact h
    · rw [kb_Bo hS hi (by omega) (by omega)]; omega
  · have hpn : kb_op κ i < n := by omega
    obtain ⟨r1, r2, r3, r4⟩ := R.2.2.2 (kb_op κ i) hpn ⟨q10, hlt, by omega⟩
    obtain ⟨l, hl⟩ : ∃ l, lv (kb_op κ i) = l + 1 := ⟨lv (kb_op κ i) - 1, by omega⟩
    rw [hl] at r1 r4
    have esz : kb_sz κ i = 4 := by unfold kb_sz; rw [h0, q10]; rfl
    have esp : kb_sz κ (kb_op κ i) = 4 := by unfold kb_sz; rw [q10]; rfl
    have c0 : me (kb_A κ i) = kb_iw 1 (kb_P κ (kb_op κ i) + 1) := kc_at (f := 0) R.1 hi (by omega) (by unfold kb_I; rw [h0]; rfl)
    have c1 : me (kb_A κ i + 1) = kb_iw 4 506 := kc_at (f := 1) R.1 hi (by omega) (by unfold kb_I; rw [h0]; rfl)
    have c2 : me (kb_A κ i + 1 + 1) = kb_iw 2 (kb_P κ (kb_op κ i) + 1) := kc_at (f := 2) R.1 hi (by omega) (by unfold kb_I; rw [h0]; rfl)
    have c3 : me (kb_A κ i + 1 + 1 + 1) = kb_iw 9 (kb_A κ (kb_op κ i) + 2) := kc_at (f := 3) R.1 hi (by omega) (by unfold kb_I; rw [h0]; rfl)
    have c4 : me (kb_A κ (kb_op κ i) + 2) = kb_iw 1 (kb_P κ (kb_op κ i) + 1) := kc_at (f := 2) R.1 hpn (by omega) (by unfold kb_I; rw [q10]; rfl)
    have c5 : me (kb_A κ (kb_op κ i) + 2 + 1) = kb_iw 10 (kb_A κ (i + 1)) := kc_at (f := 3) R.1 hpn (by omega) (by unfold kb_I; rw [q10, een]; rfl)
    have one := R.1.2.2.1
    have ev : xe_v 4 ((l + 1 : Nat) : Int) 1 = (l : Int) := by
      show ((l + 1 : Nat) : Int) - 1 = (l : Int)
      omega
    have X : ∀ (post : Int32 → SX → Prop) (F : Nat), wX_run_37 post F (nI (s + 6)) f_length f_compiled f_isSound f_codeEnd f_poolEnd f_openCount (tt_w (l : Int)) (nI (if l = 0 then kb_A κ (i + 1) else kb_A κ (kb_op κ i) + 4)) 1 (nI k) a_kind a_first a_second a_third a_openKind a_openTop a_openCell a_zeroJump a_posJump a_leaveFirst a_leaveSecond (upd me (kb_P κ (kb_op κ i) + 1) (tt_w (l : Int))) pw → wX_run_37 post (F + 6) (nI s) f_length f_compiled f_isSound f_codeEnd f_poolEnd f_openCount acc (nI (kb_A κ i)) 1 (nI k) a_kind a_first a_second a_third a_openKind a_openTop a_openCell a_zeroJump a_posJump a_leaveFirst a_leaveSecond me pw := by
      intro post F h
      refine xe_1 (c := kb_P κ (kb_op κ i) + 1) (by omega) (by omega) (by omega) c0 ?_
      rw [r4]
      refine xe_3 (o := 4) (c := 506) (by omega) (by omega) (by omega) (by omega) (by omega) one c1 ?_
      rw [ev]
      refine xe_2 (c := kb_P κ (kb_op κ i) + 1) (by omega) (by omega) (by omega) c2 ?_
      refine xe_9 (c := kb_A κ (kb_op κ i) + 2) (by omega) (by omega) (by omega) (by rw [pk_un (by omega)]; exact c3) ?_
      refine xe_1 (c := kb_P κ (kb_op κ i) + 1) (by omega) (by omega) (by omega) (by rw [pk_un (by omega)]; exact c4) ?_
      rw [pk_us]
      refine xe_10 (c := kb_A κ (i + 1)) (by omega) (by omega) (by omega) (by omega) (by omega) (by rw [pk_un (by omega)]; exact c5) ?_
      by_cases q : l = 0
      · rw [if_pos q] at h
        rw [if_pos (by omega)]
        exact h
      · rw [if_neg q] at h
        rw [if_neg (by omega)]
        exact h
    have mu := kb_m3 hS hi h0 q10 hl
    by_cases q : l = 0
    · rw [if_pos q] at mu
      refine ks_go (e := 6) (by omega) ht (fun post F h => X post F (by rw [if_pos q]; exact h)) (ks_Y ht hn40 hi (fun post hp => yp_11 hκ h12 hn40 hS rfl hi h0 (fun q7 => by omega) (fun _ => ⟨l, by omega, r1, by rw [if_pos q]; exact hp⟩))) (H (i + 1) (s + 6) k va (fun o => if o = kb_op κ i then l else lv o) (tt_w (l : Int)) _ pw yv yo _ mu (by omega) (by omega) (by omega) (ks_Rl hn40 R q10 (fun o ho hI => Or.inl ((kl_6 hS hi ho h0 q10).mp hI).1) (fun hI => absurd rfl ((kl_6 hS hi hpn h0 q10).mp hI).2) (by omega) rfl) P)
    · rw [if_neg q] at mu
      refine ks_go (e := 6) (by omega) ht (fun post F h => X post F (by rw [if_neg q]; rw [kb_As, esp] at h; exact h)) (ks_Y ht hn40 hi (fun post hp => yp_11 hκ h12 hn40 hS rfl hi h0 (fun q7 => by omega) (fun _ => ⟨l, by omega, r1, by rw [if_neg q]; exact hp⟩))) (H (kb_op κ i + 1) (s + 6) k va (fun o => if o = kb_op κ i then l else lv o) (tt_w (l : Int)) _ pw yv yo _ mu (by omega) (by omega) (by omega) (ks_Rl hn40 R q10 (fun o ho hI => Or.inl ((kl_5 hS hi ho h0 q10).mp hI)) (fun hI => by omega) (by omega) rfl) P)
theorem ks_run (hκ : ∀ i, b_kind i = nI (κ i)) (h12 : ∀ i, κ i ≤ 12) (hn40 : n ≤ 40) (hS : kb_S κ n) (hO : ky_O κ n fi se th af b_a b_b b_c) (haf : ∀ i, i < n → κ i = 10 → af i = nI (fi i)) : ∀ (M i s t k : Nat) (va : Nat → Int) (lv : Nat → Nat) (acc : Int32) (me pw yv yo yl : Nat → Int32), kb_mu κ n lv i ≤ M → M + t ≤ 5000 → s ≤ 6 * t → k ≤ t → i ≤ n → ks_R κ n fi se th af va lv i me yv yl → ks_P k pw yo → ks_F f_length f_compiled f_isSound f_codeEnd f_poolEnd f_openCount a_kind a_first a_second a_third a_openKind a_openTop a_openCell a_zeroJump a_posJump a_leaveFirst a_leaveSecond b_kind b_a b_b b_c κ n fi se th af s t i k acc me pw yv yo yl := by
  intro M
  induction M with
  | zero =>
    intro i s t k va lv acc me pw yv yo yl h1 h2 h3 h4 h5 R P
    rcases Nat.lt_or_ge i n with q | q
    · have := kb_B1 hS q
      unfold kb_mu at h1
      omega
    · have e : i = n := by omega
      subst e
      exact ks_end hn40 (by omega) (by omega) h4 R P
  | succ M ih =>
    intro i s t k va lv acc me pw yv yo yl h1 h2 h3 h4 h5 R P
    rcases Nat.lt_or_ge i n with hi | q
    · have H : ∀ (i' s' k' : Nat) (va' : Nat → Int) (lv' : Nat → Nat) (acc' : Int32) (me' pw' yv' yo' yl' : Nat → Int32), kb_mu κ n lv' i' < kb_mu κ n lv i → s' ≤ s + 6 → k' ≤ k + 1 → i' ≤ n → ks_R κ n fi se th af va' lv' i' me' yv' yl' → ks_P k' pw' yo' → ks_F f_length f_compiled f_isSound f_codeEnd f_poolEnd f_openCount a_kind a_first a_second a_third a_openKind a_openTop a_openCell a_zeroJump a_posJump a_leaveFirst a_leaveSecond b_kind b_a b_b b_c κ n fi se th af s' (t + 1) i' k' acc' me' pw' yv' yo' yl' :=
        fun i' s' k' va' lv' acc' me' pw' yv' yo' yl' g1 g2 g3 g4 g5 g6 => ih i' s' (t + 1) k' va' lv' acc' me' pw' yv' yo' yl' (by omega) (by omega) (by omega) (by omega) g4 g5 g6
      have h12i := h12 i
      have hs : s < 39000 := by omega
      have ht : t < 5000 := by omega
      by_cases q0 : κ i = 0
      · exact ks_0 hκ h12 hn40 hS hO hs ht h4 hi R P q0 H
      by_cases q6 : κ i ≤ 6
      · exact ks_ar hκ h12 hn40 hS hO hs ht h4 hi R P (by omega) q6 H
      by_cases q7 : κ i = 7
      · exact ks_7 hκ h12 hn40 hS hO hs ht h4 hi R P q7 H
      by_cases q8 : κ i = 8 ∨ κ i = 9
      · exact ks_8 hκ h12 hn40 hS hO hs ht h4 hi R P q8 H
      by_cases q10 : κ i = 10
      · exact ks_10 hκ h12 hn40 hS hO hs ht h4 hi R P haf q10 H
      by_cases q11 : κ i = 11
      · exact ks_11 hκ h12 hn40 hS hO hs ht h4 hi R P q11 H
      · exact ks_12 hκ h12 hn40 hS hO hs ht h4 hi R P (by omega) H
    · have e : i = n := by omega
      subst e
      exact ks_end hn40 (by omega) (by omega) h4 R P
end
end
section
/-! ===== the relation ===== -/
def rl_R (f_length f_compiled f_isSound f_printedCount : Int32) (a_kind a_first a_second a_third a_memory a_printedWords : Nat → Int32) (g_n g_printed : Int32) (b_kind b_a b_b b_c b_var b_out : Nat → Int32) : Prop :=
  ∃ (κ : Nat → Nat) (n k : Nat) (fi se th : Nat → Nat) (va : Nat → Int), ((∀ i, a_kind i = nI (κ i)) ∧ (∀ i, b_kind i = nI (κ i)) ∧ (∀ i, κ i ≤ 12) ∧ n ≤ 40 ∧ f_length = nI n ∧ g_n = nI n) ∧ (k ≤ 5000 ∧ f_printedCount = nI k ∧ g_printed = nI k ∧ ks_P k a_printedWords b_out) ∧ (kc_O κ n fi se th a_first a_second a_third ∧ ky_O κ n fi se th a_first b_a b_b b_c) ∧ (ky_V va b_var ∧ ∀ v, v < 6 → a_memory (500 + v) = tt_w (va v)) ∧
  (f_compiled = 0 ∨ (f_compiled = 1 ∧ ((f_isSound = 1 ∧ kb_S κ n ∧ kc_C κ n fi se th a_first a_memory) ∨ (f_isSound = 0 ∧ ¬ kb_S κ n))))
/-- the relation at the head of a turn -/
def i_Rel (_ : Nat) (u : SX) (v : SY) : Prop :=
  match u with
  | (f_length, f_compiled, f_isSound, f_codeEnd, f_poolEnd, f_openCount, f_accumulator, f_place, f_running, f_printedCount, a_kind, a_first, a_second, a_third, a_openKind, a_openTop, a_openCell, a_zeroJump, a_posJump, a_leaveFirst, a_leaveSecond, a_memory, a_printedWords) => match v with
    | (g_n, g_printed, b_kind, b_a, b_b, b_c, b_var, b_out, b_left) => rl_R f_length f_compiled f_isSound f_printedCount a_kind a_first a_second a_third a_memory a_printedWords g_n g_printed b_kind b_a b_b b_c b_var b_out
/-- a variable's number -/
def rl_v (x : Int32) : Prop := ∃ v : Nat, v < 6 ∧ x = nI v
theorem rl_vi {x : Int32} {A : Prop} (h0 : x < 0 → ¬ rl_v x → A) (h5 : 5 < x → ¬ rl_v x → A) (h1 : rl_v x → A) : A := by
  by_cases q : x < 0
  · refine h0 q (fun ⟨v, hv, e⟩ => ?_)
    rw [e] at q
    exact nI_pos (by omega) q
  · obtain ⟨j, hj, rfl⟩ := nI_of q
    by_cases q5 : j ≤ 5
    · exact h1 ⟨j, by omega, rfl⟩
    · refine h5 (nI_lt (a := 5) (by omega) (by omega)) (fun ⟨v, hv, e⟩ => ?_)
      rw [nI_eq (by omega) (by omega)] at e; omega
section
variable {f_length f_compiled f_isSound f_codeEnd f_poolEnd f_openCount f_accumulator f_place f_running f_printedCount : Int32} {a_kind a_first a_second a_third a_openKind a_openTop a_openCell a_zeroJump a_posJump a_leaveFirst a_leaveSecond a_memory a_printedWords : Nat → Int32} {g_n g_printed : Int32} {b_kind b_a b_b b_c b_var b_out b_left : Nat → Int32}
theorem xa_v {post : Int32 → Prop} {x : Int32} (h1 : rl_v x → post 1) (h0 : ¬ rl_v x → post 0) : wpX_isVariable post (f_length, f_compiled, f_isSound, f_codeEnd, f_poolEnd, f_openCount, f_accumulator, f_place, f_running, f_printedCount, a_kind, a_first, a_second, a_third, a_openKind, a_openTop, a_openCell, a_zeroJump, a_posJump, a_leaveFirst, a_leaveSecond, a_memory, a_printedWords) x := by
  refine rl_vi (x := x) (fun q n => br_t q (h0 n)) (fun q n => ?_) (fun h => ?_)
  · refine br_c (fun _ => h0 n) (fun _ => br_t q (h0 n))
  · obtain ⟨v, hv, rfl⟩ := h
    exact br_f (nI_pos (by omega)) (br_f (nI_nlt (a := 5) (by omega) (by omega)) (h1 ⟨v, hv, rfl⟩))
theorem ya_v {post : Int32 → Prop} {x : Int32} (h1 : rl_v x → post 1) (h0 : ¬ rl_v x → post 0) : wpY_isVariable post (g_n, g_printed, b_kind, b_a, b_b, b_c, b_var, b_out, b_left) x := by
  refine rl_vi (x := x) (fun q n => br_t q (h0 n)) (fun q n => ?_) (fun h => ?_)
  · refine br_c (fun _ => h0 n) (fun _ => br_t q (h0 n))
  · obtain ⟨v, hv, rfl⟩ := h
    exact br_f (nI_pos (by omega)) (br_f (nI_nlt (a := 5) (by omega) (by omega)) (h1 ⟨v, hv, rfl⟩))
/-! add -/
def rl_ok (K : Nat) (p1 p2 p3 : Int32) : Prop := (K ≠ 8 → K ≠ 9 → K ≠ 11 → rl_v p1) ∧ (1 ≤ K → K ≤ 6 → rl_v p2) ∧ ((K = 1 ∨ K = 2 ∨ K = 3 ∨ K = 6) → rl_v p3)
theorem xa_109 {n K : Nat} (hn : n < 40) (hK : K ≤ 12) {p1 p2 p3 : Int32} {post : Int32 → SX → Prop} (h : post (nI (n + 1)) (nI (n + 1), 0, f_isSound, f_codeEnd, f_poolEnd, f_openCount, f_accumulator, f_place, f_running, f_printedCount, upd a_kind n (nI K), upd a_first n (if K = 0 then p2 else p1), upd a_second n (vp_nar .byte (if K = 0 then p1 else p2).toInt8.toInt32), upd a_third n (vp_nar .byte p3.toInt8.toInt32), a_openKind, a_openTop, a_openCell, a_zeroJump, a_posJump, a_leaveFirst, a_leaveSecond, a_memory, a_printedWords)) : wX_add_109 post (nI K) p1 p2 p3 (nI n) f_compiled f_isSound f_codeEnd f_poolEnd f_openCount f_accumulator f_place f_running f_printedCount a_kind a_first a_second a_third a_openKind a_openTop a_openCell a_zeroJump a_posJump a_leaveFirst a_leaveSecond a_memory a_printedWords := by
  have hin : vp_in (nI n) 40 := vp_in_nI hn (by decide)
  have en : (nI n).toNatClampNeg = n := nI_clamp (by omega)
  refine ⟨hin, nm_r (e' := upd a_kind n (nI K)) (by rw [en, vn_b _ (by omega)]) (pk_eq K 0 (fun q => ⟨hin, ?_⟩) (fun q => ⟨hin, ?_⟩))⟩
  · rw [if_pos q, if_pos q] at h
    subst q
    refine nm_r (e' := upd a_first n p2) (by rw [en]) (br_t rfl ⟨hin, nm_r (e' := upd a_second n (vp_nar .byte p1.toInt8.toInt32)) (by rw [en]) ⟨hin, nm_r (e' := upd a_third n (vp_nar .byte p3.toInt8.toInt32)) (by rw [en]) (nm_r (nI_1 n) h)⟩⟩)
  · rw [if_neg q, if_neg q] at h
    refine nm_r (e' := upd a_first n p1) (by rw [en]) (br_f (nI_ne0 (by omega) (by omega)) ⟨hin, nm_r (e' := upd a_second n (vp_nar .byte p2.toInt8.toInt32)) (by rw [en]) ⟨hin, nm_r (e' := upd a_third n (vp_nar .byte p3.toInt8.toInt32)) (by rw [en]) (nm_r (nI_1 n) h)⟩⟩)
theorem xa_80 {K : Nat} (hK : K ≤ 12) {p1 p2 p3 : Int32} {post : Int32 → SX → Prop} (h1 : ((K = 1 ∨ K = 2 ∨ K = 3 ∨ K = 6) → rl_v p3) → wX_add_109 post (nI K) p1 p2 p3 f_length f_compiled f_isSound f_codeEnd f_poolEnd f_openCount f_accumulator f_place f_running f_printedCount a_kind a_first a_second a_third a_openKind a_openTop a_openCell a_zeroJump a_posJump a_leaveFirst a_leaveSecond a_memory a_printedWords) (h0 : ¬ ((K = 1 ∨ K = 2 ∨ K = 3 ∨ K = 6) → rl_v p3) → post (-10000) (f_length, f_compiled, f_isSound, f_codeEnd, f_poolEnd, f_openCount, f_accumulator, f_place, f_running, f_printedCount, a_kind, a_first, a_second, a_third, a_openKind, a_openTop, a_openCell, a_zeroJump, a_posJump, a_leaveFirst, a_leaveSecond, a_memory, a_printedWords)) : wX_add_80 post (nI K) p1 p2 p3 f_length f_compiled f_isSound f_codeEnd f_poolEnd f_openCount f_accumulator f_place f_running f_printedCount a_kind a_first a_second a_third a_openKind a_openTop a_openCell a_zeroJump a_posJump a_leaveFirst a_leaveSecond a_memory a_printedWords := by
  have K96 : (K = 1 ∨ K = 2 ∨ K = 3 ∨ K = 6) → wX_add_96 post (nI K) p1 p2 p3 f_length f_compiled f_isSound f_codeEnd f_poolEnd f_openCount f_accumulator f_place f_running f_printedCount a_kind a_first a_second a_third a_openKind a_openTop a_openCell a_zeroJump a_posJump a_leaveFirst a_leaveSecond a_memory a_printedWords := by
    intro q
    unfold wX_add_96
    exact xa_v (fun hv => br_f (by decide) (h1 (fun _ => hv))) (fun hv => br_t rfl (h0 (fun hh => hv (hh q))))
  have K90 : ¬ (K = 1 ∨ K = 2 ∨ K = 3) → wX_add_90 post (nI K) p1 p2 p3 f_length f_compiled f_isSound f_codeEnd f_poolEnd f_openCount f_accumulator f_place f_running f_printedCount a_kind a_first a_second a_third a_openKind a_openTop a_openCell a_zeroJump a_posJump a_leaveFirst a_leaveSecond a_memory a_printedWords := fun q => pk_eq K 6 (fun q6 => K96 (by omega)) (fun q6 => h1 (fun hh => by omega))
  exact pk_lt K 1 (fun q => K90 (by omega)) (fun q => pk_le K 3 (fun q3 => K96 (by omega)) (fun q3 => K90 (by omega)))
theorem xa_57 {K : Nat} (hK : K ≤ 12) {p1 p2 p3 : Int32} {post : Int32 → SX → Prop} (h1 : (1 ≤ K → K ≤ 6 → rl_v p2) → wX_add_80 post (nI K) p1 p2 p3 f_length f_compiled f_isSound f_codeEnd f_poolEnd f_openCount f_accumulator f_place f_running f_printedCount a_kind a_first a_second a_third a_openKind a_openTop a_openCell a_zeroJump a_posJump a_leaveFirst a_leaveSecond a_memory a_printedWords) (h0 : ¬ (1 ≤ K → K ≤ 6 → rl_v p2) → post (-10000) (f_length, f_compiled, f_isSound, f_codeEnd, f_poolEnd, f_openCount, f_accumulator, f_place, f_running, f_printedCount, a_kind, a_first, a_second, a_third, a_openKind, a_openTop, a_openCell, a_zeroJump, a_posJump, a_leaveFirst, a_leaveSecond, a_memory, a_printedWords)) : wX_add_57 post (nI K) p1 p2 p3 f_length f_compiled f_isSound f_codeEnd f_poolEnd f_openCount f_accumulator f_place f_running f_printedCount a_kind a_first a_second a_third a_openKind a_openTop a_openCell a_zeroJump a_posJump a_leaveFirst a_leaveSecond a_memory a_printedWords :=
  pk_lt K 1 (fun q => h1 (fun q1 => by omega)) (fun q => pk_lt 6 K (fun q6 => h1 (fun _ q1 => by omega)) (fun q6 => xa_v (fun hv => br_f (by decide) (h1 (fun _ _ => hv))) (fun hv => br_t rfl (h0 (fun hh => hv (hh q q6))))))
theorem xa_add {n K : Nat} (hn : n < 40) (hK : K ≤ 12) (hl : f_length = nI n) {p1 p2 p3 : Int32} {post : Int32 → SX → Prop} (h1 : rl_ok K p1 p2 p3 → post (nI (n + 1)) (nI (n + 1), 0, f_isSound, f_codeEnd, f_poolEnd, f_openCount, f_accumulator, f_place, f_running, f_printedCount, upd a_kind n (nI K), upd a_first n (if K = 0 then p2 else p1), upd a_second n (vp_nar .byte (if K = 0 then p1 else p2).toInt8.toInt32), upd a_third n (vp_nar .byte p3.toInt8.toInt32), a_openKind, a_openTop, a_openCell, a_zeroJump, a_posJump, a_leaveFirst, a_leaveSecond, a_memory, a_printedWords)) (h0 : ¬ rl_ok K p1 p2 p3 → post (-10000) (f_length, f_compiled, f_isSound, f_codeEnd, f_poolEnd, f_openCount, f_accumulator, f_place, f_running, f_printedCount, a_kind, a_first, a_second, a_third, a_openKind, a_openTop, a_openCell, a_zeroJump, a_posJump, a_leaveFirst, a_leaveSecond, a_memory, a_printedWords)) : wpX_add post (f_length, f_compiled, f_isSound, f_codeEnd, f_poolEnd, f_openCount, f_accumulator, f_place, f_running, f_printedCount, a_kind, a_first, a_second, a_third, a_openKind, a_openTop, a_openCell, a_zeroJump, a_posJump, a_leaveFirst, a_leaveSecond, a_memory, a_printedWords) (nI K) p1 p2 p3 := by
  subst hl
  have K57 : (K ≠ 8 → K ≠ 9 → K ≠ 11 → rl_v p1) → wX_add_57 post (nI K) p1 p2 p3 (nI n) f_compiled f_isSound f_codeEnd f_poolEnd f_openCount f_accumulator f_place f_running f_printedCount a_kind a_first a_second a_third a_openKind a_openTop a_openCell a_zeroJump a_posJump a_leaveFirst a_leaveSecond a_memory a_printedWords := fun hv => xa_57 hK (fun h2 => xa_80 hK (fun h3 => xa_109 hn hK (h1 ⟨hv, h2, h3⟩)) (fun h3 => h0 (fun ok => h3 ok.2.2))) (fun h2 => h0 (fun ok => h2 ok.2.1))
  refine pk_lt n 40 (fun _ => br_f (nI_pos (by omega)) (br_t (nI_le (b := 12) hK (by decide)) (pk_eq K 8 (fun q => K57 (fun q8 => absurd q q8)) (fun q8 => pk_eq K 9 (fun q => K57 (fun _ q9 => absurd q q9)) (fun q9 => pk_eq K 11 (fun q => K57 (fun _ _ q11 => absurd q q11)) (fun q11 => xa_v (fun hv => br_f (by decide) (K57 (fun _ _ _ => hv))) (fun hv => br_t rfl (h0 (fun ok => hv (ok.1 q8 q9 q11)))))))))) (fun q => absurd q (by omega))
theorem ya_63 {K : Nat} (hK : K ≤ 12) {p3 : Int32} {post : Int32 → Prop} (h1 : ((K = 1 ∨ K = 2 ∨ K = 3 ∨ K = 6) → rl_v p3) → post 1) (h0 : ¬ ((K = 1 ∨ K = 2 ∨ K = 3 ∨ K = 6) → rl_v p3) → post 0) : wY_fits_63 post (nI K) p3 g_n g_printed b_kind b_a b_b b_c b_var b_out b_left := by
  have K84 : (K = 1 ∨ K = 2 ∨ K = 3 ∨ K = 6) → wY_fits_84 post p3 g_n g_printed b_kind b_a b_b b_c b_var b_out b_left := by
    intro q
    unfold wY_fits_84
    exact ya_v (fun hv => br_f (by decide) (h1 (fun _ => hv))) (fun hv => br_t rfl (h0 (fun hh => hv (hh q))))
  exact pk_eq K 1 (fun q => K84 (by omega)) (fun q1 => pk_eq K 2 (fun q => K84 (by omega)) (fun q2 => pk_eq K 3 (fun q => K84 (by omega)) (fun q3 => pk_eq K 6 (fun q => K84 (by omega)) (fun q6 => h1 (fun hh => by omega)))))
theorem ya_fits {K : Nat} (hK : K ≤ 12) {p1 p2 p3 : Int32} {post : Int32 → Prop} (h1 : rl_ok K p1 p2 p3 → post 1) (h0 : ¬ rl_ok K p1 p2 p3 → post 0) : wpY_fits post (g_n, g_printed, b_kind, b_a, b_b, b_c, b_var, b_out, b_left) (nI K) p1 p2 p3 := by
  have K63 : (K ≠ 8 → K ≠ 9 → K ≠ 11 → rl_v p1) → (1 ≤ K → K ≤ 6 → rl_v p2) → wY_fits_63 post (nI K) p3 g_n g_printed b_kind b_a b_b b_c b_var b_out b_left := fun hv h2 => ya_63 hK (fun h3 => h1 ⟨hv, h2, h3⟩) (fun h3 => h0 (fun ok => h3 ok.2.2))
  refine br_f (nI_pos (by omega)) (br_t (nI_le (b := 12) hK (by decide)) (pk_eq K 8 (fun q => h1 ⟨fun q8 => absurd q q8, fun _ _ => by omega, fun _ => by omega⟩) (fun q8 => pk_eq K 9 (fun q => h1 ⟨fun _ q9 => absurd q q9, fun _ _ => by omega, fun _ => by omega⟩) (fun q9 => pk_eq K 11 (fun q => h1 ⟨fun _ _ q11 => absurd q q11, fun _ _ => by omega, fun _ => by omega⟩) (fun q11 => ?_)))))
  refine ya_v (fun hv => br_f (by decide) (pk_lt K 1 (fun q => K63 (fun _ _ _ => hv) (fun q1 => by omega)) (fun q => pk_lt 6 K (fun q6 => K63 (fun _ _ _ => hv) (fun _ q1 => by omega)) (fun q6 => ya_v (fun h2 => br_f (by decide) (K63 (fun _ _ _ => hv) (fun _ _ => h2))) (fun h2 => br_t rfl (h0 (fun ok => h2 (ok.2.1 q q6)))))))) (fun hv => br_t rfl (h0 (fun ok => hv (ok.1 q8 q9 q11))))
theorem ya_add {n K : Nat} (hn : n < 40) (hK : K ≤ 12) (hl : g_n = nI n) {p1 p2 p3 : Int32} {post : Int32 → SY → Prop} (h1 : rl_ok K p1 p2 p3 → post (nI (n + 1)) (nI (n + 1), g_printed, upd b_kind n (nI K), upd b_a n p1, upd b_b n p2, upd b_c n p3, b_var, b_out, b_left)) (h0 : ¬ rl_ok K p1 p2 p3 → post (-10000) (g_n, g_printed, b_kind, b_a, b_b, b_c, b_var, b_out, b_left)) : wpY_add post (g_n, g_printed, b_kind, b_a, b_b, b_c, b_var, b_out, b_left) (nI K) p1 p2 p3 := by
  subst hl
  have hin : vp_in (nI n) 40 := vp_in_nI hn (by decide)
  have en : (nI n).toNatClampNeg = n := nI_clamp (by omega)
  refine pk_eq n 40 (fun q => absurd q (by omega)) (fun _ => ya_fits hK (fun ok => br_f (by decide) ⟨hin, ?_⟩) (fun ok => br_t rfl (h0 ok)))
  rw [en]
  exact nm_e ⟨hin, nm_e ⟨hin, nm_e ⟨hin, nm_e (nm_r (nI_1 n) (h1 ok))⟩⟩⟩
end
/-- a statement is added -/
theorem rl_kc {κ : Nat → Nat} {n K : Nat} {fi se th : Nat → Nat} {af as at' ya yb yc : Nat → Int32} {p1 p2 p3 : Int32} (ok : rl_ok K p1 p2 p3) (hO : kc_O κ n fi se th af as at') (hY : ky_O κ n fi se th af ya yb yc) :
    kc_O (fun i => if i = n then K else κ i) (n + 1) (fun i => if i = n then p1.toNatClampNeg else fi i) (fun i => if i = n then (if K = 0 then p1 else p2).toNatClampNeg else se i) (fun i => if i = n then p3.toNatClampNeg else th i) (upd af n (if K = 0 then p2 else p1)) (upd as n (vp_nar .byte (if K = 0 then p1 else p2).toInt8.toInt32)) (upd at' n (vp_nar .byte p3.toInt8.toInt32)) ∧
    ky_O (fun i => if i = n then K else κ i) (n + 1) (fun i => if i = n then p1.toNatClampNeg else fi i) (fun i => if i = n then (if K = 0 then p1 else p2).toNatClampNeg else se i) (fun i => if i = n then p3.toNatClampNeg else th i) (upd af n (if K = 0 then p2 else p1)) (upd ya n p1) (upd yb n p2) (upd yc n p3) := by
  have V : ∀ {x : Int32}, rl_v x → x = nI x.toNatClampNeg ∧ x.toNatClampNeg < 6 ∧ vp_nar .byte x.toInt8.toInt32 = nI x.toNatClampNeg := by
    rintro x ⟨v, hv, rfl⟩
    rw [nI_clamp (by omega)]
    exact ⟨rfl, hv, vn_b _ (by omega)⟩
  obtain ⟨k1, k2, k3⟩ := ok
  constructor
  · intro i hi
    dsimp only
    by_cases e : i = n
    · subst e
      rw [if_pos rfl, if_pos rfl, if_pos rfl, if_pos rfl, pk_us, pk_us, pk_us]
      refine ⟨fun q0 q8 q9 q11 => ?_, fun q6 => ?_, fun q => ?_⟩
      · rw [if_neg q0]
        obtain ⟨a, b, _⟩ := V (k1 q8 q9 q11)
        exact ⟨a, b⟩
      · by_cases q0 : K = 0
        · rw [if_pos q0]
          obtain ⟨_, b, c⟩ := V (k1 (by omega) (by omega) (by omega))
          exact ⟨c, b⟩
        · rw [if_neg q0]
          obtain ⟨_, b, c⟩ := V (k2 (by omega) q6)
          exact ⟨c, b⟩
      · obtain ⟨_, b, c⟩ := V (k3 q)
        exact ⟨c, b⟩
    · rw [if_neg e, if_neg e, if_neg e, if_neg e, pk_un e, pk_un e, pk_un e]
      exact hO i (by omega)
  · intro i hi
    dsimp only
    by_cases e : i = n
    · subst e
      rw [if_pos rfl, if_pos rfl, if_pos rfl, if_pos rfl, pk_us, pk_us, pk_us, pk_us]
      refine ⟨fun q0 => ?_, fun q0 q8 q9 q11 => ?_, fun q1 q6 => ?_, fun q => ?_⟩
      · rw [if_pos q0, if_pos q0]
        obtain ⟨a, b, _⟩ := V (k1 (by omega) (by omega) (by omega))
        exact ⟨a, b, rfl⟩
      · obtain ⟨a, b, _⟩ := V (k1 q8 q9 q11)
        exact ⟨a, b⟩
      · rw [if_neg (by omega)]
        obtain ⟨a, b, _⟩ := V (k2 q1 q6)
        exact ⟨a, b⟩
      · obtain ⟨a, b, _⟩ := V (k3 q)
        exact ⟨a, b⟩
    · rw [if_neg e, if_neg e, if_neg e, if_neg e, pk_un e, pk_un e, pk_un e, pk_un e]
      exact hY i (by omega)
end
section
/-! ===== calls that compile, run, clear ===== -/
section
variable {f_length f_compiled f_isSound f_codeEnd f_poolEnd f_openCount f_accumulator f_place f_running f_printedCount : Int32} {a_kind a_first a_second a_third a_openKind a_openTop a_openCell a_zeroJump a_posJump a_leaveFirst a_leaveSecond a_memory a_printedWords : Nat → Int32} {g_n g_printed : Int32} {b_kind b_a b_b b_c b_var b_out b_left : Nat → Int32} {κ : Nat → Nat} {n k : Nat} {fi se th : Nat → Nat} {va : Nat → Int}
/-- compile, whatever was compiled before -/
theorem rl_comp (hκ : ∀ i, a_kind i = nI (κ i)) (hn40 : n ≤ 40) (h12 : ∀ i, κ i ≤ 12) (hO : kc_O κ n fi se th a_first a_second a_third) (hl : f_length = nI n) (hc : f_compiled = 0 ∨ (f_compiled = 1 ∧ ((f_isSound = 1 ∧ kb_S κ n ∧ kc_C κ n fi se th a_first a_memory) ∨ (f_isSound = 0 ∧ ¬ kb_S κ n)))) {post : SX → Prop}
    (H : ∀ (sd cE pE oC : Int32) (oK oT oL zJ pJ lF lS me : Nat → Int32), ((sd = 1 ∧ kb_S κ n ∧ kc_C κ n fi se th a_first me) ∨ (sd = 0 ∧ ¬ kb_S κ n)) → (∀ v, v < 6 → me (500 + v) = a_memory (500 + v)) → post (f_length, 1, sd, cE, pE, oC, f_accumulator, f_place, f_running, f_printedCount, a_kind, a_first, a_second, a_third, oK, oT, oL, zJ, pJ, lF, lS, me, a_printedWords)) : wpX_compile post (f_length, f_compiled, f_isSound, f_codeEnd, f_poolEnd, f_openCount, f_accumulator, f_place, f_running, f_printedCount, a_kind, a_first, a_second, a_third, a_openKind, a_openTop, a_openCell, a_zeroJump, a_posJump, a_leaveFirst, a_leaveSecond, a_memory, a_printedWords) := by
  rcases hc with q | ⟨q, q'⟩
  · exact xc_compile hκ hn40 h12 hO hl q (fun hS cE pE oC oK oT oL zJ pJ lF lS me hC hv => H _ _ _ _ _ _ _ _ _ _ _ _ (Or.inl ⟨rfl, hS, hC⟩) hv) (fun hS ok => H _ _ _ _ _ _ _ _ _ _ _ _ (Or.inr ⟨rfl, hS⟩) (fun _ _ => rfl))
  · subst q
    exact br_f (by decide) (H _ _ _ _ _ _ _ _ _ _ _ _ q' (fun _ _ => rfl))
/-- both run a sound program -/
theorem rl_run (hκ : ∀ i, b_kind i = nI (κ i)) (h12 : ∀ i, κ i ≤ 12) (hn40 : n ≤ 40) (hS : kb_S κ n) (hO : kc_O κ n fi se th a_first a_second a_third) (hY : ky_O κ n fi se th a_first b_a b_b b_c) (hC : kc_C κ n fi se th a_first a_memory) (hV : ky_V va b_var) (hm : ∀ v, v < 6 → a_memory (500 + v) = tt_w (va v)) :
    ∃ (acc pl : Int32) (k : Nat) (me pw yv yo yl : Nat → Int32) (va : Nat → Int), kc_C κ n fi se th a_first me ∧ ky_V va yv ∧ (∀ v, v < 6 → me (500 + v) = tt_w (va v)) ∧ ks_P k pw yo ∧ k ≤ 5000 ∧ (∀ post : Int32 → SX → Prop, post (nI k) (f_length, f_compiled, f_isSound, f_codeEnd, f_poolEnd, f_openCount, acc, pl, 0, nI k, a_kind, a_first, a_second, a_third, a_openKind, a_openTop, a_openCell, a_zeroJump, a_posJump, a_leaveFirst, a_leaveSecond, me, pw) → ∃ F, wX_run_37 post F 0 f_length f_compiled f_isSound f_codeEnd f_poolEnd f_openCount 0 0 1 0 a_kind a_first a_second a_third a_openKind a_openTop a_openCell a_zeroJump a_posJump a_leaveFirst a_leaveSecond a_memory a_printedWords) ∧ (∀ post : Int32 → SY → Prop, post (nI k) (nI n, nI k, b_kind, b_a, b_b, b_c, yv, yo, yl) → ∃ F, wY_run_20 post F 0 0 (nI n) 0 b_kind b_a b_b b_c b_var b_out b_left) := by
  have hmu : kb_mu κ n (fun _ => 0) 0 ≤ 5000 := by
    unfold kb_mu
    have e : sm_s (kb_t κ n (fun _ => 0) 0) n = sm_s (fun _ => 0) n := sm_c (fun o ho => kb_tn (fun h => absurd h.2.1 (by omega)))
    have e0 : ∀ m, sm_s (fun _ => 0) m = 0 := by
      intro m
      induction m with
      | zero => rfl
      | succ m ih => show sm_s (fun _ => 0) m + 0 = 0; omega
    rw [e, e0]
    have := kb_B0 hS hn40
    omega
  have K := ks_run (f_length := f_length) (f_compiled := f_compiled) (f_isSound := f_isSound) (f_codeEnd := f_codeEnd) (f_poolEnd := f_poolEnd) (f_openCount := f_openCount) (a_kind := a_kind) (a_first := a_first) (a_second := a_second) (a_third := a_third) (a_openKind := a_openKind) (a_openTop := a_openTop) (a_openCell := a_openCell) (a_zeroJump := a_zeroJump) (a_posJump := a_posJump) (a_leaveFirst := a_leaveFirst) (a_leaveSecond := a_leaveSecond) hκ h12 hn40 hS hY (fun i hi h10 => ((hO i hi).1 (by omega) (by omega) (by omega) (by omega)).1) 5000 0 0 0 0 va (fun _ => 0) 0 a_memory a_printedWords b_var b_out b_left hmu (by omega) (by omega) (by omega) (by omega) ⟨hC, hV, hm, fun o ho hI => absurd hI.2.1 (by omega)⟩ (fun j hj => absurd hj (by omega))
  obtain ⟨acc, pl, k, me, pw, yv, yo, yl, va', h1, h2, h3, h4, h5, h6, h7⟩ := K
  exact ⟨acc, pl, k, me, pw, yv, yo, yl, va', h1, h2, h3, h4, h5, fun post hp => ⟨40001, h6 post hp 40001 (by omega)⟩, fun post hp => ⟨5001, h7 post hp 5001 (by omega)⟩⟩
theorem xa_clear {post : SX → Prop} (h : ∀ me : Nat → Int32, (∀ v, v < 6 → me (500 + v) = 0) → post (f_length, f_compiled, f_isSound, f_codeEnd, f_poolEnd, f_openCount, f_accumulator, f_place, f_running, f_printedCount, a_kind, a_first, a_second, a_third, a_openKind, a_openTop, a_openCell, a_zeroJump, a_posJump, a_leaveFirst, a_leaveSecond, me, a_printedWords)) : ∀ (d i : Nat) (me : Nat → Int32), i + d = 6 → (∀ v, v < i → me (500 + v) = 0) → wX_clear_17 post f_length f_compiled f_isSound f_codeEnd f_poolEnd f_openCount f_accumulator f_place f_running f_printedCount (d + 1) (nI i) a_kind a_first a_second a_third a_openKind a_openTop a_openCell a_zeroJump a_posJump a_leaveFirst a_leaveSecond me a_printedWords := by
  intro d
  induction d with
  | zero =>
    intro i me hi hm
    have e : i = 6 := by omega
    subst e
    exact br_t (by decide) (h me hm)
  | succ d ih =>
    intro i me hi hm
    have e5 : (500 : Int32) + nI i = nI (500 + i) := nI_add 500 i
    refine pk_le 6 i (fun q => absurd q (by omega)) (fun _ => ?_)
    rw [e5]
    refine ⟨vp_in_nI (by omega) (by decide), ?_⟩
    rw [nI_clamp (by omega)]
    refine nm_e (nm_r (nI_1 i) (ih (i + 1) _ (by omega) (fun v hv => ?_)))
    by_cases e : v = i
    · subst e; exact pk_us
    · rw [pk_un (by omega)]; exact hm v (by omega)
theorem ya_clear {post : SY → Prop} (h : ∀ yv : Nat → Int32, (∀ v, v < 6 → yv v = 0) → post (g_n, g_printed, b_kind, b_a, b_b, b_c, yv, b_out, b_left)) : ∀ (d i : Nat) (yv : Nat → Int32), i + d = 6 → (∀ v, v < i → yv v = 0) → wY_clear_12 post g_n g_printed (d + 1) (nI i) b_kind b_a b_b b_c yv b_out b_left := by
  intro d
  induction d with
  | zero =>
    intro i yv hi hm
    have e : i = 6 := by omega
    subst e
    exact br_t (by decide) (h yv hm)
  | succ d ih =>
    intro i yv hi hm
    refine pk_le 6 i (fun q => absurd q (by omega)) (fun _ => ⟨vp_in_nI (by omega) (by decide), ?_⟩)
    rw [nI_clamp (by omega)]
    refine nm_e (nm_r (nI_1 i) (ih (i + 1) _ (by omega) (fun v hv => ?_)))
    by_cases e : v = i
    · subst e; exact pk_us
    · rw [pk_un (by omega)]; exact hm v (by omega)
end
end
section
/-! ===== what is owed ===== -/
theorem i_up {k : Nat} {u : SX} {v : SY} (h : i_Rel k u v) : i_Rel (k + 5) u v := h
theorem i_vc0 : wpX_init (fun u => wpY_init (fun v => i_Rel 0 u v)) := by
  have w0 : (0 : Int32) = tt_w 0 := by decide +kernel
  have z0 : (0 : Int32) = Int32.ofInt 0 := rfl
  have zl : (-9841 : Int) ≤ 0 := by decide
  have zr : (0 : Int) ≤ 9841 := by decide
  exact ⟨fun _ => 0, 0, 0, fun _ => 0, fun _ => 0, fun _ => 0, fun _ => 0, ⟨fun _ => rfl, fun _ => rfl, fun _ => Nat.zero_le _, Nat.zero_le _, rfl, rfl⟩, ⟨Nat.zero_le _, rfl, rfl, fun j hj => absurd hj (by omega)⟩, ⟨fun i hi => absurd hi (by omega), fun i hi => absurd hi (by omega)⟩, ⟨fun v _ => ⟨z0, zl, zr⟩, fun v _ => w0⟩, Or.inl rfl⟩
theorem i_vc_add {k : Nat} {u : SX} {v : SY} (I : i_Rel k u v) (hk : k + 5 ≤ 2560) (v1 : Int32) (v2 : Int32) (v3 : Int32) (v4 : Int32) : wpX_add (fun r u' => wpY_add (fun r' v' => r' = r ∧ i_Rel (k + 5) u' v') v v1 v2 v3 v4) u v1 v2 v3 v4 := by
  obtain ⟨f_length, f_compiled, f_isSound, f_codeEnd, f_poolEnd, f_openCount, f_accumulator, f_place, f_running, f_printedCount, a_kind, a_first, a_second, a_third, a_openKind, a_openTop, a_openCell, a_zeroJump, a_posJump, a_leaveFirst, a_leaveSecond, a_memory, a_printedWords⟩ := u
  obtain ⟨g_n, g_printed, b_kind, b_a, b_b, b_c, b_var, b_out, b_left⟩ := v
  have I' := I
  obtain ⟨κ, n, k', fi, se, th, va, ⟨c1, c2, c3, c4, c5, c6⟩, hP, ⟨c7, c8⟩, hV, hC⟩ := I'
  subst c5; subst c6
  by_cases q40 : n = 40
  · subst q40
    exact br_f (by decide) (br_t rfl ⟨rfl, I⟩)
  by_cases q0 : v1 < 0
  · refine pk_lt n 40 (fun _ => br_t q0 (pk_eq n 40 (fun q => absurd q q40) (fun _ => ?_))) (fun q => absurd q (by omega))
    exact br_t q0 (br_t rfl ⟨rfl, I⟩)
  obtain ⟨K, hK, rfl⟩ := nI_of q0
  by_cases q12 : K ≤ 12
  · refine xa_add (n := n) (K := K) (by omega) q12 rfl (fun ok => ?_) (fun ok => ?_)
    · refine ya_add (n := n) (K := K) (by omega) q12 rfl (fun _ => ⟨rfl, ?_⟩) (fun ok' => absurd ok ok')
      obtain ⟨d1, d2⟩ := rl_kc (K := K) ok c7 c8
      refine ⟨_, n + 1, k', _, _, _, va, ⟨fun i => ?_, fun i => ?_, fun i => ?_, by omega, rfl, rfl⟩, hP, ⟨d1, d2⟩, hV, Or.inl rfl⟩
      · show upd a_kind n (nI K) i = nI (if i = n then K else κ i)
        by_cases e : i = n
        · subst e; rw [pk_us, if_pos rfl]
        · rw [pk_un e, if_neg e]; exact c1 i
      · show upd b_kind n (nI K) i = nI (if i = n then K else κ i)
        by_cases e : i = n
        · subst e; rw [pk_us, if_pos rfl]
        · rw [pk_un e, if_neg e]; exact c2 i
      · show (if i = n then K else κ i) ≤ 12
        split
        · exact q12
        · exact c3 i
    · exact ya_add (n := n) (K := K) (by omega) q12 rfl (fun ok' => absurd ok' ok) (fun _ => ⟨rfl, I⟩)
  · have q12' : ¬ nI K ≤ 12 := nI_ge (a := 12) (by omega) (by omega)
    refine pk_lt n 40 (fun _ => br_f q0 (br_f q12' (pk_eq n 40 (fun q => absurd q q40) (fun _ => ?_)))) (fun q => absurd q (by omega))
    exact br_f q0 (br_f q12' (br_t rfl ⟨rfl, I⟩))
theorem i_vc_retract {k : Nat} {u : SX} {v : SY} (I : i_Rel k u v) (hk : k + 5 ≤ 2560) : wpX_retract (fun r u' => wpY_retract (fun r' v' => r' = r ∧ i_Rel (k + 5) u' v') v) u := by
  obtain ⟨f_length, f_compiled, f_isSound, f_codeEnd, f_poolEnd, f_openCount, f_accumulator, f_place, f_running, f_printedCount, a_kind, a_first, a_second, a_third, a_openKind, a_openTop, a_openCell, a_zeroJump, a_posJump, a_leaveFirst, a_leaveSecond, a_memory, a_printedWords⟩ := u
  obtain ⟨g_n, g_printed, b_kind, b_a, b_b, b_c, b_var, b_out, b_left⟩ := v
  have I' := I
  obtain ⟨κ, n, k', fi, se, th, va, ⟨c1, c2, c3, c4, c5, c6⟩, hP, ⟨c7, c8⟩, hV, hC⟩ := I'
  subst c5; subst c6
  cases n with
  | zero => exact br_t rfl (br_t rfl ⟨rfl, I⟩)
  | succ n =>
    have ne : ¬ nI (n + 1) = 0 := nI_ne0 (by omega) (by omega)
    refine br_f ne (nm_r (nI_pred n) (br_f ne (nm_r (nI_pred n) ⟨rfl, ?_⟩)))
    exact ⟨κ, n, k', fi, se, th, va, ⟨c1, c2, c3, by omega, rfl, rfl⟩, hP, ⟨fun i hi => c7 i (by omega), fun i hi => c8 i (by omega)⟩, hV, Or.inl rfl⟩
theorem i_vc_sound {k : Nat} {u : SX} {v : SY} (I : i_Rel k u v) (hk : k + 5 ≤ 2560) : wpX_sound (fun r u' => wpY_sound (fun r' => r' = r ∧ i_Rel (k + 5) u' v) v) u := by
  obtain ⟨f_length, f_compiled, f_isSound, f_codeEnd, f_poolEnd, f_openCount, f_accumulator, f_place, f_running, f_printedCount, a_kind, a_first, a_second, a_third, a_openKind, a_openTop, a_openCell, a_zeroJump, a_posJump, a_leaveFirst, a_leaveSecond, a_memory, a_printedWords⟩ := u
  obtain ⟨g_n, g_printed, b_kind, b_a, b_b, b_c, b_var, b_out, b_left⟩ := v
  obtain ⟨κ, n, k', fi, se, th, va, ⟨c1, c2, c3, c4, c5, c6⟩, hP, ⟨c7, c8⟩, ⟨hV, hm⟩, hC⟩ := I
  unfold wpX_sound
  refine rl_comp c1 c4 c3 c7 c5 hC (fun sd cE pE oC oK oT oL zJ pJ lF lS me hs hv => ?_)
  have R : i_Rel (k + 5) (f_length, 1, sd, cE, pE, oC, f_accumulator, f_place, f_running, f_printedCount, a_kind, a_first, a_second, a_third, oK, oT, oL, zJ, pJ, lF, lS, me, a_printedWords) (g_n, g_printed, b_kind, b_a, b_b, b_c, b_var, b_out, b_left) := ⟨κ, n, k', fi, se, th, va, ⟨c1, c2, c3, c4, c5, c6⟩, hP, ⟨c7, c8⟩, ⟨hV, fun v h6 => by rw [hv v h6]; exact hm v h6⟩, Or.inr ⟨rfl, hs⟩⟩
  rcases hs with ⟨q1, q2, q3⟩ | ⟨q1, q2⟩
  · subst q1
    exact ⟨rfl, yb_sound c2 c3 c4 c6 (fun _ => ⟨rfl, R⟩) (fun q => absurd q2 q)⟩
  · subst q1
    exact ⟨rfl, yb_sound c2 c3 c4 c6 (fun q => absurd q q2) (fun _ => ⟨rfl, R⟩)⟩
theorem i_vc_put {k : Nat} {u : SX} {v : SY} (I : i_Rel k u v) (hk : k + 5 ≤ 2560) (v1 : Int32) (v2 : Int32) : wpX_put (fun r u' => wpY_put (fun r' v' => r' = r ∧ i_Rel (k + 5) u' v') v v1 v2) u v1 v2 := by
  obtain ⟨f_length, f_compiled, f_isSound, f_codeEnd, f_poolEnd, f_openCount, f_accumulator, f_place, f_running, f_printedCount, a_kind, a_first, a_second, a_third, a_openKind, a_openTop, a_openCell, a_zeroJump, a_posJump, a_leaveFirst, a_leaveSecond, a_memory, a_printedWords⟩ := u
  obtain ⟨g_n, g_printed, b_kind, b_a, b_b, b_c, b_var, b_out, b_left⟩ := v
  have I' := I
  obtain ⟨κ, n, k', fi, se, th, va, ⟨c1, c2, c3, c4, c5, c6⟩, hP, ⟨c7, c8⟩, ⟨hV, hm⟩, hC⟩ := I'
  unfold wpX_put wpY_put
  refine xa_v (fun h => br_f (by decide) ?_) (fun h => br_t rfl (ya_v (fun h' => absurd h' h) (fun _ => br_t rfl ⟨rfl, I⟩)))
  obtain ⟨v, h6, rfl⟩ := h
  have e5 : (500 : Int32) + nI v = nI (500 + v) := nI_add 500 v
  have b1 := v2.le_toInt
  have b2 := v2.toInt_lt
  rw [e5]
  refine xw_wordOf (z := v2.toInt) (by omega) (by omega) (Int64.ofInt_int32ToInt _).symm ⟨vp_in_nI (by omega) (by decide), ?_⟩
  rw [nI_clamp (by omega)]
  refine nm_e (ya_v (fun _ => br_f (by decide) (yw_wrap (z := v2.toInt) (by omega) (by omega) (Int64.ofInt_int32ToInt _).symm ⟨vp_in_nI h6 (by decide), ?_⟩)) (fun h => absurd ⟨v, h6, rfl⟩ h))
  rw [nI_clamp (by omega)]
  have bb := tt_bb v2.toInt
  refine nm_e ⟨rfl, κ, n, k', fi, se, th, (fun x => if x = v then tt_b v2.toInt else va x), ⟨c1, c2, c3, c4, c5, c6⟩, hP, ⟨c7, c8⟩, ⟨fun x hx => ?_, fun x hx => ?_⟩, ?_⟩
  · show upd b_var v (Int32.ofInt (tt_b v2.toInt)) x = Int32.ofInt (if x = v then tt_b v2.toInt else va x) ∧ -9841 ≤ (if x = v then tt_b v2.toInt else va x) ∧ (if x = v then tt_b v2.toInt else va x) ≤ 9841
    by_cases e : x = v
    · subst e; rw [pk_us, if_pos rfl]; exact ⟨rfl, bb.1, bb.2⟩
    · rw [pk_un e, if_neg e]; exact hV x hx
  · show upd a_memory (500 + v) (tt_w v2.toInt) (500 + x) = tt_w (if x = v then tt_b v2.toInt else va x)
    by_cases e : x = v
    · subst e; rw [pk_us, if_pos rfl, tt_wb]
    · rw [pk_un (by omega), if_neg e]; exact hm x hx
  · rcases hC with q | ⟨q, ⟨q1, q2, q3⟩ | q1⟩
    · exact Or.inl q
    · exact Or.inr ⟨q, Or.inl ⟨q1, q2, kc_Cu c4 (Or.inl (by omega)) q3⟩⟩
    · exact Or.inr ⟨q, Or.inr q1⟩
theorem i_vc_run {k : Nat} {u : SX} {v : SY} (I : i_Rel k u v) (hk : k + 5 ≤ 2560) : wpX_run (fun r u' => wpY_run (fun r' v' => r' = r ∧ i_Rel (k + 5) u' v') v) u := by
  obtain ⟨f_length, f_compiled, f_isSound, f_codeEnd, f_poolEnd, f_openCount, f_accumulator, f_place, f_running, f_printedCount, a_kind, a_first, a_second, a_third, a_openKind, a_openTop, a_openCell, a_zeroJump, a_posJump, a_leaveFirst, a_leaveSecond, a_memory, a_printedWords⟩ := u
  obtain ⟨g_n, g_printed, b_kind, b_a, b_b, b_c, b_var, b_out, b_left⟩ := v
  obtain ⟨κ, n, k', fi, se, th, va, ⟨c1, c2, c3, c4, c5, c6⟩, hP, ⟨c7, c8⟩, ⟨hV, hm⟩, hC⟩ := I
  unfold wpX_run
  refine rl_comp c1 c4 c3 c7 c5 hC (fun sd cE pE oC oK oT oL zJ pJ lF lS me hs hv => ?_)
  have hm' : ∀ v, v < 6 → me (500 + v) = tt_w (va v) := fun v h6 => by rw [hv v h6]; exact hm v h6
  have hs' := hs
  rcases hs with ⟨q1, q2, q3⟩ | ⟨q1, q2⟩
  · subst q1
    obtain ⟨acc, pl, kk, me', pw, yv, yo, yl, va', r1, r2, r3, r4, r5, r6, r7⟩ := rl_run (f_length := f_length) (f_compiled := 1) (f_isSound := 1) (f_codeEnd := cE) (f_poolEnd := pE) (f_openCount := oC) (a_kind := a_kind) (a_openKind := oK) (a_openTop := oT) (a_openCell := oL) (a_zeroJump := zJ) (a_posJump := pJ) (a_leaveFirst := lF) (a_leaveSecond := lS) (a_memory := me) (a_printedWords := a_printedWords) (b_out := b_out) (b_left := b_left) c2 c3 c4 q2 c7 c8 q3 hV hm'
    refine br_f (by decide) (r6 _ ?_)
    unfold wpY_run
    subst c6
    refine yb_sound c2 c3 c4 rfl (fun _ => br_f (by decide) (r7 _ ⟨rfl, ?_⟩)) (fun q => absurd q2 q)
    exact ⟨κ, n, kk, fi, se, th, va', ⟨c1, c2, c3, c4, c5, rfl⟩, ⟨r5, rfl, rfl, r4⟩, ⟨c7, c8⟩, ⟨r2, r3⟩, Or.inr ⟨rfl, Or.inl ⟨rfl, q2, r1⟩⟩⟩
  · subst q1
    refine br_t rfl ?_
    unfold wpY_run
    refine yb_sound c2 c3 c4 c6 (fun q => absurd q q2) (fun _ => br_t rfl ⟨rfl, ?_⟩)
    exact ⟨κ, n, k', fi, se, th, va, ⟨c1, c2, c3, c4, c5, c6⟩, hP, ⟨c7, c8⟩, ⟨hV, hm'⟩, Or.inr ⟨rfl, hs'⟩⟩
theorem i_vc_variable {k : Nat} {u : SX} {v : SY} (I : i_Rel k u v) (hk : k + 5 ≤ 2560) (v1 : Int32) : wpX_variable (fun r => wpY_variable (fun r' => r' = r ∧ i_Rel (k + 5) u v) v v1) u v1 := by
  obtain ⟨f_length, f_compiled, f_isSound, f_codeEnd, f_poolEnd, f_openCount, f_accumulator, f_place, f_running, f_printedCount, a_kind, a_first, a_second, a_third, a_openKind, a_openTop, a_openCell, a_zeroJump, a_posJump, a_leaveFirst, a_leaveSecond, a_memory, a_printedWords⟩ := u
  obtain ⟨g_n, g_printed, b_kind, b_a, b_b, b_c, b_var, b_out, b_left⟩ := v
  have I' := I
  obtain ⟨κ, n, k', fi, se, th, va, ⟨c1, c2, c3, c4, c5, c6⟩, hP, ⟨c7, c8⟩, ⟨hV, hm⟩, hC⟩ := I'
  unfold wpX_variable wpY_variable
  refine xa_v (fun h => br_f (by decide) ?_) (fun h => br_t rfl (ya_v (fun h' => absurd h' h) (fun _ => br_t rfl ⟨rfl, I⟩)))
  obtain ⟨v, h6, rfl⟩ := h
  have e5 : (500 : Int32) + nI v = nI (500 + v) := nI_add 500 v
  obtain ⟨x1, x2, x3⟩ := hV v h6
  rw [e5]
  refine ⟨vp_in_nI (by omega) (by decide), ?_⟩
  have em : a_memory (nI (500 + v)).toNatClampNeg = tt_w (va v) := by rw [nI_clamp (by omega), hm v h6]
  rw [em]
  refine xw_valueOf (ya_v (fun _ => br_f (by decide) ⟨vp_in_nI h6 (by decide), ?_, I⟩) (fun h => absurd ⟨v, h6, rfl⟩ h))
  rw [nI_clamp (by omega), x1, tt_bi x2 x3]
theorem i_vc_trit {k : Nat} {u : SX} {v : SY} (I : i_Rel k u v) (hk : k + 5 ≤ 2560) (v1 : Int32) (v2 : Int32) : wpX_trit (fun r => wpY_trit (fun r' => r' = r ∧ i_Rel (k + 5) u v) v v1 v2) u v1 v2 := by
  obtain ⟨f_length, f_compiled, f_isSound, f_codeEnd, f_poolEnd, f_openCount, f_accumulator, f_place, f_running, f_printedCount, a_kind, a_first, a_second, a_third, a_openKind, a_openTop, a_openCell, a_zeroJump, a_posJump, a_leaveFirst, a_leaveSecond, a_memory, a_printedWords⟩ := u
  obtain ⟨g_n, g_printed, b_kind, b_a, b_b, b_c, b_var, b_out, b_left⟩ := v
  have I' := I
  obtain ⟨κ, n, k', fi, se, th, va, ⟨c1, c2, c3, c4, c5, c6⟩, hP, ⟨c7, c8⟩, ⟨hV, hm⟩, hC⟩ := I'
  unfold wpX_trit wpY_trit
  refine xa_v (fun h => br_f (by decide) ?_) (fun h => br_t rfl (ya_v (fun h' => absurd h' h) (fun _ => br_t rfl ⟨rfl, I⟩)))
  obtain ⟨v, h6, rfl⟩ := h
  have hv : rl_v (nI v) := ⟨v, h6, rfl⟩
  have e5 : (500 : Int32) + nI v = nI (500 + v) := nI_add 500 v
  obtain ⟨x1, x2, x3⟩ := hV v h6
  rw [e5]
  by_cases q0 : v2 < 0
  · exact br_t q0 (ya_v (fun _ => br_f (by decide) (br_t q0 ⟨rfl, I⟩)) (fun h => absurd hv h))
  obtain ⟨i, hi, rfl⟩ := nI_of q0
  refine br_f q0 (pk_le i 8 (fun q => ⟨vp_in_nI (by omega) (by decide), ?_⟩) (fun q => ya_v (fun _ => br_f (by decide) (br_f q0 (br_t (nI_lt (a := 8) q hi) ⟨rfl, I⟩))) (fun h => absurd hv h)))
  have em : a_memory (nI (500 + v)).toNatClampNeg = tt_w (va v) := by rw [nI_clamp (by omega), hm v h6]
  rw [em]
  refine xw_tritOf (va v) (by omega) (ya_v (fun _ => br_f (by decide) (br_f q0 (br_f (nI_nlt (a := 8) q (by omega)) ⟨vp_in_nI h6 (by decide), ?_⟩))) (fun h => absurd hv h))
  rw [nI_clamp (n := v) (by omega), x1]
  exact yw_tritOf (i := i) x2 x3 (by omega) rfl rfl ⟨rfl, I⟩
theorem i_vc_printed {k : Nat} {u : SX} {v : SY} (I : i_Rel k u v) (hk : k + 5 ≤ 2560) : wpX_printed (fun r => wpY_printed (fun r' => r' = r ∧ i_Rel (k + 5) u v) v) u := by
  obtain ⟨f_length, f_compiled, f_isSound, f_codeEnd, f_poolEnd, f_openCount, f_accumulator, f_place, f_running, f_printedCount, a_kind, a_first, a_second, a_third, a_openKind, a_openTop, a_openCell, a_zeroJump, a_posJump, a_leaveFirst, a_leaveSecond, a_memory, a_printedWords⟩ := u
  obtain ⟨g_n, g_printed, b_kind, b_a, b_b, b_c, b_var, b_out, b_left⟩ := v
  have I' := I
  obtain ⟨κ, n, k', fi, se, th, va, _, ⟨_, d2, d3, _⟩, _⟩ := I'
  exact ⟨d3.trans d2.symm, I⟩
theorem i_vc_output {k : Nat} {u : SX} {v : SY} (I : i_Rel k u v) (hk : k + 5 ≤ 2560) (v1 : Int32) : wpX_output (fun r => wpY_output (fun r' => r' = r ∧ i_Rel (k + 5) u v) v v1) u v1 := by
  obtain ⟨f_length, f_compiled, f_isSound, f_codeEnd, f_poolEnd, f_openCount, f_accumulator, f_place, f_running, f_printedCount, a_kind, a_first, a_second, a_third, a_openKind, a_openTop, a_openCell, a_zeroJump, a_posJump, a_leaveFirst, a_leaveSecond, a_memory, a_printedWords⟩ := u
  obtain ⟨g_n, g_printed, b_kind, b_a, b_b, b_c, b_var, b_out, b_left⟩ := v
  have I' := I
  obtain ⟨κ, n, k', fi, se, th, va, _, ⟨d1, d2, d3, d4⟩, _⟩ := I'
  subst d2; subst d3
  by_cases q0 : v1 < 0
  · exact br_t q0 (br_t q0 ⟨rfl, I⟩)
  obtain ⟨j, hj, rfl⟩ := nI_of q0
  refine br_f q0 (pk_le k' j (fun q => br_f q0 (br_t (nI_le q hj) ⟨rfl, I⟩)) (fun q => pk_lt j 48 (fun q8 => ⟨vp_in_nI q8 (by decide), ?_⟩) (fun q8 => br_f q0 (br_f (nI_ge q (by omega)) (br_t (nI_le (a := 48) q8 hj) ⟨rfl, I⟩)))))
  obtain ⟨z, z1, z2, z3, z4⟩ := d4 j q q8
  rw [nI_clamp (by omega), z3]
  refine xw_valueOf (br_f q0 (br_f (nI_ge q (by omega)) (br_f (nI_ge (b := 48) q8 (by decide)) ⟨vp_in_nI q8 (by decide), ?_, I⟩)))
  rw [nI_clamp (by omega), z4, tt_bi z1 z2]
theorem i_vc_clear {k : Nat} {u : SX} {v : SY} (I : i_Rel k u v) (hk : k + 5 ≤ 2560) : wpX_clear (fun u' => wpY_clear (fun v' => i_Rel (k + 5) u' v') v) u := by
  obtain ⟨f_length, f_compiled, f_isSound, f_codeEnd, f_poolEnd, f_openCount, f_accumulator, f_place, f_running, f_printedCount, a_kind, a_first, a_second, a_third, a_openKind, a_openTop, a_openCell, a_zeroJump, a_posJump, a_leaveFirst, a_leaveSecond, a_memory, a_printedWords⟩ := u
  obtain ⟨g_n, g_printed, b_kind, b_a, b_b, b_c, b_var, b_out, b_left⟩ := v
  obtain ⟨κ, n, k', fi, se, th, va, ⟨c1, c2, c3, c4, c5, c6⟩, hP, ⟨c7, c8⟩, ⟨hV, hm⟩, hC⟩ := I
  have w0 : (0 : Int32) = tt_w 0 := by decide +kernel
  have z0 : (0 : Int32) = Int32.ofInt 0 := rfl
  have zl : (-9841 : Int) ≤ 0 := by decide
  have zr : (0 : Int) ≤ 9841 := by decide
  refine ⟨7, xa_clear (fun me hme => ⟨7, ya_clear (fun yv hyv => ?_) 6 0 b_var (by omega) (fun v hv => absurd hv (by omega))⟩) 6 0 a_memory (by omega) (fun v hv => absurd hv (by omega))⟩
  exact ⟨κ, 0, 0, fi, se, th, fun _ => 0, ⟨c1, c2, c3, Nat.zero_le _, rfl, rfl⟩, ⟨Nat.zero_le _, rfl, rfl, fun j hj => absurd hj (by omega)⟩, ⟨fun i hi => absurd hi (by omega), fun i hi => absurd hi (by omega)⟩, ⟨fun v hv => ⟨by rw [hyv v hv]; exact z0, zl, zr⟩, fun v hv => by rw [hme v hv]; exact w0⟩, Or.inl rfl⟩
end
