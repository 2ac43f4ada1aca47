section
/-! pure rows to paste: stores, nI and lN arithmetic, masks, shifts, narrowing, branches by naturals (pk_le, pk_lt, pk_eq), loops (lp1 .. lp16: the measure of the state; rp1 ..: recursion), negatives. Take what you need -/
theorem pk_us {f : Nat → Int32} {k : Nat} {x : Int32} : upd f k x k = x := if_pos rfl
theorem pk_un {f : Nat → Int32} {k j : Nat} {x : Int32} (h : j ≠ k) : upd f k x j = f j := if_neg h
theorem pk_uLs {f : Nat → Int64} {k : Nat} {x : Int64} : vp_updL f k x k = x := if_pos rfl
theorem pk_uLn {f : Nat → Int64} {k j : Nat} {x : Int64} (h : j ≠ k) : vp_updL f k x j = f j := if_neg h
theorem pk_sub {a b : Nat} (h : b ≤ a) : nI a - nI b = nI (a - b) := by
  obtain ⟨c, rfl⟩ : ∃ c, a = c + b := ⟨a - b, by omega⟩
  rw [← nI_add, Int32.add_sub_cancel, Nat.add_sub_cancel]
theorem pk_m1 (n : Nat) : nI (n + 1) + (-1) = nI n := by
  rw [← nI_1, Int32.add_assoc, show (1 : Int32) + (-1) = 0 from rfl, Int32.add_zero]
theorem pk_mul (a b : Nat) : nI a * nI b = nI (a * b) := (Int32.ofNat_mul a b).symm
theorem pk_div {a d : Nat} (ha : a < 2 ^ 31) (h0 : 0 < d) (hd : d < 2 ^ 31) : nI a / nI d = nI (a / d) := by
  apply Int32.toInt_inj.mp
  rw [lg_idiv_nonneg (by rw [nI_toInt ha]; omega) (by rw [nI_toInt hd]; omega), nI_toInt ha, nI_toInt hd, nI_toInt (Nat.lt_of_le_of_lt (Nat.div_le_self a d) ha)]
  first | rfl | exact (Int.natCast_ediv _ _).symm
theorem pk_rem {a d : Nat} (ha : a < 2 ^ 31) (h0 : 0 < d) (hd : d < 2 ^ 31) : nI a - nI a / nI d * nI d = nI (a % d) := by
  rw [pk_div ha h0 hd, pk_mul, pk_sub (Nat.div_mul_le_self a d)]
  exact congrArg nI (by have := Nat.div_add_mod' a d; omega)
theorem pk_sub_toInt {a b : Nat} (ha : a < 2 ^ 30) (hb : b < 2 ^ 30) : (nI a - nI b).toInt = (a : Int) - b := by
  rw [Int32.toInt_sub, nI_toInt (by omega), nI_toInt (by omega)]
  exact Int.bmod_eq_of_le (by omega) (by omega)
theorem pk_sneg {a b : Nat} (hb : b < 2 ^ 30) (h : a < b) : nI a - nI b < 0 := by
  rw [Int32.lt_iff_toInt_lt, pk_sub_toInt (by omega) hb, show (0 : Int32).toInt = 0 from by decide]
  omega
theorem pk_ix (x : Int32) {n : Nat} (hn : n < 2 ^ 31) : x < 0 ∨ nI n ≤ x ∨ ∃ j : Nat, j < n ∧ x = nI j := by
  by_cases h : x < 0
  · exact Or.inl h
  · obtain ⟨j, hj, rfl⟩ := nI_of h
    by_cases h2 : j < n
    · exact Or.inr (Or.inr ⟨j, h2, rfl⟩)
    · exact Or.inr (Or.inl (nI_le (by omega) hj))
theorem pk_le {x y : Int32} {A B : Prop} (a b : Nat) (f : a ≤ b → A) (g : b < a → B) (hx : x = nI a := by rfl) (hy : y = nI b := by rfl) (ha : a < 2 ^ 31 := by omega) (hb : b < 2 ^ 31 := by omega) : (x ≤ y → A) ∧ (¬ x ≤ y → B) := by
  subst hx hy
  rw [nI_leI ha hb]
  exact ⟨f, fun z => g (by omega)⟩
theorem pk_lt {x y : Int32} {A B : Prop} (a b : Nat) (f : a < b → A) (g : b ≤ a → B) (hx : x = nI a := by rfl) (hy : y = nI b := by rfl) (ha : a < 2 ^ 31 := by omega) (hb : b < 2 ^ 31 := by omega) : (x < y → A) ∧ (¬ x < y → B) := by
  subst hx hy
  rw [nI_ltI ha hb]
  exact ⟨f, fun z => g (by omega)⟩
theorem pk_eq {x y : Int32} {A B : Prop} (a b : Nat) (f : a = b → A) (g : a ≠ b → B) (hx : x = nI a := by rfl) (hy : y = nI b := by rfl) (ha : a < 2 ^ 31 := by omega) (hb : b < 2 ^ 31 := by omega) : (x = y → A) ∧ (¬ x = y → B) := by
  subst hx hy
  rw [nI_eq ha hb]
  exact ⟨f, g⟩
theorem pk_in {x : Int32} (n N : Nat) (h : n < N) (hx : x = nI n := by rfl) (hN : N < 2 ^ 31 := by omega) : vp_in x N := by
  subst hx
  exact vp_in_nI h hN
theorem pk_cl {x : Int32} (n : Nat) (hx : x = nI n := by rfl) (h : n < 2 ^ 31 := by omega) : x.toNatClampNeg = n := by
  subst hx
  exact nI_clamp h
theorem pk_tn {n : Nat} (h : n < 2 ^ 32) : (nI n).toBitVec.toNat = n := Nat.mod_eq_of_lt h
theorem pk_and (x : Int32) {m : Int32} (k : Nat) (hm : m.toBitVec.toNat = 2 ^ k - 1) : x &&& m = nI (x.toBitVec.toNat % 2 ^ k) := by
  apply Int32.toBitVec_inj.mp
  apply BitVec.eq_of_toNat_eq
  rw [Int32.toBitVec_and, BitVec.toNat_and, hm, Nat.and_two_pow_sub_one_eq_mod]
  show _ = (BitVec.ofNat 32 _).toNat
  rw [BitVec.toNat_ofNat]
  exact (Nat.mod_eq_of_lt (Nat.lt_of_le_of_lt (Nat.mod_le _ _) x.toBitVec.isLt)).symm
theorem pk_andN {n : Nat} (h : n < 2 ^ 32) {m : Int32} (k : Nat) (hm : m.toBitVec.toNat = 2 ^ k - 1) : nI n &&& m = nI (n % 2 ^ k) := by
  rw [pk_and _ k hm, pk_tn h]
theorem pk_andE (x : Int32) {m : Int32} (k : Nat) (hm : m.toBitVec.toNat = 2 ^ k - 1) : ∃ j : Nat, j < 2 ^ k ∧ x &&& m = nI j := ⟨_, Nat.mod_lt _ (Nat.two_pow_pos k), pk_and x k hm⟩
theorem pk_andIn (x : Int32) {m : Int32} (k : Nat) (hm : m.toBitVec.toNat = 2 ^ k - 1) (hk : k ≤ 30) : vp_in (x &&& m) (2 ^ k) := by
  obtain ⟨j, hj, e⟩ := pk_andE x k hm
  rw [e]
  exact vp_in_nI hj (Nat.lt_of_le_of_lt (Nat.pow_le_pow_right (by decide) hk) (by decide))
theorem pk_shl (a s : Int32) (k : Nat) (hs : (s.toBitVec.smod 32).toNat = k) : (a <<< s).toBitVec.toNat = a.toBitVec.toNat * 2 ^ k % 2 ^ 32 := by
  show (a.toBitVec <<< (s.toBitVec.smod 32).toNat).toNat = _
  rw [hs, BitVec.toNat_shiftLeft, Nat.shiftLeft_eq]
theorem pk_shlN {n : Nat} (s : Int32) (k : Nat) (hs : (s.toBitVec.smod 32).toNat = k) (h : n * 2 ^ k < 2 ^ 32) : nI n <<< s = nI (n * 2 ^ k) := by
  apply Int32.toBitVec_inj.mp
  apply BitVec.eq_of_toNat_eq
  have hn : n < 2 ^ 32 := Nat.lt_of_le_of_lt (Nat.le_mul_of_pos_right n (Nat.two_pow_pos k)) h
  rw [pk_shl _ _ k hs, pk_tn hn, pk_tn h, Nat.mod_eq_of_lt h]
theorem pk_shr (a s : Int32) (k : Nat) (hs : (s.toBitVec.smod 32).toNat = k) : (a >>> s).toInt = a.toInt >>> k := by
  show (a.toBitVec.sshiftRight (s.toBitVec.smod 32).toNat).toInt = _
  rw [hs, BitVec.toInt_sshiftRight]
  rfl
theorem pk_shrN {n : Nat} (h : n < 2 ^ 31) (s : Int32) (k : Nat) (hs : (s.toBitVec.smod 32).toNat = k) : nI n >>> s = nI (n / 2 ^ k) := by
  apply Int32.toInt_inj.mp
  have h2 : n / 2 ^ k ≤ n := Nat.div_le_self _ _
  rw [pk_shr _ _ k hs, nI_toInt h, nI_toInt (by omega), Int.shiftRight_eq_div_pow]
  rfl
theorem pk_ushr (x s : Int32) (k : Nat) (hs : ((s.toUInt32 &&& Int32.toUInt32 31).toBitVec % 32).toNat = k) : (x.toUInt32 >>> (s.toUInt32 &&& Int32.toUInt32 31)).toInt32.toBitVec.toNat = x.toBitVec.toNat / 2 ^ k := by
  have e : (x.toUInt32 >>> (s.toUInt32 &&& Int32.toUInt32 31)).toInt32.toBitVec = x.toBitVec >>> k := by
    rw [← hs]
    exact UInt32.toBitVec_shiftRight _ _
  rw [e, BitVec.toNat_ushiftRight, Nat.shiftRight_eq_div_pow]
theorem pk_ushrN {n : Nat} (hn : n < 2 ^ 32) (s : Int32) (k : Nat) (hs : ((s.toUInt32 &&& Int32.toUInt32 31).toBitVec % 32).toNat = k) : ((nI n).toUInt32 >>> (s.toUInt32 &&& Int32.toUInt32 31)).toInt32 = nI (n / 2 ^ k) := by
  apply Int32.toBitVec_inj.mp
  apply BitVec.eq_of_toNat_eq
  rw [pk_ushr _ s k hs, pk_tn hn, pk_tn (Nat.lt_of_le_of_lt (Nat.div_le_self _ _) hn)]
theorem pk_nb (z : Int32) : narrow .byte (.int z.toInt8.toInt32) = .int z.toInt8.toInt32 := congrArg Value.int (by simp)
theorem pk_ns (z : Int32) : narrow .short (.int z.toInt16.toInt32) = .int z.toInt16.toInt32 := congrArg Value.int (by simp)
theorem pk_fb (r : Int32) : fits .byte (.int r.toInt8.toInt32) = true := by
  have ⟨a, b⟩ := lg_i2b_range r
  have h1 : (-128 : Int32).toInt = -128 := by decide
  have h2 : (127 : Int32).toInt = 127 := by decide
  simp only [fits, Bool.and_eq_true, decide_eq_true_eq, Int32.le_iff_toInt_le, h1, h2]
  omega
theorem pk_fs (r : Int32) : fits .short (.int r.toInt16.toInt32) = true := by
  have ⟨a, b⟩ := lg_i2s_range r
  have h1 : (-32768 : Int32).toInt = -32768 := by decide
  have h2 : (32767 : Int32).toInt = 32767 := by decide
  simp only [fits, Bool.and_eq_true, decide_eq_true_eq, Int32.le_iff_toInt_le, h1, h2]
  omega
theorem pk_charN {q : Nat} (hq : q < 65536) : narrow .char (.int (nI q)) = .int (nI q) ∧ fits .char (.int (nI q)) = true := by
  constructor
  · have e : (nI q).toUInt32.toUInt16.toUInt32.toInt32 = nI q := by
      apply Int32.toBitVec_inj.mp
      apply BitVec.eq_of_toNat_eq
      show (nI q).toUInt32.toUInt16.toUInt32.toNat = q % 2 ^ 32
      rw [UInt16.toNat_toUInt32, UInt32.toNat_toUInt16, show (nI q).toUInt32.toNat = q % 2 ^ 32 from rfl]
      omega
    exact congrArg Value.int e
  · have a : (0 : Int32) ≤ nI q := nI_pos' (by omega)
    have b : nI q ≤ 65535 := nI_le (b := 65535) (by omega) (by decide)
    show (decide ((0 : Int32) ≤ nI q) && decide (nI q ≤ 65535)) = true
    rw [decide_eq_true a, decide_eq_true b]
    rfl
theorem pk_char (x : Int32) : (x.toUInt32 % 65536).toInt32 = nI (x.toBitVec.toNat % 65536) := by
  apply Int32.toBitVec_inj.mp
  apply BitVec.eq_of_toNat_eq
  rw [pk_tn (by omega)]
  show (x.toUInt32 % 65536).toNat = _
  rw [UInt32.toNat_mod]
  rfl
theorem pk_nc (x : Int32) : narrow .char (.int (x.toUInt32 % 65536).toInt32) = .int (x.toUInt32 % 65536).toInt32 := by
  rw [pk_char]
  exact (pk_charN (Nat.mod_lt _ (by decide))).1
theorem pk_fc (x : Int32) : fits .char (.int (x.toUInt32 % 65536).toInt32) = true := by
  rw [pk_char]
  exact (pk_charN (Nat.mod_lt _ (by decide))).2
theorem pk_vb (z : Int32) : vp_nar .byte z.toInt8.toInt32 = z.toInt8.toInt32 := by rw [vp_nar_byte]; simp
theorem pk_vs (z : Int32) : vp_nar .short z.toInt16.toInt32 = z.toInt16.toInt32 := by rw [vp_nar_short]; simp
theorem pk_vc (z : Int32) : vp_nar .char (z.toUInt32 % 65536).toInt32 = (z.toUInt32 % 65536).toInt32 := Value.int.inj (pk_nc z)
theorem pk_lT {n : Nat} (h : n < 2 ^ 63) : (lN n).toInt = (n : Int) := lg_ofNat_toInt h
theorem pk_lLT {a b : Nat} (ha : a < 2 ^ 63) (hb : b < 2 ^ 63) : lN a < lN b ↔ a < b := by
  rw [Int64.lt_iff_toInt_lt, pk_lT ha, pk_lT hb]; omega
theorem pk_lLE {a b : Nat} (ha : a < 2 ^ 63) (hb : b < 2 ^ 63) : lN a ≤ lN b ↔ a ≤ b := by
  rw [Int64.le_iff_toInt_le, pk_lT ha, pk_lT hb]; omega
theorem pk_lEQ {a b : Nat} (ha : a < 2 ^ 63) (hb : b < 2 ^ 63) : lN a = lN b ↔ a = b := by
  rw [← Int64.toInt_inj, pk_lT ha, pk_lT hb]; omega
theorem pk_lOf {x : Int64} (h : ¬ x < 0) : ∃ k : Nat, k < 2 ^ 63 ∧ x = lN k := by
  rw [Int64.lt_iff_toInt_lt] at h
  have h0 : (0 : Int64).toInt = 0 := by decide
  have hx := Int64.toInt_lt x
  refine ⟨x.toInt.toNat, by omega, Int64.toInt_inj.mp ?_⟩
  rw [pk_lT (by omega)]
  omega
theorem pk_lDiv {a b : Nat} (ha : a < 2 ^ 63) (h0 : 0 < b) (hb : b < 2 ^ 63) : lN a / lN b = lN (a / b) := by
  apply Int64.toInt_inj.mp
  rw [lg_ldiv_nonneg (by rw [pk_lT ha]; omega) (by rw [pk_lT hb]; omega), pk_lT ha, pk_lT hb, pk_lT (Nat.lt_of_le_of_lt (Nat.div_le_self a b) ha)]
  rfl
theorem pk_lRem {a b : Nat} (ha : a < 2 ^ 63) (h0 : 0 < b) (hb : b < 2 ^ 63) : lN a - lN a / lN b * lN b = lN (a % b) := by
  rw [pk_lDiv ha h0 hb, lN_mul, lN_sub (Nat.div_mul_le_self a b)]
  exact congrArg lN (by have := Nat.div_add_mod' a b; omega)
theorem pk_loop {σ : Type} (W : Nat → Nat → σ → Prop) (I : Nat → σ → Prop) (e i0 : Nat) (s : σ) (hi : i0 ≤ e) (h0 : I i0 s) (hx : ∀ n s, I e s → W (n + 1) e s)
    (hs : ∀ n i s, i < e → I i s → (∀ s', I (i + 1) s' → W n (i + 1) s') → W (n + 1) i s) : ∃ n, W n i0 s :=
  ⟨e + 1, loop_i W I e hx hs (e + 1) i0 s hi (by omega) h0⟩
theorem pk_loopD {σ : Type} (W : Nat → Nat → σ → Prop) (I : Nat → σ → Prop) (hx : ∀ n s, I 0 s → W (n + 1) 0 s)
    (hs : ∀ n i s, I (i + 1) s → (∀ s', I i s' → W n i s') → W (n + 1) (i + 1) s) : ∀ (e : Nat) (s : σ), I e s → W (e + 1) e s := by
  intro e
  induction e with
  | zero => exact fun s h => hx 0 s h
  | succ e ih => exact fun s h => hs (e + 1) e s h (fun s' h' => ih s' h')
theorem s_l : ∀ n, n < 32 → ((nI n &&& 31).toBitVec.smod 32).toNat = n := by decide +kernel
/-! ===== lN n to 2^64: shifts, and, or, masks, one bit ===== -/
theorem wb_tb (n : Nat) : (lN n).toBitVec = BitVec.ofNat 64 n := rfl
theorem wb_inj {a b : Int64} (h : a.toBitVec = b.toBitVec) : a = b := Int64.toBitVec_inj.mp h
theorem wb_tn {n : Nat} (h : n < 2 ^ 64) : (lN n).toBitVec.toNat = n := by rw [wb_tb, BitVec.toNat_ofNat, Nat.mod_eq_of_lt h]
theorem wb_of (x : Int64) : ∃ n, n < 2 ^ 64 ∧ x = lN n := ⟨x.toBitVec.toNat, x.toBitVec.isLt, wb_inj (by rw [wb_tb]; simp)⟩
theorem wb_of32 (x : Int32) : ∃ n, n < 2 ^ 32 ∧ x = nI n := ⟨x.toBitVec.toNat, x.toBitVec.isLt, Int32.toBitVec_inj.mp (by show _ = BitVec.ofNat 32 _; simp)⟩
theorem wb_c : ∀ k, k < 64 → ((nI k).toInt64 &&& 63) = lN k := by decide +kernel
theorem wb_cu : ∀ k, k < 64 → ((nI k).toInt64.toUInt64 &&& Int64.toUInt64 63) = UInt64.ofNat k := by decide +kernel
theorem wb_sm : ∀ k, k < 64 → (BitVec.ofNat 64 k).smod 64 = BitVec.ofNat 64 k := by decide +kernel
theorem wb_pw {a b : Nat} (h : a ≤ b) : 2 ^ b = 2 ^ a * 2 ^ (b - a) := by rw [← Nat.pow_add]; congr 1; omega
theorem wb_lt2 {a b : Nat} (h : a < b) : 2 ^ a < 2 ^ b := Nat.pow_lt_pow_right (by decide) h
theorem wb_mod (n : Nat) : lN n = lN (n % 2 ^ 64) := wb_inj (by rw [wb_tb, wb_tb]; apply BitVec.eq_of_toNat_eq; rw [BitVec.toNat_ofNat, BitVec.toNat_ofNat, Nat.mod_mod])
theorem wb_shr {n k : Nat} (hn : n < 2 ^ 64) (hk : k < 64) : ((lN n).toUInt64 >>> ((nI k).toInt64.toUInt64 &&& Int64.toUInt64 63)).toInt64 = lN (n / 2 ^ k) := by
  rw [wb_cu k hk]
  apply wb_inj
  apply BitVec.eq_of_toNat_eq
  show ((lN n).toUInt64 >>> UInt64.ofNat k).toNat = (BitVec.ofNat 64 _).toNat
  have h1 : (UInt64.ofNat k).toNat = k := by
    show (BitVec.ofNat 64 k).toNat = k
    rw [BitVec.toNat_ofNat, Nat.mod_eq_of_lt (by omega)]
  have h2 : (lN n).toUInt64.toNat = n := wb_tn hn
  rw [UInt64.toNat_shiftRight, h1, h2, Nat.mod_eq_of_lt hk, Nat.shiftRight_eq_div_pow, BitVec.toNat_ofNat, Nat.mod_eq_of_lt (Nat.lt_of_le_of_lt (Nat.div_le_self _ _) hn)]
theorem wb_shl (n : Nat) {k : Nat} (hk : k < 64) : lN n <<< ((nI k).toInt64 &&& 63) = lN (n * 2 ^ k) := by
  rw [wb_c k hk]
  apply wb_inj
  rw [Int64.toBitVec_shiftLeft, wb_tb, wb_tb, wb_tb, wb_sm k hk]
  apply BitVec.eq_of_toNat_eq
  rw [BitVec.shiftLeft_eq', BitVec.toNat_shiftLeft, BitVec.toNat_ofNat, BitVec.toNat_ofNat, BitVec.toNat_ofNat, Nat.mod_eq_of_lt (show k < 2 ^ 64 by omega), Nat.shiftLeft_eq, Nat.mul_mod, Nat.mod_mod, ← Nat.mul_mod]
theorem wb_and {a b : Nat} (ha : a < 2 ^ 64) (hb : b < 2 ^ 64) : lN a &&& lN b = lN (a &&& b) := by
  apply wb_inj
  rw [Int64.toBitVec_and, wb_tb, wb_tb, wb_tb]
  apply BitVec.eq_of_toNat_eq
  rw [BitVec.toNat_and, BitVec.toNat_ofNat, BitVec.toNat_ofNat, BitVec.toNat_ofNat, Nat.mod_eq_of_lt ha, Nat.mod_eq_of_lt hb, Nat.mod_eq_of_lt (Nat.and_lt_two_pow _ hb)]
theorem wb_or {a b : Nat} (ha : a < 2 ^ 64) (hb : b < 2 ^ 64) : lN a ||| lN b = lN (a ||| b) := by
  apply wb_inj
  rw [Int64.toBitVec_or, wb_tb, wb_tb, wb_tb]
  apply BitVec.eq_of_toNat_eq
  rw [BitVec.toNat_or, BitVec.toNat_ofNat, BitVec.toNat_ofNat, BitVec.toNat_ofNat, Nat.mod_eq_of_lt ha, Nat.mod_eq_of_lt hb, Nat.mod_eq_of_lt (Nat.or_lt_two_pow ha hb)]
theorem wb_mask {n k : Nat} (hn : n < 2 ^ 64) (hk : k < 64) : lN n &&& lN (2 ^ k - 1) = lN (n % 2 ^ k) := by
  rw [wb_and hn (by have := wb_lt2 hk; omega), Nat.and_two_pow_sub_one_eq_mod]
theorem wb_a1 {n : Nat} (hn : n < 2 ^ 64) : lN n &&& 1 = lN (n % 2) := wb_mask (k := 1) hn (by decide)
theorem wb_bit {n k : Nat} (hn : n < 2 ^ 64) (hk : k < 64) : ((lN n).toUInt64 >>> ((nI k).toInt64.toUInt64 &&& Int64.toUInt64 63)).toInt64 &&& 1 = lN (n / 2 ^ k % 2) := by
  rw [wb_shr hn hk, wb_a1 (Nat.lt_of_le_of_lt (Nat.div_le_self _ _) hn)]
theorem wb_xor {q k : Nat} (hk : k < 63) (h : 2 ^ k ≤ q) (h2 : q < 2 ^ (k + 1)) : lN q ^^^ lN (2 ^ k) = lN (q - 2 ^ k) := by
  obtain ⟨r, rfl⟩ : ∃ r, q = 2 ^ k + r := ⟨q - 2 ^ k, by omega⟩
  have hr : r < 2 ^ k := by rw [Nat.pow_succ] at h2; omega
  have hx : (2 ^ k + r) ^^^ 2 ^ k = r := by
    apply Nat.eq_of_testBit_eq
    intro i
    rw [Nat.testBit_xor, Nat.testBit_two_pow]
    rcases Nat.lt_trichotomy i k with h | h | h
    · rw [Nat.testBit_two_pow_add_gt h]
      simp [show ¬ k = i by omega]
    · subst h
      rw [Nat.testBit_two_pow_add_eq]
      simp
    · have a1 : 2 ^ (k + 1) ≤ 2 ^ i := Nat.pow_le_pow_right (by decide) h
      rw [Nat.testBit_lt_two_pow (show 2 ^ k + r < 2 ^ i by omega), Nat.testBit_lt_two_pow (show r < 2 ^ i by omega)]
      simp [show ¬ k = i by omega]
  have b1 := wb_lt2 (show k + 1 < 64 by omega)
  have b2 := wb_lt2 (show k < 64 by omega)
  apply wb_inj
  rw [Int64.toBitVec_xor, wb_tb, wb_tb, wb_tb]
  apply BitVec.eq_of_toNat_eq
  rw [BitVec.toNat_xor, BitVec.toNat_ofNat, BitVec.toNat_ofNat, BitVec.toNat_ofNat, Nat.mod_eq_of_lt (by omega : 2 ^ k + r < 2 ^ 64), Nat.mod_eq_of_lt b2, hx, Nat.add_sub_cancel_left, Nat.mod_eq_of_lt (by omega)]
/-! ===== lN: masks, 'or' of parts that don't overlap is a sum ===== -/
theorem u_tn {n : Nat} (h : n < 2 ^ 64) : (UInt64.ofNat n).toNat = n := Nat.mod_eq_of_lt h
theorem g_and {a b c : Nat} (ha : a < 2 ^ 64) (hb : b < 2 ^ 64) (hc : a &&& b = c) : lN a &&& lN b = lN c := by
  subst hc
  have h : UInt64.ofNat a &&& UInt64.ofNat b = UInt64.ofNat (a &&& b) := UInt64.toNat_inj.mp (by rw [UInt64.toNat_and, u_tn ha, u_tn hb, u_tn (Nat.and_lt_two_pow a hb)])
  have h2 := congrArg UInt64.toInt64 h
  exact h2
theorem g_and1 {a : Nat} (ha : a < 2 ^ 64) : lN a &&& 1 = lN (a % 2) := g_and (b := 1) ha (by decide) (Nat.and_two_pow_sub_one_eq_mod a 1)
theorem g_mask {a s p : Nat} (hp : 2 ^ s = p) (hs : s < 64) (ha : a < 2 ^ 64) : lN a &&& lN (p - 1) = lN (a % p) := by
  subst hp
  have := Nat.pow_lt_pow_right (show 1 < 2 by decide) hs
  exact g_and ha (by omega) (Nat.and_two_pow_sub_one_eq_mod a s)
theorem g_or {k p a b : Nat} (hp : 2 ^ k = p) (ha : a < p) (h : b * p + a < 2 ^ 64) : lN (b * p) ||| lN a = lN (b * p + a) := by
  subst hp
  have h1 : b * 2 ^ k ||| a = b * 2 ^ k + a := by rw [← Nat.shiftLeft_eq, Nat.shiftLeft_add_eq_or_of_lt ha]
  have h3 : UInt64.ofNat (b * 2 ^ k) ||| UInt64.ofNat a = UInt64.ofNat (b * 2 ^ k + a) := UInt64.toNat_inj.mp (by rw [UInt64.toNat_or, u_tn (by omega), u_tn (by omega), u_tn h, h1])
  have h2 := congrArg UInt64.toInt64 h3
  exact h2
theorem g_or' {k p a b : Nat} (hp : 2 ^ k = p) (ha : a < p) (h : a + b * p < 2 ^ 64) : lN a ||| lN (b * p) = lN (a + b * p) := by
  rw [Int64.or_comm, g_or hp ha (by omega), Nat.add_comm]
theorem g_ushr {a k p : Nat} {y : UInt64} (hy : y = UInt64.ofNat k) (hk : k < 64) (hp : 2 ^ k = p) (ha : a < 2 ^ 64) : ((lN a).toUInt64 >>> y).toInt64 = lN (a / p) := by
  subst hy hp
  have h : UInt64.ofNat a >>> UInt64.ofNat k = UInt64.ofNat (a / 2 ^ k) := UInt64.toNat_inj.mp (by rw [UInt64.toNat_shiftRight, u_tn ha, u_tn (by omega), u_tn (Nat.lt_of_le_of_lt (Nat.div_le_self _ _) ha), Nat.mod_eq_of_lt hk, Nat.shiftRight_eq_div_pow])
  have h2 := congrArg UInt64.toInt64 h
  exact h2
theorem g_shl {a k p : Nat} {y : Int64} (hy : y.toBitVec.smod 64 = BitVec.ofNat 64 k) (hk : k < 64) (hp : 2 ^ k = p) (ha : a < 2 ^ 64) : lN a <<< y = lN (a * p) := by
  subst hp
  apply Int64.toBitVec_inj.mp
  rw [Int64.toBitVec_shiftLeft, hy]
  apply BitVec.eq_of_toNat_eq
  have hb : (lN a).toBitVec.toNat = a := Nat.mod_eq_of_lt ha
  have hk' : (BitVec.ofNat 64 k).toNat = k := Nat.mod_eq_of_lt (by omega)
  have h : ((lN a).toBitVec <<< BitVec.ofNat 64 k).toNat = (a * 2 ^ k) % 2 ^ 64 := by simp only [BitVec.shiftLeft_eq', BitVec.toNat_shiftLeft, hb, hk', Nat.shiftLeft_eq]
  exact h
theorem ek_if {c d A B : Prop} (e : c ↔ d) (f : d → A) (g : ¬ d → B) : (c → A) ∧ (¬ c → B) :=
  ⟨fun z => f (e.mp z), fun z => g (fun y => z (e.mpr y))⟩
theorem ek_v {α : Sort _} {P : α → Prop} {a b : α} (e : a = b) (h : P b) : P a := e ▸ h
end
section
/-! arrays of naturals -/
def ar_g (f : Nat → Nat) : Nat → Int32 := fun j => nI (f j)
def ar_u (f : Nat → Nat) (k x : Nat) : Nat → Nat := fun j => if j = k then x else f j
theorem ar_us {f : Nat → Nat} {k x : Nat} : ar_u f k x k = x := if_pos rfl
theorem ar_un {f : Nat → Nat} {k j x : Nat} (h : j ≠ k) : ar_u f k x j = f j := if_neg h
theorem ar_get {f : Nat → Nat} {j : Nat} (h : j < 2 ^ 31) : ar_g f (nI j).toNatClampNeg = nI (f j) := by
  rw [nI_clamp h]; rfl
theorem ar_set0 (f : Nat → Nat) (j x : Nat) : upd (ar_g f) j (nI x) = ar_g (ar_u f j x) := by
  funext i
  unfold upd ar_g ar_u
  split <;> rfl
theorem ar_set {f : Nat → Nat} {j x : Nat} (h : j < 2 ^ 31) : upd (ar_g f) (nI j).toNatClampNeg (nI x) = ar_g (ar_u f j x) := by
  rw [nI_clamp h, ar_set0]
theorem ar_zero : (fun _ => 0 : Nat → Int32) = ar_g (fun _ => 0) := rfl
/-! the stream of bits -/
def bi_t (b : Nat → Nat) (i : Nat) : Nat := b (i / 8) / 2 ^ (7 - i % 8) % 2
def bi_n (b : Nat → Nat) (s : Nat) : Nat → Nat
  | 0 => 0
  | w + 1 => bi_n b s w * 2 + bi_t b (s + w)
def bi_w (b : Nat → Nat) (i0 : Nat) : Nat → Nat
  | 0 => 0
  | k + 1 => bi_w b i0 k * 256 + b (i0 + k)
def bi_s (N : Nat) : Nat → Nat
  | 0 => 0
  | j + 1 => bi_s N j * 256 + N / 2 ^ (8 * j) % 256
def bi_u (b : Nat → Nat) (s m : Nat) : Nat → Nat
  | 0 => 0
  | j + 1 => bi_u b s m j * 256 + bi_n b (s + 8 * (m - 1 - j)) 8
theorem bi_lt (b : Nat → Nat) (s w : Nat) : bi_n b s w < 2 ^ w := by
  induction w with
  | zero => exact Nat.one_pos
  | succ w ih =>
    have h : bi_t b (s + w) < 2 := Nat.mod_lt _ (by decide)
    show bi_n b s w * 2 + bi_t b (s + w) < 2 ^ (w + 1)
    rw [Nat.pow_succ]
    omega
theorem bi_add (b : Nat → Nat) (s u w : Nat) : bi_n b s (u + w) = bi_n b s u * 2 ^ w + bi_n b (s + u) w := by
  induction w with
  | zero => show bi_n b s u = bi_n b s u * 2 ^ 0 + 0; omega
  | succ w ih =>
    show bi_n b s (u + w) * 2 + bi_t b (s + (u + w)) = bi_n b s u * 2 ^ (w + 1) + (bi_n b (s + u) w * 2 + bi_t b (s + u + w))
    rw [ih, Nat.pow_succ, ← Nat.add_assoc s u w, ← Nat.mul_assoc]
    omega
theorem bi_256 : ∀ x, x < 256 → ((((((((0 * 2 + x / 2 ^ (7 - 0) % 2) * 2 + x / 2 ^ (7 - 1) % 2) * 2 + x / 2 ^ (7 - 2) % 2) * 2 + x / 2 ^ (7 - 3) % 2) * 2 + x / 2 ^ (7 - 4) % 2) * 2 + x / 2 ^ (7 - 5) % 2) * 2 + x / 2 ^ (7 - 6) % 2) * 2 + x / 2 ^ (7 - 7) % 2) = x := by
  decide +kernel
theorem bi_byte {b : Nat → Nat} (hb : ∀ i, b i < 256) (i : Nat) : bi_n b (8 * i) 8 = b i := by
  have h : ∀ j, j < 8 → bi_t b (8 * i + j) = b i / 2 ^ (7 - j) % 2 := by
    intro j hj
    unfold bi_t
    rw [show (8 * i + j) / 8 = i by omega, show (8 * i + j) % 8 = j by omega]
  show ((((((((0 * 2 + bi_t b (8 * i + 0)) * 2 + bi_t b (8 * i + 1)) * 2 + bi_t b (8 * i + 2)) * 2 + bi_t b (8 * i + 3)) * 2 + bi_t b (8 * i + 4)) * 2 + bi_t b (8 * i + 5)) * 2 + bi_t b (8 * i + 6)) * 2 + bi_t b (8 * i + 7)) = b i
  rw [h 0 (by omega), h 1 (by omega), h 2 (by omega), h 3 (by omega), h 4 (by omega), h 5 (by omega), h 6 (by omega), h 7 (by omega)]
  exact bi_256 (b i) (hb i)
theorem bi_wn {b : Nat → Nat} (hb : ∀ i, b i < 256) (i0 k : Nat) : bi_w b i0 k = bi_n b (8 * i0) (8 * k) := by
  induction k with
  | zero => rfl
  | succ k ih =>
    rw [show 8 * (k + 1) = 8 * k + 8 by omega, bi_add, ← ih, show 8 * i0 + 8 * k = 8 * (i0 + k) by omega, bi_byte hb]
    rfl
theorem bi_wlt {b : Nat → Nat} (hb : ∀ i, b i < 256) (i0 k : Nat) : bi_w b i0 k < 2 ^ (8 * k) := by
  rw [bi_wn hb]; exact bi_lt _ _ _
theorem bi_ext (b : Nat → Nat) (s u w x : Nat) : bi_n b s (u + (w + x)) / 2 ^ x % 2 ^ w = bi_n b (s + u) w := by
  have h1 := bi_lt b (s + u) w
  have h2 := bi_lt b (s + u + w) x
  rw [bi_add, bi_add b (s + u) w x, Nat.pow_add]
  have e : bi_n b s u * (2 ^ w * 2 ^ x) + (bi_n b (s + u) w * 2 ^ x + bi_n b (s + u + w) x) = bi_n b (s + u + w) x + 2 ^ x * (bi_n b s u * 2 ^ w + bi_n b (s + u) w) := by
    rw [Nat.mul_add, ← Nat.mul_assoc, Nat.mul_comm (2 ^ x) (bi_n b s u * 2 ^ w), Nat.mul_comm (2 ^ x) (bi_n b (s + u) w)]
    omega
  rw [e, Nat.add_mul_div_left _ _ (Nat.two_pow_pos x), Nat.div_eq_of_lt h2, Nat.zero_add, Nat.add_comm, Nat.add_mul_mod_self_right, Nat.mod_eq_of_lt h1]
theorem bi_read {b : Nat → Nat} (hb : ∀ i, b i < 256) {s w i0 k x : Nat} (h1 : 8 * i0 ≤ s) (h2 : s + w + x = 8 * (i0 + k)) : bi_w b i0 k / 2 ^ x % 2 ^ w = bi_n b s w := by
  rw [bi_wn hb, show 8 * k = (s - 8 * i0) + (w + x) by omega, bi_ext, show 8 * i0 + (s - 8 * i0) = s by omega]
theorem bi_su (b : Nat → Nat) (s m j : Nat) (h : j ≤ m) : bi_s (bi_n b s (8 * m)) j = bi_u b s m j := by
  induction j with
  | zero => rfl
  | succ j ih =>
    show bi_s (bi_n b s (8 * m)) j * 256 + bi_n b s (8 * m) / 2 ^ (8 * j) % 2 ^ 8 = bi_u b s m j * 256 + bi_n b (s + 8 * (m - 1 - j)) 8
    rw [ih (by omega)]
    have e : bi_n b s (8 * m) = bi_n b s (8 * (m - 1 - j) + (8 + 8 * j)) := congrArg (bi_n b s) (by omega)
    rw [e, bi_ext]
theorem bi_slt (N j : Nat) : bi_s N j < 2 ^ (8 * j) := by
  induction j with
  | zero => exact Nat.one_pos
  | succ j ih =>
    have h : N / 2 ^ (8 * j) % 256 < 256 := Nat.mod_lt _ (by decide)
    show bi_s N j * 256 + N / 2 ^ (8 * j) % 256 < 2 ^ (8 * j + 8)
    rw [Nat.pow_add]
    omega
theorem bi_p2 {a k : Nat} (h : a ≤ k) : 2 ^ a ≤ 2 ^ k := Nat.pow_le_pow_right (by decide) h
/-- the number of a field ahead of its sign -/
def bi_N (b : Nat → Nat) (s w fl : Nat) : Nat := if fl ≤ 1 then bi_n b s w else bi_u b s (w / 8) (w / 8)
def bi_g (N w fl : Nat) : Int32 := if fl % 2 = 1 ∧ 0 < w ∧ N / 2 ^ (w - 1) % 2 = 1 then nI N - nI (2 ^ w) else nI N
def bi_f (b : Nat → Nat) (s w fl : Nat) : Int32 := bi_g (bi_N b s w fl) w fl
end
section
section
variable {t c L n ft : Nat} {bu ps : Int32} {K A B C bg b sg par lev ch sb en pl : Nat → Nat} {va lf : Nat → Int32}
theorem xr_57 {post : Int64 → Prop} {s w la W x : Nat} (hx : s + w + x = 8 * la + 8) (hs : s + w ≤ 64) (hw : w ≤ 32) (hx8 : x < 8) (hW : W < 2 ^ 64) (h : post (lN (W / 2 ^ x % 2 ^ w))) : wX_read_57 post (nI s) (nI w) (nI la) (lN W) (nI t) (nI c) (nI L) bu (nI n) ps (nI ft) (ar_g K) (ar_g A) (ar_g B) (ar_g C) (ar_g bg) (ar_g b) (ar_g sg) (ar_g par) (ar_g lev) (ar_g ch) (ar_g sb) (ar_g en) (ar_g pl) va lf := by
  refine nm_r (e' := nI x) ?_ ?_
  · show (((nI la * nI 8) + nI 8) - nI s) - nI w = nI x
    rw [pk_mul, nI_add, pk_sub (by omega), pk_sub (by omega)]
    exact congrArg nI (by omega)
  · show post ((((lN W).toUInt64 >>> ((nI x).toInt64.toUInt64 &&& Int64.toUInt64 63)).toInt64) &&& ((lN 1 <<< ((nI w).toInt64 &&& 63)) - lN 1))
    rw [wb_shr hW (by omega), wb_shl 1 (by omega), Nat.one_mul, lN_sub (Nat.two_pow_pos w), wb_mask (Nat.lt_of_le_of_lt (Nat.div_le_self _ _) hW) (by omega)]
    exact h
theorem xr_22 {post : Int64 → Prop} {s w la : Nat} (hb : ∀ i, b i < 256) (hla : la = (s + w - 1) / 8) (h0 : 0 < w) (hw : w ≤ 32) (hs : s + w ≤ 64) (h : post (lN (bi_n b s w))) : ∀ d k, s / 8 + k + d = la + 1 → wX_read_22 post (nI s) (nI w) (nI la) (nI t) (nI c) (nI L) bu (nI n) ps (nI ft) (ar_g K) (ar_g A) (ar_g B) (ar_g C) (ar_g bg) (ar_g b) (ar_g sg) (ar_g par) (ar_g lev) (ar_g ch) (ar_g sb) (ar_g en) (ar_g pl) va lf (d + 1) (lN (bi_w b (s / 8) k)) (nI (s / 8 + k)) := by
  intro d
  induction d with
  | zero =>
    intro k hk
    have hW : bi_w b (s / 8) k < 2 ^ 64 := Nat.lt_of_lt_of_le (bi_wlt hb _ _) (bi_p2 (by omega))
    refine pk_lt la (s / 8 + k) (fun _ => ?_) (fun z => absurd z (by omega))
    refine xr_57 (x := 8 * la + 8 - s - w) (by omega) hs hw (by omega) hW ?_
    rw [bi_read (s := s) hb (by omega) (by omega)]
    exact h
  | succ d ih =>
    intro k hk
    have hW : bi_w b (s / 8) k < 2 ^ 32 := Nat.lt_of_lt_of_le (bi_wlt hb _ _) (bi_p2 (by omega))
    have hB := hb (s / 8 + k)
    refine pk_lt la (s / 8 + k) (fun z => absurd z (by omega)) (fun _ => pk_le 8 (s / 8 + k) (fun z => absurd z (by omega)) (fun _ => ⟨pk_in (s / 8 + k) 8 (by omega), nm_r (e' := lN (bi_w b (s / 8) (k + 1))) ?_ (nm_r (e' := nI (s / 8 + (k + 1))) ?_ (ih (k + 1) (by omega)))⟩))
    · rw [ar_get (by omega), nI_l (by omega), show (8 : Int32) = nI 8 from rfl, wb_shl _ (by decide)]
      exact g_or (k := 8) (p := 2 ^ 8) rfl hB (by omega)
    · exact nI_1 _
theorem xr_read {post : Int64 → Prop} {s w : Nat} (hb : ∀ i, b i < 256) (hw : w ≤ 32) (hs : s + w ≤ 64) (h : post (lN (bi_n b s w))) : wpX_read post (nI t, nI c, nI L, bu, nI n, ps, nI ft, ar_g K, ar_g A, ar_g B, ar_g C, ar_g bg, ar_g b, ar_g sg, ar_g par, ar_g lev, ar_g ch, ar_g sb, ar_g en, ar_g pl, va, lf) (nI s) (nI w) := by
  refine pk_eq w 0 (fun e => ?_) (fun e => ?_)
  · subst e
    exact h
  · refine nm_r (e' := nI ((s + w - 1) / 8)) ?_ (nm_r (e' := nI (s / 8)) ?_ ⟨(s + w - 1) / 8 + 1 - s / 8 + 1, ?_⟩)
    · show ((nI s + nI w) - nI 1) >>> ((3 : Int32) &&& 31) = _
      rw [nI_add, pk_sub (by omega)]
      exact pk_shrN (by omega) _ 3 (by decide)
    · exact pk_shrN (by omega) _ 3 (by decide)
    · exact xr_22 hb rfl (by omega) hw hs h ((s + w - 1) / 8 + 1 - s / 8) 0 (by omega)
theorem xr_sw6 {post : Int64 → Prop} {N m : Nat} (hN : N < 2 ^ 64) (hm : m ≤ 4) (h : post (lN (bi_s N m))) : ∀ d j, j + d = m → wX_swapped_6 post (lN N) (nI (8 * m)) (nI t) (nI c) (nI L) bu (nI n) ps (nI ft) (ar_g K) (ar_g A) (ar_g B) (ar_g C) (ar_g bg) (ar_g b) (ar_g sg) (ar_g par) (ar_g lev) (ar_g ch) (ar_g sb) (ar_g en) (ar_g pl) va lf (d + 1) (lN (bi_s N j)) (nI (8 * j)) := by
  intro d
  induction d with
  | zero =>
    intro j hj
    have e : j = m := by omega
    subst e
    exact pk_le (8 * j) (8 * j) (fun _ => h) (fun z => absurd z (by omega))
  | succ d ih =>
    intro j hj
    have hS : bi_s N j < 2 ^ 32 := Nat.lt_of_lt_of_le (bi_slt _ _) (bi_p2 (by omega))
    have hB : N / 2 ^ (8 * j) % 256 < 256 := Nat.mod_lt _ (by decide)
    refine pk_le (8 * m) (8 * j) (fun z => absurd z (by omega)) (fun _ => nm_r (e' := lN (bi_s N (j + 1))) ?_ (nm_r (e' := nI (8 * (j + 1))) ?_ (ih (j + 1) (by omega))))
    · rw [show (8 : Int32) = nI 8 from rfl, wb_shl _ (by decide), wb_shr hN (by omega), show (255 : Int64) = lN (2 ^ 8 - 1) from rfl, wb_mask (Nat.lt_of_le_of_lt (Nat.div_le_self _ _) hN) (by decide)]
      exact g_or (k := 8) (p := 2 ^ 8) rfl hB (by omega)
    · show nI (8 * j) + nI 8 = _
      rw [nI_add]
      exact congrArg nI (by omega)
theorem xr_sw {post : Int64 → Prop} {N m : Nat} (hN : N < 2 ^ 64) (hm : m ≤ 4) (h : post (lN (bi_s N m))) : wpX_swapped post (nI t, nI c, nI L, bu, nI n, ps, nI ft, ar_g K, ar_g A, ar_g B, ar_g C, ar_g bg, ar_g b, ar_g sg, ar_g par, ar_g lev, ar_g ch, ar_g sb, ar_g en, ar_g pl, va, lf) (lN N) (nI (8 * m)) :=
  ⟨m + 1, xr_sw6 hN hm h m 0 (by omega)⟩
theorem xr_fv22 {post : Int32 → Prop} {w fl N : Nat} (hw : w ≤ 32) (hfl : fl ≤ 3) (hN : N < 2 ^ w) (h : post (bi_g N w fl)) : wX_fieldValue_22 post (nI w) (nI fl) (lN N) (nI t) (nI c) (nI L) bu (nI n) ps (nI ft) (ar_g K) (ar_g A) (ar_g B) (ar_g C) (ar_g bg) (ar_g b) (ar_g sg) (ar_g par) (ar_g lev) (ar_g ch) (ar_g sb) (ar_g en) (ar_g pl) va lf := by
  have hN' : N < 2 ^ 64 := Nat.lt_of_lt_of_le hN (bi_p2 (by omega))
  have e1 : (nI fl &&& 1) = nI (fl % 2) := pk_andN (by omega) 1 (by decide)
  have e0 : (lN N).toInt32 = nI N := lN_i N
  unfold bi_g at h
  refine pk_eq (fl % 2) 1 (fun h1 => ?_) (fun h1 => ?_) e1
  · refine pk_le w 0 (fun h2 => ?_) (fun h2 => ?_)
    · rw [if_neg (by omega)] at h
      rw [e0]
      exact h
    · have e2 : (((lN N).toUInt64 >>> ((nI w - 1).toInt64.toUInt64 &&& Int64.toUInt64 63)).toInt64) &&& 1 = lN (N / 2 ^ (w - 1) % 2) := by
        rw [show nI w - 1 = nI (w - 1) from pk_sub (b := 1) (by omega), wb_bit hN' (by omega)]
      have hm : N / 2 ^ (w - 1) % 2 < 2 := Nat.mod_lt _ (by decide)
      refine ek_if (d := N / 2 ^ (w - 1) % 2 = 1) (by rw [e2]; exact lN_eq (b := 1) (Nat.lt_trans hm (by decide)) (by decide)) (fun h3 => ?_) (fun h3 => ?_)
      · rw [if_pos ⟨h1, h2, h3⟩] at h
        refine nm_r (e' := lN N - lN (2 ^ w)) ?_ ?_
        · show lN N - (lN 1 <<< ((nI w).toInt64 &&& 63)) = _
          rw [wb_shl 1 (by omega), Nat.one_mul]
        · rw [Int64.toInt32_sub, lN_i, lN_i]
          exact h
      · rw [if_neg (fun z => h3 z.2.2)] at h
        rw [e0]
        exact h
  · rw [if_neg (fun z => h1 z.1)] at h
    rw [e0]
    exact h
theorem xr_fv {post : Int32 → Prop} {s w fl : Nat} (hb : ∀ i, b i < 256) (hw : w ≤ 32) (hs : s + w ≤ 64) (hfl : fl ≤ 3) (h8 : 1 < fl → w % 8 = 0) (h : post (bi_f b s w fl)) : wpX_fieldValue post (nI t, nI c, nI L, bu, nI n, ps, nI ft, ar_g K, ar_g A, ar_g B, ar_g C, ar_g bg, ar_g b, ar_g sg, ar_g par, ar_g lev, ar_g ch, ar_g sb, ar_g en, ar_g pl, va, lf) (nI s) (nI w) (nI fl) := by
  unfold bi_f bi_N at h
  unfold wpX_fieldValue
  dsimp only
  have hn := bi_lt b s w
  refine xr_read hb hw hs ?_
  refine pk_le fl 1 (fun h1 => ?_) (fun h1 => ?_)
  · rw [if_pos h1] at h
    exact xr_fv22 hw hfl hn h
  · rw [if_neg (by omega)] at h
    obtain ⟨m, rfl⟩ : ∃ m, w = 8 * m := ⟨w / 8, by have := h8 h1; omega⟩
    have em : 8 * m / 8 = m := by omega
    rw [em, ← bi_su b s m m (Nat.le_refl m)] at h
    exact xr_sw (Nat.lt_of_lt_of_le hn (bi_p2 (by omega))) (by omega) (xr_fv22 hw hfl (bi_slt _ _) h)
end
end
section
section
variable {c L : Nat} {pa : Int32} {YK Y1 Y2 Y3 sz b : Nat → Nat} {vs : Nat → Int32}
theorem yr_bit {post : Int32 → Prop} {i : Nat} (hb : ∀ i, b i < 256) (hi : i < 64) (h : post (nI (bi_t b i))) : wpY_bit post (nI c, nI L, pa, ar_g YK, ar_g Y1, ar_g Y2, ar_g Y3, ar_g sz, ar_g b, vs) (nI i) := by
  have hB := hb (i / 8)
  have e : nI i >>> ((3 : Int32) &&& 31) = nI (i / 8) := pk_shrN (by omega) _ 3 (by decide)
  have e7 : nI i &&& 7 = nI (i % 8) := pk_andN (by omega) 3 (by decide)
  have e8 : (7 : Int32) - nI (i % 8) = nI (7 - i % 8) := pk_sub (a := 7) (by omega)
  have e2 : (ar_g b (nI i >>> ((3 : Int32) &&& 31)).toNatClampNeg >>> ((7 - (nI i &&& 7)) &&& 31)) &&& 1 = nI (bi_t b i) := by
    rw [e, ar_get (by omega), e7, e8, pk_shrN (by omega) _ (7 - i % 8) (s_l _ (by omega))]
    exact pk_andN (Nat.lt_of_le_of_lt (Nat.div_le_self _ _) (by omega)) 1 (by decide)
  refine And.intro (pk_in (i / 8) 8 (by omega) e) ?_
  exact ek_v (P := post) e2 h
theorem yr_n5 {post : Int32 → Prop} {s w : Nat} (hb : ∀ i, b i < 256) (hs : s + w ≤ 64) (h : post (nI (bi_n b s w))) : ∀ d j, j + d = w → wY_number_5 post (nI s) (nI w) (nI c) (nI L) pa (ar_g YK) (ar_g Y1) (ar_g Y2) (ar_g Y3) (ar_g sz) (ar_g b) vs (d + 1) (nI (bi_n b s j)) (nI j) := by
  intro d
  induction d with
  | zero =>
    intro j hj
    have e : j = w := by omega
    subst e
    exact pk_le j j (fun _ => h) (fun z => absurd z (by omega))
  | succ d ih =>
    intro j hj
    refine pk_le w j (fun z => absurd z (by omega)) (fun _ => ?_)
    rw [nI_add s j]
    refine yr_bit hb (by omega) (nm_r (e' := nI (bi_n b s (j + 1))) ?_ (nm_r (e' := nI (j + 1)) (nI_1 j) (ih (j + 1) (by omega))))
    show nI _ * nI 2 + nI _ = _
    rw [pk_mul, nI_add]
    rfl
theorem yr_num {post : Int32 → Prop} {s w : Nat} (hb : ∀ i, b i < 256) (hs : s + w ≤ 64) (h : post (nI (bi_n b s w))) : wpY_number post (nI c, nI L, pa, ar_g YK, ar_g Y1, ar_g Y2, ar_g Y3, ar_g sz, ar_g b, vs) (nI s) (nI w) :=
  ⟨w + 1, yr_n5 hb hs h w 0 (by omega)⟩
theorem yr_t10 {post : Int32 → Prop} {s m : Nat} (hb : ∀ i, b i < 256) (hs : s + 8 * m ≤ 64) (h : post (nI (bi_u b s m m))) : ∀ d j, j + d = m → wY_turned_10 post (nI s) (nI c) (nI L) pa (ar_g YK) (ar_g Y1) (ar_g Y2) (ar_g Y3) (ar_g sz) (ar_g b) vs (d + 1) (nI (bi_u b s m j)) (nI d - 1) := by
  intro d
  induction d with
  | zero =>
    intro j hj
    have e : j = m := by omega
    subst e
    exact br_t (by decide) h
  | succ d ih =>
    intro j hj
    rw [nI_pred d]
    refine br_f (nI_pos (by omega)) ?_
    have e : nI s + 8 * nI d = nI (s + 8 * (m - 1 - j)) := by
      show nI s + nI 8 * nI d = _
      rw [pk_mul, nI_add]
      exact congrArg nI (by omega)
    rw [e]
    refine yr_num (w := 8) hb (by omega) (nm_r (e' := nI (bi_u b s m (j + 1))) ?_ (nm_r (e' := nI d - 1) ?_ (ih (j + 1) (by omega))))
    · show nI _ * nI 256 + nI _ = _
      rw [pk_mul, nI_add]
      rfl
    · exact (Int32.sub_eq_add_neg _ _).symm
theorem yr_tu {post : Int32 → Prop} {s m : Nat} (hb : ∀ i, b i < 256) (hs : s + 8 * m ≤ 64) (h : post (nI (bi_u b s m m))) : wpY_turned post (nI c, nI L, pa, ar_g YK, ar_g Y1, ar_g Y2, ar_g Y3, ar_g sz, ar_g b, vs) (nI s) (nI (8 * m)) := by
  refine And.intro (by decide) (nm_r (e' := nI m - 1) ?_ ⟨m + 1, yr_t10 hb hs h m 0 (by omega)⟩)
  have e : nI (8 * m) / 8 = nI m := by
    refine (pk_div (d := 8) (by omega) (by decide) (by decide)).trans ?_
    exact congrArg nI (by omega)
  rw [e]
theorem yr_37 {post : Int32 → Prop} {w N : Nat} (hw : w ≤ 32) (hN : N < 2 ^ w) (h : post (bi_g N w 1)) : wY_fieldValue_37 post (nI w) (nI N) 1 (nI c) (nI L) pa (ar_g YK) (ar_g Y1) (ar_g Y2) (ar_g Y3) (ar_g sz) (ar_g b) vs := by
  unfold bi_g at h
  refine br_f (by decide) (pk_le w 0 (fun h2 => ?_) (fun h2 => ?_))
  · rw [if_neg (by omega)] at h
    exact h
  · refine pk_le 32 w (fun h3 => ?_) (fun h3 => ?_)
    · have e : w = 32 := by omega
      subst e
      have ez : nI N - nI (2 ^ 32) = nI N := by
        rw [show nI (2 ^ 32) = 0 from by decide, Int32.sub_zero]
      rw [ez] at h
      split at h <;> exact h
    · have hN' : N < 2 ^ 31 := Nat.lt_of_lt_of_le hN (bi_p2 (by omega))
      have e1 : nI w - 1 = nI (w - 1) := pk_sub (b := 1) (by omega)
      have e2 : (nI N >>> ((nI w - 1) &&& 31)) &&& 1 = nI (N / 2 ^ (w - 1) % 2) := by
        rw [e1, pk_shrN hN' _ (w - 1) (s_l _ (by omega))]
        exact pk_andN (Nat.lt_of_le_of_lt (Nat.div_le_self _ _) (by omega)) 1 (by decide)
      have hm : N / 2 ^ (w - 1) % 2 < 2 := Nat.mod_lt _ (by decide)
      refine ek_if (d := N / 2 ^ (w - 1) % 2 = 1) (by rw [e2]; exact nI_eq (b := 1) (Nat.lt_trans hm (by decide)) (by decide)) (fun h4 => ?_) (fun h4 => ?_)
      · rw [if_pos ⟨rfl, h2, h4⟩] at h
        refine nm_r (e' := nI N - nI (2 ^ w)) ?_ h
        show nI N - (nI 1 <<< (nI w &&& 31)) = _
        have hp : 2 ^ w < 2 ^ 32 := Nat.pow_lt_pow_right (by decide) h3
        rw [pk_shlN _ w (s_l w h3) (by omega), Nat.one_mul]
      · rw [if_neg (fun z => h4 z.2.2)] at h
        exact h
theorem bi_g1 {N w fl : Nat} (h : fl % 2 = 1) : bi_g N w fl = bi_g N w 1 := by
  unfold bi_g
  rw [h]
theorem bi_g0 {N w fl : Nat} (h : fl % 2 ≠ 1) : bi_g N w fl = nI N := by
  unfold bi_g
  rw [if_neg (fun z => h z.1)]
theorem yr_20 {post : Int32 → Prop} {w fl N : Nat} (hw : w ≤ 32) (hfl : fl ≤ 3) (hN : N < 2 ^ w) (h : post (bi_g N w fl)) : wY_fieldValue_20 post (nI w) (nI fl) (nI N) (nI c) (nI L) pa (ar_g YK) (ar_g Y1) (ar_g Y2) (ar_g Y3) (ar_g sz) (ar_g b) vs := by
  refine pk_eq fl 1 (fun h1 => ?_) (fun h1 => pk_eq fl 3 (fun h3 => ?_) (fun h3 => ?_))
  · rw [bi_g1 (by omega)] at h
    exact yr_37 hw hN h
  · rw [bi_g1 (by omega)] at h
    exact yr_37 hw hN h
  · rw [bi_g0 (by omega)] at h
    exact br_t rfl h
theorem yr_fv {post : Int32 → Prop} {s w fl : Nat} (hb : ∀ i, b i < 256) (hw : w ≤ 32) (hs : s + w ≤ 64) (hfl : fl ≤ 3) (h8 : 1 < fl → w % 8 = 0) (h : post (bi_f b s w fl)) : wpY_fieldValue post (nI c, nI L, pa, ar_g YK, ar_g Y1, ar_g Y2, ar_g Y3, ar_g sz, ar_g b, vs) (nI s) (nI w) (nI fl) := by
  unfold bi_f bi_N at h
  have hn := bi_lt b s w
  refine pk_le fl 1 (fun h1 => ?_) (fun h1 => ?_)
  · rw [if_pos h1] at h
    exact yr_num hb hs (yr_20 hw hfl hn h)
  · rw [if_neg (by omega)] at h
    obtain ⟨m, rfl⟩ : ∃ m, w = 8 * m := ⟨w / 8, by have := h8 h1; omega⟩
    have em : 8 * m / 8 = m := by omega
    rw [em] at h
    refine yr_tu hb hs (yr_20 hw hfl ?_ h)
    rw [← bi_su b s m m (Nat.le_refl m)]
    exact bi_slt _ _
end
end
section
/-! one segment as a pure step -/
def sp_V (k x y z : Nat) : Prop := k ≤ 5 ∧ (k = 0 → x ≤ 16 ∧ y < 2 ^ 31) ∧ (k = 1 → x ≤ 3 ∧ y ≤ 32 ∧ z ≤ 3 ∧ (1 < z → y % 8 = 0)) ∧ (k = 2 → x ≤ 3 ∧ y ≤ 3 ∧ z ≤ 8) ∧ (k = 3 → y ≤ 3 ∧ z ≤ 8) ∧ (k = 4 → x ≤ 3 ∧ y ≤ 3) ∧ (k = 5 → x ≤ 3)
def sp_w (k x y z : Nat) (v : Nat → Int32) : Int32 := if k = 0 then nI x else if k = 1 then nI y else v y * nI z
def sp_o (b : Nat → Nat) (k x y z p : Nat) (v : Nat → Int32) (w : Nat) : Option (Nat × (Nat → Int32)) :=
  if k = 0 then (if bi_n b p w = y then some (p + w, v) else none)
  else if k = 3 then some (p + w, v) else some (p + w, upd v x (bi_f b p w (if k = 1 then z else 0)))
def sp_s (b : Nat → Nat) (L k x y z : Nat) (s : Nat × (Nat → Int32)) : Option (Nat × (Nat → Int32)) :=
  if k = 4 then (if s.2 x = s.2 y then some s else none)
  else if k = 5 then some (8 * L, upd s.2 x (nI (8 * L - s.1)))
  else if sp_w k x y z s.2 < 0 ∨ nI (8 * L - s.1) < sp_w k x y z s.2 ∨ (k = 2 ∧ 32 < sp_w k x y z s.2) then none
  else sp_o b k x y z s.1 s.2 (sp_w k x y z s.2).toNatClampNeg
theorem sp_fail {b : Nat → Nat} {L k x y z : Nat} {s : Nat × (Nat → Int32)} (hk : k ≤ 3) (h : sp_w k x y z s.2 < 0 ∨ nI (8 * L - s.1) < sp_w k x y z s.2 ∨ (k = 2 ∧ 32 < sp_w k x y z s.2)) : sp_s b L k x y z s = none := by
  unfold sp_s
  rw [if_neg (by omega), if_neg (by omega), if_pos h]
theorem sp_ok {b : Nat → Nat} {L k x y z W : Nat} {s : Nat × (Nat → Int32)} (hk : k ≤ 3) (hL : L ≤ 8) (hw : sp_w k x y z s.2 = nI W) (hW : W ≤ 8 * L - s.1) (h2 : k = 2 → W ≤ 32) : sp_s b L k x y z s = sp_o b k x y z s.1 s.2 W := by
  unfold sp_s
  rw [if_neg (by omega), if_neg (by omega), hw, if_neg, nI_clamp (by omega)]
  intro h
  rcases h with h | h | ⟨h3, h⟩
  · exact nI_pos (by omega) h
  · exact nI_nlt hW (by omega) h
  · exact nI_nlt (b := W) (a := 32) (h2 h3) (by decide) h
theorem sp_le {b : Nat → Nat} {L k x y z : Nat} {s s' : Nat × (Nat → Int32)} (hk : k ≤ 5) (hL : L ≤ 8) (hs : s.1 ≤ 8 * L) (h : sp_s b L k x y z s = some s') : s'.1 ≤ 8 * L := by
  unfold sp_s at h
  split at h
  · split at h
    · cases h; exact hs
    · cases h
  · split at h
    · cases h; exact Nat.le_refl _
    · split at h
      · cases h
      · rename_i h4 h5 h6
        have h0 : ¬ sp_w k x y z s.2 < 0 := fun q => h6 (Or.inl q)
        have h1 : ¬ nI (8 * L - s.1) < sp_w k x y z s.2 := fun q => h6 (Or.inr (Or.inl q))
        obtain ⟨W, hW, e⟩ := nI_of h0
        rw [e] at h1
        rw [nI_ltI (by omega) hW] at h1
        rw [e, nI_clamp hW] at h
        unfold sp_o at h
        split at h
        · split at h
          · cases h
            show s.1 + W ≤ 8 * L
            omega
          · cases h
        · split at h
          · cases h
            show s.1 + W ≤ 8 * L
            omega
          · cases h
            show s.1 + W ≤ 8 * L
            omega
/-! X's side -/
def xe_O (o : Option (Nat × (Nat → Int32))) (l : Nat) (r : Int32) (pl : Nat → Nat) (va : Nat → Int32) : Prop :=
  (o = none ∧ r = 0) ∨ ∃ s', o = some s' ∧ r = 1 ∧ pl (l + 1) = s'.1 ∧ ∀ x, x < 4 → va (4 * (l + 1) + x) = s'.2 x
theorem xe_ix (a x : Nat) : nI a * 4 + nI x = nI (4 * a + x) := by
  show nI a * nI 4 + nI x = _
  rw [pk_mul, nI_add, Nat.mul_comm]
theorem xe_ix' (l x : Nat) : nI (l + 1) * 4 - 4 + nI x = nI (4 * l + x) := by
  show nI (l + 1) * nI 4 - nI 4 + nI x = _
  rw [pk_mul, pk_sub (by omega), nI_add]
  exact congrArg nI (by omega)
section
variable {t c L n ft : Nat} {bu ps : Int32} {K A B C bg b sg par lev ch sb en pl : Nat → Nat} {va lf : Nat → Int32}
theorem xe_left {to : Nat} (hto : to < 7) (hp : pl to ≤ 8 * L) : nI L * 8 - ar_g pl (nI to).toNatClampNeg = nI (8 * L - pl to) := by
  rw [ar_get (by omega)]
  show nI L * nI 8 - _ = _
  rw [pk_mul, pk_sub (by omega), Nat.mul_comm]
theorem xe_pass {post : Int32 → SX → Prop} {to : Nat} {w : Int32} (hto : to < 7) (hL : L ≤ 8) (hp : pl to ≤ 8 * L) (h0 : (w < 0 ∨ nI (8 * L - pl to) < w) → post 0 (nI t, nI c, nI L, bu, nI n, ps, nI ft, ar_g K, ar_g A, ar_g B, ar_g C, ar_g bg, ar_g b, ar_g sg, ar_g par, ar_g lev, ar_g ch, ar_g sb, ar_g en, ar_g pl, va, lf)) (h1 : ∀ W, w = nI W → W ≤ 8 * L - pl to → post 1 (nI t, nI c, nI L, bu, nI n, ps, nI ft, ar_g K, ar_g A, ar_g B, ar_g C, ar_g bg, ar_g b, ar_g sg, ar_g par, ar_g lev, ar_g ch, ar_g sb, ar_g en, ar_g (ar_u pl to (pl to + W)), va, lf)) : wpX_pass post (nI t, nI c, nI L, bu, nI n, ps, nI ft, ar_g K, ar_g A, ar_g B, ar_g C, ar_g bg, ar_g b, ar_g sg, ar_g par, ar_g lev, ar_g ch, ar_g sb, ar_g en, ar_g pl, va, lf) (nI to) w := by
  unfold wpX_pass wpX_bitsLeft
  dsimp only
  rw [xe_left hto hp]
  refine ⟨pk_in to 7 hto, br_c (fun h => h0 (Or.inl h)) (fun h => ?_)⟩
  obtain ⟨W, hW, rfl⟩ := nI_of h
  refine pk_le W (8 * L - pl to) (fun h3 => ⟨pk_in to 7 hto, pk_in to 7 hto, nm_r (e' := ar_g (ar_u pl to (pl to + W))) ?_ (h1 W rfl h3)⟩) (fun h3 => h0 (Or.inr (nI_lt h3 hW)))
  rw [ar_get (by omega), nI_add, ar_set (by omega)]
theorem xe_lit {post : Int32 → SX → Prop} {to w v : Nat} (hb : ∀ i, b i < 256) (hto : to < 7) (hL : L ≤ 8) (hp : pl to ≤ 8 * L) (hw : w ≤ 16) (hv : v < 2 ^ 31) (h0 : 8 * L - pl to < w → post 0 (nI t, nI c, nI L, bu, nI n, ps, nI ft, ar_g K, ar_g A, ar_g B, ar_g C, ar_g bg, ar_g b, ar_g sg, ar_g par, ar_g lev, ar_g ch, ar_g sb, ar_g en, ar_g pl, va, lf)) (h1 : w ≤ 8 * L - pl to → bi_n b (pl to) w = v → post 1 (nI t, nI c, nI L, bu, nI n, ps, nI ft, ar_g K, ar_g A, ar_g B, ar_g C, ar_g bg, ar_g b, ar_g sg, ar_g par, ar_g lev, ar_g ch, ar_g sb, ar_g en, ar_g (ar_u pl to (pl to + w)), va, lf)) (h2 : w ≤ 8 * L - pl to → bi_n b (pl to) w ≠ v → post 0 (nI t, nI c, nI L, bu, nI n, ps, nI ft, ar_g K, ar_g A, ar_g B, ar_g C, ar_g bg, ar_g b, ar_g sg, ar_g par, ar_g lev, ar_g ch, ar_g sb, ar_g en, ar_g (ar_u pl to (pl to + w)), va, lf)) : wpX_literalFits post (nI t, nI c, nI L, bu, nI n, ps, nI ft, ar_g K, ar_g A, ar_g B, ar_g C, ar_g bg, ar_g b, ar_g sg, ar_g par, ar_g lev, ar_g ch, ar_g sb, ar_g en, ar_g pl, va, lf) (nI to) (nI w) (nI v) := by
  unfold wpX_literalFits
  dsimp only
  refine ⟨pk_in to 7 hto, nm_r (e' := nI (pl to)) (ar_get (by omega)) ?_⟩
  refine xe_pass hto hL hp (fun h => br_t rfl (h0 ?_)) (fun W hW hle => br_f (by decide) ?_)
  · rcases h with h | h
    · exact absurd h (nI_pos (by omega))
    · exact (nI_ltI (by omega) (by omega)).mp h
  · have e : w = W := (nI_eq (by omega) (by omega)).mp hW
    subst e
    have hn := bi_lt b (pl to) w
    have hn2 : 2 ^ w ≤ 2 ^ 16 := bi_p2 hw
    refine xr_read hb (by omega) (by omega) (ek_if (d := bi_n b (pl to) w = v) ?_ (fun e => h1 hle e) (fun e => h2 hle e))
    rw [nI_l hv]
    exact lN_eq (by omega) hv
theorem xe_take {post : Int32 → SX → Prop} {to x fl : Nat} {w : Int32} (hb : ∀ i, b i < 256) (hto : to < 7) (hL : L ≤ 8) (hp : pl to ≤ 8 * L) (hx : x < 4) (hfl : fl ≤ 3) (h8 : 1 < fl → ∀ W, w = nI W → W ≤ 32 → W % 8 = 0) (h0 : (w < 0 ∨ nI (8 * L - pl to) < w ∨ 32 < w) → post 0 (nI t, nI c, nI L, bu, nI n, ps, nI ft, ar_g K, ar_g A, ar_g B, ar_g C, ar_g bg, ar_g b, ar_g sg, ar_g par, ar_g lev, ar_g ch, ar_g sb, ar_g en, ar_g pl, va, lf)) (h1 : ∀ W, w = nI W → W ≤ 8 * L - pl to → W ≤ 32 → post 1 (nI t, nI c, nI L, bu, nI n, ps, nI ft, ar_g K, ar_g A, ar_g B, ar_g C, ar_g bg, ar_g b, ar_g sg, ar_g par, ar_g lev, ar_g ch, ar_g sb, ar_g en, ar_g (ar_u pl to (pl to + W)), upd va (4 * to + x) (bi_f b (pl to) W fl), lf)) : wpX_take post (nI t, nI c, nI L, bu, nI n, ps, nI ft, ar_g K, ar_g A, ar_g B, ar_g C, ar_g bg, ar_g b, ar_g sg, ar_g par, ar_g lev, ar_g ch, ar_g sb, ar_g en, ar_g pl, va, lf) (nI to) (nI x) w (nI fl) := by
  unfold wpX_take
  dsimp only
  refine ⟨pk_in to 7 hto, nm_r (e' := nI (pl to)) (ar_get (by omega)) (br_c (fun h => ?_) (fun h => ?_))⟩
  · exact br_t rfl (h0 (Or.inr (Or.inr h)))
  · refine xe_pass hto hL hp (fun h3 => br_t rfl ?_) (fun W hW hle => br_f (by decide) (br_f (by decide) ?_))
    · refine br_t rfl (h0 ?_)
      rcases h3 with h3 | h3
      · exact Or.inl h3
      · exact Or.inr (Or.inl h3)
    · subst hW
      have h32 : W ≤ 32 := by
        have h4 : ¬ nI 32 < nI W := h
        rw [nI_ltI (by decide) (by omega)] at h4
        omega
      refine xr_fv hb h32 (by omega) hfl (fun h5 => h8 h5 W rfl h32) ?_
      rw [xe_ix]
      refine ⟨pk_in (4 * to + x) 28 (by omega), nm_r (e' := upd va (4 * to + x) (bi_f b (pl to) W fl)) ?_ (h1 W rfl hle h32)⟩
      rw [nI_clamp (by omega)]
theorem xe_body {post : Int32 → SX → Prop} {d l e : Nat} {s : Nat × (Nat → Int32)} (hd : d < 32) (hl : l < 6) (hsg : sg d < 32) (hV : sp_V (K (sg d)) (A (sg d)) (B (sg d)) (C (sg d))) (hL : L ≤ 8) (hb : ∀ i, b i < 256) (hs : s.1 ≤ 8 * L) (hp : pl l = s.1) (hv : ∀ x, x < 4 → va (4 * (l + 1) + x) = s.2 x)
    (H : ∀ r pl' va', (∀ i, i ≤ l → pl' i = pl i) → (∀ i, i < 4 * l + 4 → va' i = va i) → xe_O (sp_s b L (K (sg d)) (A (sg d)) (B (sg d)) (C (sg d)) s) l r pl' va' → post r (nI t, nI c, nI L, bu, nI n, ps, nI ft, ar_g K, ar_g A, ar_g B, ar_g C, ar_g bg, ar_g b, ar_g sg, ar_g par, ar_g lev, ar_g ch, ar_g sb, ar_g en, ar_g pl', va', lf)) :
    wX_enter_9 post (nI d) (nI (l + 1)) (nI t) (nI c) (nI L) bu (nI n) ps (nI ft) (e + 1) (nI 4) (ar_g K) (ar_g A) (ar_g B) (ar_g C) (ar_g bg) (ar_g b) (ar_g sg) (ar_g par) (ar_g lev) (ar_g ch) (ar_g sb) (ar_g en) (ar_g pl) va lf := by
  have eK : ar_g K (nI (sg d)).toNatClampNeg = nI (K (sg d)) := ar_get (by omega)
  have eA : ar_g A (nI (sg d)).toNatClampNeg = nI (A (sg d)) := ar_get (by omega)
  have eB : ar_g B (nI (sg d)).toNatClampNeg = nI (B (sg d)) := ar_get (by omega)
  have eC : ar_g C (nI (sg d)).toNatClampNeg = nI (C (sg d)) := ar_get (by omega)
  have el : nI (l + 1) - 1 = nI l := nI_pred l
  have iS : vp_in (nI (sg d)) 32 := pk_in (sg d) 32 hsg
  have hpl : ∀ W i, i ≤ l → ar_u (ar_u pl (l + 1) (pl l)) (l + 1) W i = pl i := by
    intro W i hi
    rw [ar_un (by omega), ar_un (by omega)]
  have hpl0 : ∀ i, i ≤ l → ar_u pl (l + 1) (pl l) i = pl i := fun i hi => ar_un (by omega)
  have hp1 : ar_u pl (l + 1) (pl l) (l + 1) = s.1 := by rw [ar_us, hp]
  have hp1' : ar_u pl (l + 1) (pl l) (l + 1) ≤ 8 * L := by rw [hp1]; exact hs
  have fr : ∀ x v, x < 4 → ∀ i, i < 4 * l + 4 → upd va (4 * (l + 1) + x) v i = va i := fun x v _ i hi => pk_un (by omega)
  have fu : ∀ x v, x < 4 → ∀ y, y < 4 → upd va (4 * (l + 1) + x) v (4 * (l + 1) + y) = upd s.2 x v y := by
    intro x v hx y hy
    unfold upd
    by_cases e : y = x
    · rw [if_pos (by omega), if_pos e]
    · rw [if_neg (by omega), if_neg e]
      exact hv y hy
  refine br_t (by decide) ⟨pk_in l 7 (by omega) el, pk_in (l + 1) 7 (by omega), nm_r (e' := ar_g (ar_u pl (l + 1) (pl l))) ?_ ⟨pk_in d 32 hd, nm_r (e' := nI (sg d)) (ar_get (by omega)) ⟨iS, nm_r (e' := nI (K (sg d))) eK ?_⟩⟩⟩
  · rw [el, ar_get (by omega), ar_set (by omega)]
  rw [eA, eB, eC]
  generalize K (sg d) = k at *
  generalize A (sg d) = x at *
  generalize B (sg d) = y at *
  generalize C (sg d) = z at *
  obtain ⟨k5, V0, V1, V2, V3, V4, V5⟩ := hV
  refine pk_eq k 0 (fun e0 => ⟨iS, iS, ?_⟩) (fun e0 => pk_eq k 1 (fun e1 => ⟨iS, iS, iS, ?_⟩) (fun e1 => pk_eq k 2 (fun e2 => ⟨iS, ?_⟩) (fun e2 => pk_eq k 3 (fun e3 => ⟨iS, ?_⟩) (fun e3 => pk_eq k 4 (fun e4 => ⟨iS, ?_⟩) (fun e4 => ⟨iS, pk_in (l + 1) 7 (by omega), ?_⟩)))))
  · obtain ⟨v1, v2⟩ := V0 e0
    subst e0
    refine xe_lit hb (by omega) hL hp1' v1 v2 (fun h => ⟨narrow_b0, H 0 _ _ hpl0 (fun _ _ => rfl) (Or.inl ⟨?_, rfl⟩)⟩) (fun h h' => ⟨narrow_b1, H 1 _ _ (hpl _) (fun _ _ => rfl) (Or.inr ⟨(s.1 + x, s.2), ?_, rfl, ?_, hv⟩)⟩) (fun h h' => ⟨narrow_b0, H 0 _ _ (hpl _) (fun _ _ => rfl) (Or.inl ⟨?_, rfl⟩)⟩)
    · rw [hp1] at h
      exact sp_fail (by omega) (Or.inr (Or.inl (nI_lt h (by omega))))
    · rw [hp1] at h h'
      rw [sp_ok (W := x) (by omega) hL rfl h (by omega)]
      unfold sp_o
      rw [if_pos rfl, if_pos h']
    · rw [ar_us, hp1]
    · rw [hp1] at h h'
      rw [sp_ok (W := x) (by omega) hL rfl h (by omega)]
      unfold sp_o
      rw [if_pos rfl, if_neg h']
  · obtain ⟨v1, v2, v3, v4⟩ := V1 e1
    subst e1
    refine xe_take hb (by omega) hL hp1' (by omega) v3 (fun h W hW h32 => ?_) (fun h => ⟨narrow_b0, H 0 _ _ hpl0 (fun _ _ => rfl) (Or.inl ⟨?_, rfl⟩)⟩) (fun W hW h h32 => ⟨narrow_b1, H 1 _ _ (hpl _) (fr _ _ (by omega)) (Or.inr ⟨(s.1 + W, upd s.2 x (bi_f b s.1 W z)), ?_, rfl, ?_, ?_⟩)⟩)
    · rw [← (nI_eq (by omega) (by omega)).mp hW]
      exact v4 h
    · rw [hp1] at h
      rcases h with h | h | h
      · exact sp_fail (by omega) (Or.inl h)
      · exact sp_fail (by omega) (Or.inr (Or.inl h))
      · exact absurd h (nI_nlt (a := 32) v2 (by decide))
    · rw [hp1] at h
      rw [sp_ok (k := 1) (x := x) (y := y) (z := z) (s := s) (W := W) (by omega) hL hW h (by omega)]
      unfold sp_o
      rw [if_neg (by decide), if_neg (by decide), if_pos rfl]
    · rw [ar_us, hp1]
    · rw [hp1]
      exact fu _ _ (by omega)
  · obtain ⟨v1, v2, v3⟩ := V2 e2
    subst e2
    rw [xe_ix]
    refine ⟨pk_in (4 * (l + 1) + y) 28 (by omega), iS, nm_r (e' := s.2 y * nI z) ?_ ⟨iS, ?_⟩⟩
    · rw [nI_clamp (by omega), hv y (by omega)]
    refine xe_take (fl := 0) hb (by omega) hL hp1' (by omega) (by omega) (fun h => absurd h (by omega)) (fun h => ⟨narrow_b0, H 0 _ _ hpl0 (fun _ _ => rfl) (Or.inl ⟨?_, rfl⟩)⟩) (fun W hW h h32 => ⟨narrow_b1, H 1 _ _ (hpl _) (fr _ _ (by omega)) (Or.inr ⟨(s.1 + W, upd s.2 x (bi_f b s.1 W 0)), ?_, rfl, ?_, ?_⟩)⟩)
    · rw [hp1] at h
      rcases h with h | h | h
      · exact sp_fail (by omega) (Or.inl h)
      · exact sp_fail (by omega) (Or.inr (Or.inl h))
      · exact sp_fail (by omega) (Or.inr (Or.inr ⟨rfl, h⟩))
    · rw [hp1] at h
      rw [sp_ok (k := 2) (x := x) (y := y) (z := z) (s := s) (W := W) (by omega) hL hW h (fun _ => h32)]
      unfold sp_o
      rw [if_neg (by decide), if_neg (by decide), if_neg (by decide)]
    · rw [ar_us, hp1]
    · rw [hp1]
      exact fu _ _ (by omega)
  · obtain ⟨v1, v2⟩ := V3 e3
    subst e3
    rw [xe_ix]
    refine ⟨pk_in (4 * (l + 1) + y) 28 (by omega), iS, nm_r (e' := s.2 y * nI z) ?_ ?_⟩
    · rw [nI_clamp (by omega), hv y (by omega)]
    refine xe_pass (by omega) hL hp1' (fun h => ⟨narrow_b0, H 0 _ _ hpl0 (fun _ _ => rfl) (Or.inl ⟨?_, rfl⟩)⟩) (fun W hW h => ⟨narrow_b1, H 1 _ _ (hpl _) (fun _ _ => rfl) (Or.inr ⟨(s.1 + W, s.2), ?_, rfl, ?_, hv⟩)⟩)
    · rw [hp1] at h
      rcases h with h | h
      · exact sp_fail (by omega) (Or.inl h)
      · exact sp_fail (by omega) (Or.inr (Or.inl h))
    · rw [hp1] at h
      rw [sp_ok (k := 3) (x := x) (y := y) (z := z) (s := s) (W := W) (by omega) hL hW h (by omega)]
      unfold sp_o
      rw [if_neg (by decide), if_pos rfl]
    · rw [ar_us, hp1]
  · obtain ⟨v1, v2⟩ := V4 e4
    subst e4
    rw [xe_ix, xe_ix, nI_clamp (by omega), nI_clamp (by omega), hv x (by omega), hv y (by omega)]
    refine ⟨pk_in (4 * (l + 1) + x) 28 (by omega), iS, pk_in (4 * (l + 1) + y) 28 (by omega), br_c (fun h => H 1 _ _ hpl0 (fun _ _ => rfl) (Or.inr ⟨s, ?_, rfl, hp1, hv⟩)) (fun h => H 0 _ _ hpl0 (fun _ _ => rfl) (Or.inl ⟨?_, rfl⟩))⟩
    · unfold sp_s
      rw [if_pos rfl, if_pos h]
    · unfold sp_s
      rw [if_pos rfl, if_neg h]
  · have e5 : k = 5 := by omega
    have v1 := V5 e5
    subst e5
    unfold wpX_bitsLeft
    dsimp only
    rw [xe_left (by omega) hp1', xe_ix, hp1]
    refine ⟨pk_in (4 * (l + 1) + x) 28 (by omega), nm_r (e' := upd va (4 * (l + 1) + x) (nI (8 * L - s.1))) ?_ ⟨pk_in (l + 1) 7 (by omega), nm_r (e' := ar_g (ar_u (ar_u pl (l + 1) (pl l)) (l + 1) (8 * L))) ?_ (H 1 _ _ (hpl _) (fr _ _ (by omega)) (Or.inr ⟨(8 * L, upd s.2 x (nI (8 * L - s.1))), ?_, rfl, ar_us, fu _ _ (by omega)⟩))⟩⟩
    · rw [nI_clamp (by omega)]
    · show upd _ _ (nI L * nI 8) = _
      rw [pk_mul, ar_set (by omega), Nat.mul_comm]
    · unfold sp_s
      rw [if_neg (by decide), if_pos rfl]
theorem xe_cp {post : Int32 → SX → Prop} {d l : Nat} {s : Nat × (Nat → Int32)} (hd : d < 32) (hl : l < 6) (hsg : sg d < 32) (hV : sp_V (K (sg d)) (A (sg d)) (B (sg d)) (C (sg d))) (hL : L ≤ 8) (hb : ∀ i, b i < 256) (hs : s.1 ≤ 8 * L) (hp : pl l = s.1) (hv : ∀ x, x < 4 → va (4 * l + x) = s.2 x)
    (H : ∀ r pl' va', (∀ i, i ≤ l → pl' i = pl i) → (∀ i, i < 4 * l + 4 → va' i = va i) → xe_O (sp_s b L (K (sg d)) (A (sg d)) (B (sg d)) (C (sg d)) s) l r pl' va' → post r (nI t, nI c, nI L, bu, nI n, ps, nI ft, ar_g K, ar_g A, ar_g B, ar_g C, ar_g bg, ar_g b, ar_g sg, ar_g par, ar_g lev, ar_g ch, ar_g sb, ar_g en, ar_g pl', va', lf)) :
    ∀ e x, x + e = 4 → ∀ vb : Nat → Int32, (∀ i, i < 4 * l + 4 → vb i = va i) → (∀ y, y < x → vb (4 * (l + 1) + y) = va (4 * l + y)) → wX_enter_9 post (nI d) (nI (l + 1)) (nI t) (nI c) (nI L) bu (nI n) ps (nI ft) (e + 1) (nI x) (ar_g K) (ar_g A) (ar_g B) (ar_g C) (ar_g bg) (ar_g b) (ar_g sg) (ar_g par) (ar_g lev) (ar_g ch) (ar_g sb) (ar_g en) (ar_g pl) vb lf := by
  intro e
  induction e with
  | zero =>
    intro x hx vb h1 h2
    have e4 : x = 4 := by omega
    subst e4
    exact xe_body hd hl hsg hV hL hb hs hp (fun y hy => (h2 y hy).trans (hv y hy)) (fun r pl' va' g1 g2 g3 => H r pl' va' g1 (fun i hi => (g2 i hi).trans (h1 i hi)) g3)
  | succ e ih =>
    intro x hx vb h1 h2
    refine pk_le 4 x (fun z => absurd z (by omega)) (fun _ => ?_)
    rw [xe_ix, xe_ix']
    refine ⟨pk_in (4 * l + x) 28 (by omega), pk_in (4 * (l + 1) + x) 28 (by omega), nm_r (e' := upd vb (4 * (l + 1) + x) (va (4 * l + x))) ?_ (nm_r (e' := nI (x + 1)) (nI_1 x) (ih (x + 1) (by omega) _ (fun i hi => ?_) (fun y hy => ?_)))⟩
    · rw [nI_clamp (by omega), nI_clamp (by omega), h1 _ (by omega)]
    · rw [pk_un (by omega), h1 i hi]
    · by_cases e1 : y = x
      · subst e1
        exact pk_us
      · rw [pk_un (by omega), h2 y (by omega)]
theorem xe_enter {post : Int32 → SX → Prop} {d l : Nat} {s : Nat × (Nat → Int32)} (hd : d < 32) (hlev : lev d = l + 1) (hl : l < 6) (hsg : sg d < 32) (hV : sp_V (K (sg d)) (A (sg d)) (B (sg d)) (C (sg d))) (hL : L ≤ 8) (hb : ∀ i, b i < 256) (hs : s.1 ≤ 8 * L) (hp : pl l = s.1) (hv : ∀ x, x < 4 → va (4 * l + x) = s.2 x)
    (H : ∀ r pl' va', (∀ i, i ≤ l → pl' i = pl i) → (∀ i, i < 4 * l + 4 → va' i = va i) → xe_O (sp_s b L (K (sg d)) (A (sg d)) (B (sg d)) (C (sg d)) s) l r pl' va' → post r (nI t, nI c, nI L, bu, nI n, ps, nI ft, ar_g K, ar_g A, ar_g B, ar_g C, ar_g bg, ar_g b, ar_g sg, ar_g par, ar_g lev, ar_g ch, ar_g sb, ar_g en, ar_g pl', va', lf)) : wpX_enter post (nI t, nI c, nI L, bu, nI n, ps, nI ft, ar_g K, ar_g A, ar_g B, ar_g C, ar_g bg, ar_g b, ar_g sg, ar_g par, ar_g lev, ar_g ch, ar_g sb, ar_g en, ar_g pl, va, lf) (nI d) := by
  refine And.intro (pk_in d 32 hd) (nm_r (e' := nI (l + 1)) ?_ ⟨5, xe_cp hd hl hsg hV hL hb hs hp hv H 4 0 (by omega) va (fun _ _ => rfl) (fun y hy => absurd hy (by omega))⟩)
  rw [ar_get (by omega), hlev]
end
end
section
/-! Y's side of one segment, and a rule's run -/
def ye_R (yk y1 y2 y3 k x y z : Nat) : Prop := yk = k ∧ (k = 3 → y1 = y ∧ y2 = z) ∧ (k ≠ 3 → y1 = x ∧ y2 = y ∧ y3 = z)
def ye_O (o : Option (Nat × (Nat → Int32))) (r : Int32) (p : Nat) (vs : Nat → Int32) : Prop :=
  (o = none ∧ r = 0) ∨ ∃ s', o = some s' ∧ r = 1 ∧ p = s'.1 ∧ ∀ x, x < 4 → vs x = s'.2 x
theorem ye_u {vs v : Nat → Int32} (hv : ∀ x, x < 4 → vs x = v x) (x : Nat) (a : Int32) : ∀ y, y < 4 → upd vs x a y = upd v x a y := by
  intro y hy
  unfold upd
  split
  · rfl
  · exact hv y hy
section
variable {c L : Nat} {pa : Int32} {YK Y1 Y2 Y3 sz b : Nat → Nat} {vs : Nat → Int32}
theorem ye_274 {post : Int32 → SY → Prop} {s fl w x : Nat} (hb : ∀ i, b i < 256) (hw : w ≤ 32) (hs : s + w ≤ 64) (hfl : fl ≤ 3) (h8 : 1 < fl → w % 8 = 0) (hx : x < 4) (h : post 1 (nI c, nI L, pa, ar_g YK, ar_g Y1, ar_g Y2, ar_g Y3, ar_g sz, ar_g b, upd vs x (bi_f b s w fl))) : wY_fitsSegment_274 post (nI fl) (nI w) (nI s) (nI x) (nI c) (nI L) pa (ar_g YK) (ar_g Y1) (ar_g Y2) (ar_g Y3) (ar_g sz) (ar_g b) vs := by
  refine yr_fv hb hw hs hfl h8 ⟨pk_in x 4 hx, nm_r (e' := upd vs x (bi_f b s w fl)) ?_ h⟩
  rw [nI_clamp (by omega)]
theorem ye_189 {post : Int32 → SY → Prop} {q k x y z W p : Nat} {v : Nat → Int32} (hq : q < 42) (hb : ∀ i, b i < 256) (hk : k ≤ 3) (hV : sp_V k x y z) (hR : ye_R (YK q) (Y1 q) (Y2 q) (Y3 q) k x y z) (hv : ∀ x, x < 4 → vs x = v x) (hW : p + W ≤ 64) (h0 : k = 0 → W ≤ 16) (h1 : k = 1 → W = y) (h2 : k = 2 → W ≤ 32)
    (H : ∀ r p' vs', ye_O (sp_o b k x y z p v W) r p' vs' → post r (nI c, nI L, nI p', ar_g YK, ar_g Y1, ar_g Y2, ar_g Y3, ar_g sz, ar_g b, vs')) : wY_fitsSegment_189 post (nI q) (nI (Y1 q)) (nI (Y2 q)) (nI W) (nI c) (nI L) (nI p) (ar_g YK) (ar_g Y1) (ar_g Y2) (ar_g Y3) (ar_g sz) (ar_g b) vs := by
  obtain ⟨rk, r3, r4⟩ := hR
  obtain ⟨k5, V0, V1, V2, V3, V4, V5⟩ := hV
  have eK : ar_g YK (nI q).toNatClampNeg = nI k := by rw [ar_get (by omega), rk]
  have iq : vp_in (nI q) 42 := pk_in q 42 hq
  refine nm_r (e' := nI (p + W)) (nI_add p W) ⟨iq, ?_⟩
  rw [eK]
  unfold sp_o at H
  refine pk_eq k 0 (fun e0 => ?_) (fun e0 => ⟨iq, pk_le 3 k (fun e3 => ?_) (fun e3 => ⟨iq, pk_eq k 1 (fun e1 => ⟨iq, ?_⟩) (fun e1 => ?_)⟩)⟩)
  · obtain ⟨v1, v2⟩ := V0 e0
    obtain ⟨q1, q2, q3⟩ := r4 (by omega)
    subst e0
    rw [if_pos rfl] at H
    have hn := bi_lt b p W
    have hn2 : 2 ^ W ≤ 2 ^ 16 := bi_p2 (h0 rfl)
    refine yr_num hb hW (ek_if (d := bi_n b p W = y) ?_ (fun e => H 1 (p + W) vs ?_) (fun e => H 0 (p + W) vs ?_))
    · rw [q2]
      exact nI_eq (by omega) v2
    · rw [if_pos e]
      exact Or.inr ⟨_, rfl, rfl, rfl, hv⟩
    · rw [if_neg e]
      exact Or.inl ⟨rfl, rfl⟩
  · have e : k = 3 := by omega
    subst e
    rw [if_neg (by decide), if_pos rfl] at H
    exact H 1 (p + W) vs (Or.inr ⟨_, rfl, rfl, rfl, hv⟩)
  · obtain ⟨v1, v2, v3, v4⟩ := V1 e1
    obtain ⟨q1, q2, q3⟩ := r4 (by omega)
    have e := h1 e1
    subst e e1
    rw [if_neg (by decide), if_neg (by decide), if_pos rfl] at H
    rw [ar_get (by omega), q1, q3]
    exact ye_274 hb v2 hW v3 v4 (by omega) (H 1 (p + W) _ (Or.inr ⟨_, rfl, rfl, rfl, ye_u hv _ _⟩))
  · have e : k = 2 := by omega
    obtain ⟨v1, v2, v3⟩ := V2 e
    obtain ⟨q1, q2, q3⟩ := r4 (by omega)
    subst e
    rw [if_neg (by decide), if_neg (by decide), if_neg (by decide)] at H
    rw [q1]
    exact ye_274 (fl := 0) hb (h2 rfl) hW (by omega) (fun z => absurd z (by omega)) (by omega) (H 1 (p + W) _ (Or.inr ⟨_, rfl, rfl, rfl, ye_u hv _ _⟩))
theorem ye_159 {post : Int32 → SY → Prop} {q k x y z : Nat} {s : Nat × (Nat → Int32)} {w : Int32} (hq : q < 42) (hb : ∀ i, b i < 256) (hL : L ≤ 8) (hk : k ≤ 3) (hV : sp_V k x y z) (hR : ye_R (YK q) (Y1 q) (Y2 q) (Y3 q) k x y z) (hs : s.1 ≤ 8 * L) (hv : ∀ x, x < 4 → vs x = s.2 x) (hw : w = sp_w k x y z s.2)
    (H : ∀ r p' vs', ye_O (sp_s b L k x y z s) r p' vs' → post r (nI c, nI L, nI p', ar_g YK, ar_g Y1, ar_g Y2, ar_g Y3, ar_g sz, ar_g b, vs')) : wY_fitsSegment_159 post (nI q) (nI (8 * L - s.1)) (nI (Y1 q)) (nI (Y2 q)) w (nI c) (nI L) (nI s.1) (ar_g YK) (ar_g Y1) (ar_g Y2) (ar_g Y3) (ar_g sz) (ar_g b) vs := by
  have iq : vp_in (nI q) 42 := pk_in q 42 hq
  have eK : ar_g YK (nI q).toNatClampNeg = nI k := by rw [ar_get (by omega), hR.1]
  have V := hV
  obtain ⟨k5, V0, V1, V2, V3, V4, V5⟩ := V
  refine br_c (fun h => H 0 s.1 vs (Or.inl ⟨sp_fail hk (Or.inl (hw ▸ h)), rfl⟩)) (fun h => br_c (fun h' => H 0 s.1 vs (Or.inl ⟨sp_fail hk (Or.inr (Or.inl (hw ▸ h'))), rfl⟩)) (fun h' => ⟨iq, ?_⟩))
  rw [eK]
  obtain ⟨W, hW, e⟩ := nI_of h
  have h3 : ¬ nI (8 * L - s.1) < nI W := by rw [← e]; exact h'
  rw [nI_ltI (by omega) hW] at h3
  have key : (k = 2 → W ≤ 32) → wY_fitsSegment_189 post (nI q) (nI (Y1 q)) (nI (Y2 q)) w (nI c) (nI L) (nI s.1) (ar_g YK) (ar_g Y1) (ar_g Y2) (ar_g Y3) (ar_g sz) (ar_g b) vs := by
    intro h2
    rw [sp_ok (W := W) hk hL (hw.symm.trans e) (by omega) h2] at H
    rw [e]
    refine ye_189 hq hb hk hV hR hv (by omega) (fun e0 => ?_) (fun e1 => ?_) h2 H
    · have e2 : nI W = nI x := by rw [← e, hw]; unfold sp_w; rw [if_pos e0]
      have := V0 e0
      have := (nI_eq (by omega) (by omega)).mp e2
      omega
    · have e2 : nI W = nI y := by rw [← e, hw]; unfold sp_w; rw [if_neg (by omega), if_pos e1]
      have := V1 e1
      exact (nI_eq (by omega) (by omega)).mp e2
  refine pk_eq k 2 (fun e2 => br_c (fun g => key (fun _ => ?_)) (fun g => H 0 s.1 vs (Or.inl ⟨sp_fail hk (Or.inr (Or.inr ⟨e2, ?_⟩)), rfl⟩))) (fun e2 => key (fun z => absurd z e2))
  · have g' : nI W ≤ nI 32 := by rw [← e]; exact g
    exact (nI_leI (by omega) (by decide)).mp g'
  · rw [← hw]
    exact Int32.not_le.mp g
theorem ye_seg {post : Int32 → SY → Prop} {q k x y z : Nat} {s : Nat × (Nat → Int32)} (hq : q < 42) (hb : ∀ i, b i < 256) (hL : L ≤ 8) (hV : sp_V k x y z) (hR : ye_R (YK q) (Y1 q) (Y2 q) (Y3 q) k x y z) (hs : s.1 ≤ 8 * L) (hv : ∀ x, x < 4 → vs x = s.2 x)
    (H : ∀ r p' vs', ye_O (sp_s b L k x y z s) r p' vs' → post r (nI c, nI L, nI p', ar_g YK, ar_g Y1, ar_g Y2, ar_g Y3, ar_g sz, ar_g b, vs')) : wpY_fitsSegment post (nI c, nI L, nI s.1, ar_g YK, ar_g Y1, ar_g Y2, ar_g Y3, ar_g sz, ar_g b, vs) (nI q) := by
  have iq : vp_in (nI q) 42 := pk_in q 42 hq
  have hR' := hR
  obtain ⟨rk, r3, r4⟩ := hR'
  have hV' := hV
  obtain ⟨k5, V0, V1, V2, V3, V4, V5⟩ := hV'
  have eK : ar_g YK (nI q).toNatClampNeg = nI k := by rw [ar_get (by omega), rk]
  refine nm_r (e' := nI (8 * L - s.1)) ?_ ⟨iq, nm_r (e' := nI (Y1 q)) (ar_get (by omega)) ⟨iq, nm_r (e' := nI (Y2 q)) (ar_get (by omega)) ⟨iq, ?_⟩⟩⟩
  · show nI 8 * nI L - nI s.1 = _
    rw [pk_mul, pk_sub hs]
  rw [eK]
  refine pk_eq k 4 (fun e4 => ?_) (fun e4 => ⟨iq, pk_eq k 5 (fun e5 => ?_) (fun e5 => ⟨iq, pk_eq k 1 (fun e1 => ?_) (fun e1 => ⟨iq, pk_eq k 2 (fun e2 => ?_) (fun e2 => ⟨iq, pk_eq k 3 (fun e3 => ?_) (fun e3 => ?_)⟩)⟩)⟩)⟩)
  · obtain ⟨v1, v2⟩ := V4 e4
    obtain ⟨q1, q2, q3⟩ := r4 (by omega)
    subst e4
    rw [q1, q2, nI_clamp (by omega), nI_clamp (by omega), hv x (by omega), hv y (by omega)]
    refine ⟨pk_in x 4 (by omega), pk_in y 4 (by omega), br_c (fun h => H 1 s.1 vs (Or.inr ⟨s, ?_, rfl, rfl, hv⟩)) (fun h => H 0 s.1 vs (Or.inl ⟨?_, rfl⟩))⟩
    · unfold sp_s
      rw [if_pos rfl, if_pos h]
    · unfold sp_s
      rw [if_pos rfl, if_neg h]
  · have v1 := V5 e5
    obtain ⟨q1, q2, q3⟩ := r4 (by omega)
    subst e5
    rw [q1]
    refine ⟨pk_in x 4 (by omega), nm_r (e' := upd vs x (nI (8 * L - s.1))) ?_ (nm_r (e' := nI (8 * L)) ?_ (H 1 (8 * L) _ (Or.inr ⟨(8 * L, upd s.2 x (nI (8 * L - s.1))), ?_, rfl, rfl, ye_u hv _ _⟩)))⟩
    · rw [nI_clamp (by omega)]
    · rw [nI_add]
      exact congrArg nI (by omega)
    · unfold sp_s
      rw [if_neg (by decide), if_pos rfl]
  · obtain ⟨q1, q2, q3⟩ := r4 (by omega)
    refine ye_159 hq hb hL (by omega) hV hR hs hv ?_ H
    unfold sp_w
    rw [if_neg (by omega), if_pos e1, q2]
  · obtain ⟨v1, v2, v3⟩ := V2 e2
    obtain ⟨q1, q2, q3⟩ := r4 (by omega)
    refine ⟨pk_in y 4 (by omega) (by rw [q2]), iq, nm_r (e' := s.2 y * nI z) ?_ (ye_159 hq hb hL (by omega) hV hR hs hv ?_ H)⟩
    · rw [q2, nI_clamp (by omega), hv y (by omega), ar_get (by omega), q3]
    · unfold sp_w
      rw [if_neg (by omega), if_neg (by omega)]
  · obtain ⟨v1, v2⟩ := V3 e3
    obtain ⟨q1, q2⟩ := r3 e3
    refine ⟨pk_in y 4 (by omega) (by rw [q1]), nm_r (e' := s.2 y * nI z) ?_ (ye_159 hq hb hL (by omega) hV hR hs hv ?_ H)⟩
    · rw [q1, q2, nI_clamp (by omega), hv y (by omega)]
    · unfold sp_w
      rw [if_neg (by omega), if_neg (by omega)]
  · obtain ⟨q1, q2, q3⟩ := r4 (by omega)
    refine ye_159 hq hb hL (by omega) hV hR hs hv ?_ H
    unfold sp_w
    rw [if_pos (by omega), q1]
end
/-! a rule's run -/
def rn_r (b : Nat → Nat) (L : Nat) (K A B C : Nat → Nat) (i0 : Nat) : Nat → Option (Nat × (Nat → Int32))
  | 0 => some (0, fun _ => 0)
  | j + 1 => (rn_r b L K A B C i0 j).bind (sp_s b L (K (i0 + j)) (A (i0 + j)) (B (i0 + j)) (C (i0 + j)))
theorem rn_none {b : Nat → Nat} {L : Nat} {K A B C : Nat → Nat} {i0 j : Nat} (h : rn_r b L K A B C i0 j = none) : ∀ d, rn_r b L K A B C i0 (j + d) = none := by
  intro d
  induction d with
  | zero => exact h
  | succ d ih =>
    show (rn_r b L K A B C i0 (j + d)).bind _ = none
    rw [ih]
    rfl
theorem rn_s {b : Nat → Nat} {L : Nat} {K A B C : Nat → Nat} {i0 j : Nat} {s : Nat × (Nat → Int32)} (h : rn_r b L K A B C i0 j = some s) : rn_r b L K A B C i0 (j + 1) = sp_s b L (K (i0 + j)) (A (i0 + j)) (B (i0 + j)) (C (i0 + j)) s := by
  show (rn_r b L K A B C i0 j).bind _ = _
  rw [h]
  rfl
theorem rn_cg {b : Nat → Nat} {L : Nat} {K A B C K' A' B' C' : Nat → Nat} {i0 i1 m : Nat} (h : ∀ j, j < m → K' (i1 + j) = K (i0 + j) ∧ A' (i1 + j) = A (i0 + j) ∧ B' (i1 + j) = B (i0 + j) ∧ C' (i1 + j) = C (i0 + j)) : ∀ j, j ≤ m → rn_r b L K' A' B' C' i1 j = rn_r b L K A B C i0 j := by
  intro j
  induction j with
  | zero => intro _; rfl
  | succ j ih =>
    intro hj
    obtain ⟨h1, h2, h3, h4⟩ := h j (by omega)
    show (rn_r b L K' A' B' C' i1 j).bind _ = (rn_r b L K A B C i0 j).bind _
    rw [ih (by omega), h1, h2, h3, h4]
def rn_ok (L : Nat) (o : Option (Nat × (Nat → Int32))) : Prop := ∃ s, o = some s ∧ s.1 = 8 * L
section
variable {c L : Nat} {pa : Int32} {YK Y1 Y2 Y3 sz b K A B C : Nat → Nat} {vs : Nat → Int32}
theorem yf_27 {post : Int32 → SY → Prop} {k i0 m : Nat} (hk : k < 6) (hm : m ≤ 6) (hsz : sz k = m) (hb : ∀ i, b i < 256) (hL : L ≤ 8) (hV : ∀ i, i < m → sp_V (K (i0 + i)) (A (i0 + i)) (B (i0 + i)) (C (i0 + i)))
    (hR : ∀ i, i < m → ye_R (YK (6 * k + i)) (Y1 (6 * k + i)) (Y2 (6 * k + i)) (Y3 (6 * k + i)) (K (i0 + i)) (A (i0 + i)) (B (i0 + i)) (C (i0 + i)))
    (H0 : ∀ p' vs', ¬ rn_ok L (rn_r b L K A B C i0 m) → post 0 (nI c, nI L, nI p', ar_g YK, ar_g Y1, ar_g Y2, ar_g Y3, ar_g sz, ar_g b, vs')) (H1 : ∀ p' vs' s, rn_r b L K A B C i0 m = some s → s.1 = 8 * L → (∀ x, x < 4 → vs' x = s.2 x) → post 1 (nI c, nI L, nI p', ar_g YK, ar_g Y1, ar_g Y2, ar_g Y3, ar_g sz, ar_g b, vs')) :
    ∀ d i, i + d = m → ∀ s vb, rn_r b L K A B C i0 i = some s → s.1 ≤ 8 * L → (∀ x, x < 4 → vb x = s.2 x) → wY_fits_27 post (nI k) (d + 1) (nI i) (nI c) (nI L) (nI s.1) (ar_g YK) (ar_g Y1) (ar_g Y2) (ar_g Y3) (ar_g sz) (ar_g b) vb := by
  intro d
  have ek : ar_g sz (nI k).toNatClampNeg = nI m := by rw [ar_get (by omega), hsz]
  induction d with
  | zero =>
    intro i hi s vb hr hs hv
    have e : i = m := by omega
    subst e
    refine And.intro (pk_in k 7 (by omega)) ?_
    rw [ek]
    refine pk_le i i (fun _ => ?_) (fun z => absurd z (by omega))
    refine pk_eq s.1 (8 * L) (fun e => H1 _ _ s hr e hv) (fun e => H0 _ _ ?_) rfl (pk_mul 8 L) 
    rintro ⟨s', h1, h2⟩
    rw [hr] at h1
    cases h1
    exact e h2
  | succ d ih =>
    intro i hi s vb hr hs hv
    refine And.intro (pk_in k 7 (by omega)) ?_
    rw [ek]
    refine pk_le m i (fun z => absurd z (by omega)) (fun _ => ?_)
    have ei : 6 * nI k + nI i = nI (6 * k + i) := by
      show nI 6 * nI k + nI i = _
      rw [pk_mul, nI_add]
    rw [ei]
    have hnx := rn_s hr
    refine ye_seg (by omega) hb hL (hV i (by omega)) (hR i (by omega)) hs hv (fun r p' vs' h => ?_)
    rcases h with ⟨h1, h2⟩ | ⟨s', h1, h2, h3, h4⟩
    · subst h2
      refine br_t rfl (H0 _ _ ?_)
      rintro ⟨s', g1, g2⟩
      have := rn_none (hnx.trans h1) d
      rw [show i + 1 + d = m by omega, g1] at this
      cases this
    · subst h2 h3
      exact br_f (by decide) (nm_r (e' := nI (i + 1)) (nI_1 i) (ih (i + 1) (by omega) s' vs' (hnx.trans h1) (sp_le (hV i (by omega)).1 hL hs h1) h4))
theorem yf_7 {post : Int32 → SY → Prop} {k i0 m : Nat} (hk : k < 6) (hm : m ≤ 6) (hsz : sz k = m) (hb : ∀ i, b i < 256) (hL : L ≤ 8) (hV : ∀ i, i < m → sp_V (K (i0 + i)) (A (i0 + i)) (B (i0 + i)) (C (i0 + i)))
    (hR : ∀ i, i < m → ye_R (YK (6 * k + i)) (Y1 (6 * k + i)) (Y2 (6 * k + i)) (Y3 (6 * k + i)) (K (i0 + i)) (A (i0 + i)) (B (i0 + i)) (C (i0 + i)))
    (H0 : ∀ p' vs', ¬ rn_ok L (rn_r b L K A B C i0 m) → post 0 (nI c, nI L, nI p', ar_g YK, ar_g Y1, ar_g Y2, ar_g Y3, ar_g sz, ar_g b, vs')) (H1 : ∀ p' vs' s, rn_r b L K A B C i0 m = some s → s.1 = 8 * L → (∀ x, x < 4 → vs' x = s.2 x) → post 1 (nI c, nI L, nI p', ar_g YK, ar_g Y1, ar_g Y2, ar_g Y3, ar_g sz, ar_g b, vs')) :
    ∀ d x, x + d = 4 → ∀ vb : Nat → Int32, (∀ y, y < x → vb y = 0) → wY_fits_7 post (nI k) (nI c) (nI L) 0 (d + 1) (nI x) (ar_g YK) (ar_g Y1) (ar_g Y2) (ar_g Y3) (ar_g sz) (ar_g b) vb := by
  intro d
  induction d with
  | zero =>
    intro x hx vb hv
    have e : x = 4 := by omega
    subst e
    exact br_t (by decide) ⟨m + 1, yf_27 hk hm hsz hb hL hV hR H0 H1 m 0 (by omega) (0, fun _ => 0) vb rfl (Nat.zero_le _) hv⟩
  | succ d ih =>
    intro x hx vb hv
    refine pk_le 4 x (fun z => absurd z (by omega)) (fun _ => ⟨pk_in x 4 (by omega), nm_r (e' := upd vb x 0) ?_ (nm_r (e' := nI (x + 1)) (nI_1 x) (ih (x + 1) (by omega) _ (fun y hy => ?_)))⟩)
    · rw [nI_clamp (by omega)]
    · by_cases e : y = x
      · subst e
        exact pk_us
      · rw [pk_un e]
        exact hv y (by omega)
theorem yf_fits {post : Int32 → SY → Prop} {k i0 m : Nat} (hk : k < 6) (hm : m ≤ 6) (hsz : sz k = m) (hb : ∀ i, b i < 256) (hL : L ≤ 8) (hV : ∀ i, i < m → sp_V (K (i0 + i)) (A (i0 + i)) (B (i0 + i)) (C (i0 + i)))
    (hR : ∀ i, i < m → ye_R (YK (6 * k + i)) (Y1 (6 * k + i)) (Y2 (6 * k + i)) (Y3 (6 * k + i)) (K (i0 + i)) (A (i0 + i)) (B (i0 + i)) (C (i0 + i)))
    (H0 : ∀ p' vs', ¬ rn_ok L (rn_r b L K A B C i0 m) → post 0 (nI c, nI L, nI p', ar_g YK, ar_g Y1, ar_g Y2, ar_g Y3, ar_g sz, ar_g b, vs')) (H1 : ∀ p' vs' s, rn_r b L K A B C i0 m = some s → s.1 = 8 * L → (∀ x, x < 4 → vs' x = s.2 x) → post 1 (nI c, nI L, nI p', ar_g YK, ar_g Y1, ar_g Y2, ar_g Y3, ar_g sz, ar_g b, vs')) : wpY_fits post (nI c, nI L, pa, ar_g YK, ar_g Y1, ar_g Y2, ar_g Y3, ar_g sz, ar_g b, vs) (nI k) :=
  ⟨5, yf_7 hk hm hsz hb hL hV hR H0 H1 4 0 (by omega) vs (fun y hy => absurd hy (by omega))⟩
end
end
section
/-! the tree, fact by fact -/
def tr_T (M n : Nat) (sg par lev ch sb : Nat → Nat) : Prop :=
  0 < n ∧ lev 0 = 0 ∧ sb 0 = 0 ∧
  (∀ d, 0 < d → d < n → par d < d ∧ lev d = lev (par d) + 1 ∧ lev d ≤ 6 ∧ sg d < M) ∧
  (∀ p, p < n → ch p = 0 → ∀ d, 0 < d → d < n → par d ≠ p) ∧
  (∀ p, p < n → ch p ≠ 0 → ch p < n ∧ par (ch p) = p ∧ ∀ d, 0 < d → d < n → par d = p → ch p ≤ d) ∧
  (∀ a, 0 < a → a < n → sb a = 0 → ∀ d, 0 < d → d < n → par d = par a → d ≤ a) ∧
  (∀ a, 0 < a → a < n → sb a ≠ 0 → sb a < n ∧ a < sb a ∧ par (sb a) = par a ∧ ∀ d, 0 < d → d < n → par d = par a → a < d → sb a ≤ d)
theorem tr_ins {M n p s : Nat} {sg par lev ch sb sg' par' lev' ch' sb' : Nat → Nat} (h : tr_T M n sg par lev ch sb) (hp : p < n) (hl : lev p < 6) (hs : s < M)
    (g1 : ∀ d, d < n → sg' d = sg d ∧ par' d = par d ∧ lev' d = lev d) (g2 : sg' n = s ∧ par' n = p ∧ lev' n = lev p + 1 ∧ ch' n = 0 ∧ sb' n = 0)
    (g3 : (ch p = 0 ∧ ch' p = n ∧ (∀ d, d < n → d ≠ p → ch' d = ch d) ∧ ∀ d, d < n → sb' d = sb d) ∨
      ∃ a, 0 < a ∧ a < n ∧ par a = p ∧ sb a = 0 ∧ sb' a = n ∧ (∀ d, d < n → d ≠ a → sb' d = sb d) ∧ ∀ d, d < n → ch' d = ch d) :
    tr_T M (n + 1) sg' par' lev' ch' sb' := by
  obtain ⟨t0, t1, t2, t3, t4, t5, t6, t7⟩ := h
  obtain ⟨q1, q2, q3, q4, q5⟩ := g2
  have P : ∀ d, d < n → par' d = par d := fun d hd => (g1 d hd).2.1
  have Lv : ∀ d, d < n → lev' d = lev d := fun d hd => (g1 d hd).2.2
  have S : ∀ d, d < n → sg' d = sg d := fun d hd => (g1 d hd).1
  have C3 : ∀ d, 0 < d → d < n + 1 → par' d < d ∧ lev' d = lev' (par' d) + 1 ∧ lev' d ≤ 6 ∧ sg' d < M := by
    intro d h0 hd
    by_cases e : d = n
    · subst e
      rw [q1, q2, q3, Lv p hp]
      exact ⟨hp, rfl, by omega, hs⟩
    · have hd' : d < n := by omega
      obtain ⟨a1, a2, a3, a4⟩ := t3 d h0 hd'
      rw [P d hd', S d hd', Lv d hd', Lv (par d) (by omega)]
      exact ⟨a1, a2, a3, a4⟩
  have pd : ∀ d, 0 < d → d < n → par d < n := fun d h0 hd => by have := (t3 d h0 hd).1; omega
  have l0 : lev' 0 = 0 := by rw [Lv 0 t0, t1]
  rcases g3 with ⟨k1, k2, k3, k4⟩ | ⟨a, k1, k2, k3, k4, k5, k6, k7⟩
  · refine ⟨by omega, l0, by rw [k4 0 t0, t2], C3, ?_, ?_, ?_, ?_⟩
    · intro r hr hc d h0 hd hpd
      by_cases er : r = n
      · subst er
        by_cases ed : d = r
        · subst ed; omega
        · rw [P d (by omega)] at hpd
          have := pd d h0 (by omega)
          omega
      · have hr' : r < n := by omega
        by_cases erp : r = p
        · subst erp; omega
        · rw [k3 r hr' erp] at hc
          by_cases ed : d = n
          · subst ed; omega
          · rw [P d (by omega)] at hpd
            exact t4 r hr' hc d h0 (by omega) hpd
    · intro r hr hc
      by_cases er : r = n
      · subst er; omega
      · have hr' : r < n := by omega
        by_cases erp : r = p
        · subst erp
          rw [k2]
          refine ⟨by omega, q2, fun d h0 hd hpd => ?_⟩
          by_cases ed : d = n
          · omega
          · rw [P d (by omega)] at hpd
            exact absurd hpd (t4 r hr' k1 d h0 (by omega))
        · rw [k3 r hr' erp] at hc ⊢
          obtain ⟨a1, a2, a3⟩ := t5 r hr' hc
          refine ⟨by omega, by rw [P _ a1]; exact a2, fun d h0 hd hpd => ?_⟩
          by_cases ed : d = n
          · subst ed; omega
          · rw [P d (by omega)] at hpd
            exact a3 d h0 (by omega) hpd
    · intro x h0 hx hc d h0' hd hpd
      by_cases ex : x = n
      · omega
      · have hx' : x < n := by omega
        rw [k4 x hx'] at hc
        by_cases ed : d = n
        · subst ed
          rw [q2, P x hx'] at hpd
          exact absurd hpd.symm (t4 p hp k1 x h0 hx')
        · rw [P d (by omega), P x hx'] at hpd
          exact t6 x h0 hx' hc d h0' (by omega) hpd
    · intro x h0 hx hc
      by_cases ex : x = n
      · subst ex; omega
      · have hx' : x < n := by omega
        rw [k4 x hx'] at hc ⊢
        obtain ⟨a1, a2, a3, a4⟩ := t7 x h0 hx' hc
        refine ⟨by omega, a2, by rw [P _ a1, P x hx']; exact a3, fun d h0' hd hpd hlt => ?_⟩
        by_cases ed : d = n
        · omega
        · rw [P d (by omega), P x hx'] at hpd
          exact a4 d h0' (by omega) hpd hlt
  · have sb0 : sb' 0 = 0 := by rw [k6 0 t0 (by omega), t2]
    refine ⟨by omega, l0, sb0, C3, ?_, ?_, ?_, ?_⟩
    · intro r hr hc d h0 hd hpd
      by_cases er : r = n
      · subst er
        by_cases ed : d = r
        · subst ed; omega
        · rw [P d (by omega)] at hpd
          have := pd d h0 (by omega)
          omega
      · have hr' : r < n := by omega
        rw [k7 r hr'] at hc
        by_cases ed : d = n
        · subst ed
          rw [q2] at hpd
          subst hpd
          exact t4 p hr' hc a k1 k2 k3
        · rw [P d (by omega)] at hpd
          exact t4 r hr' hc d h0 (by omega) hpd
    · intro r hr hc
      by_cases er : r = n
      · subst er; omega
      · have hr' : r < n := by omega
        rw [k7 r hr'] at hc ⊢
        obtain ⟨a1, a2, a3⟩ := t5 r hr' hc
        refine ⟨by omega, by rw [P _ a1]; exact a2, fun d h0 hd hpd => ?_⟩
        by_cases ed : d = n
        · omega
        · rw [P d (by omega)] at hpd
          exact a3 d h0 (by omega) hpd
    · intro x h0 hx hc d h0' hd hpd
      by_cases ex : x = n
      · omega
      · have hx' : x < n := by omega
        by_cases exa : x = a
        · subst exa; omega
        · rw [k6 x hx' exa] at hc
          by_cases ed : d = n
          · subst ed
            rw [q2, P x hx'] at hpd
            have i1 := t6 x h0 hx' hc a k1 k2 (by omega)
            have i2 := t6 a k1 k2 k4 x h0 hx' (by omega)
            omega
          · rw [P d (by omega), P x hx'] at hpd
            exact t6 x h0 hx' hc d h0' (by omega) hpd
    · intro x h0 hx hc
      by_cases ex : x = n
      · subst ex; omega
      · have hx' : x < n := by omega
        by_cases exa : x = a
        · subst exa
          rw [k5]
          refine ⟨by omega, hx', by rw [q2, P x hx', k3], fun d h0' hd hpd hlt => ?_⟩
          by_cases ed : d = n
          · omega
          · rw [P d (by omega), P x hx'] at hpd
            have := t6 x h0 hx' k4 d h0' (by omega) hpd
            omega
        · rw [k6 x hx' exa] at hc ⊢
          obtain ⟨a1, a2, a3, a4⟩ := t7 x h0 hx' hc
          refine ⟨by omega, a2, by rw [P _ a1, P x hx']; exact a3, fun d h0' hd hpd hlt => ?_⟩
          by_cases ed : d = n
          · omega
          · rw [P d (by omega), P x hx'] at hpd
            exact a4 d h0' (by omega) hpd hlt
theorem tr_ins_ch {M n p s : Nat} {sg par lev ch sb : Nat → Nat} (h : tr_T M n sg par lev ch sb) (hp : p < n) (hl : lev p < 6) (hs : s < M) (hc : ch p = 0) :
    tr_T M (n + 1) (ar_u sg n s) (ar_u par n p) (ar_u lev n (lev p + 1)) (ar_u (ar_u ch n 0) p n) (ar_u sb n 0) :=
  tr_ins h hp hl hs (fun d hd => ⟨ar_un (by omega), ar_un (by omega), ar_un (by omega)⟩) ⟨ar_us, ar_us, ar_us, (ar_un (by omega)).trans ar_us, ar_us⟩
    (Or.inl ⟨hc, ar_us, fun d hd hdp => (ar_un hdp).trans (ar_un (by omega)), fun d hd => ar_un (by omega)⟩)
theorem tr_ins_sb {M n p s a : Nat} {sg par lev ch sb : Nat → Nat} (h : tr_T M n sg par lev ch sb) (hp : p < n) (hl : lev p < 6) (hs : s < M) (h0 : 0 < a) (ha : a < n) (hpa : par a = p) (hc : sb a = 0) :
    tr_T M (n + 1) (ar_u sg n s) (ar_u par n p) (ar_u lev n (lev p + 1)) (ar_u ch n 0) (ar_u (ar_u sb n 0) a n) :=
  tr_ins h hp hl hs (fun d hd => ⟨ar_un (by omega), ar_un (by omega), ar_un (by omega)⟩) ⟨ar_us, ar_us, ar_us, ar_us, (ar_un (by omega)).trans ar_us⟩
    (Or.inr ⟨a, h0, ha, hpa, hc, ar_us, fun d hd hdp => (ar_un hdp).trans (ar_un (by omega)), fun d hd => ar_un (by omega)⟩)
theorem tr_one {M : Nat} {sg par lev ch sb : Nat → Nat} (h1 : lev 0 = 0) (h2 : ch 0 = 0) (h3 : sb 0 = 0) : tr_T M 1 sg par lev ch sb := by
  refine ⟨by omega, h1, h3, fun d h0 hd => absurd hd (by omega), fun p hp hc d h0 hd => absurd hd (by omega), fun p hp hc => ?_, fun a h0 ha => absurd ha (by omega), fun a h0 ha => absurd ha (by omega)⟩
  have e : p = 0 := by omega
  subst e
  exact absurd h2 hc
/-! a rule's path -/
def tr_A (K A B C : Nat → Nat) (i j : Nat) : Prop := K i = K j ∧ A i = A j ∧ B i = B j ∧ C i = C j
def tr_P (n : Nat) (sg par K A B C : Nat → Nat) (i0 m e : Nat) : Prop :=
  ∃ nd : Nat → Nat, nd 0 = 0 ∧ nd m = e ∧ ∀ j, j < m → 0 < nd (j + 1) ∧ nd (j + 1) < n ∧ par (nd (j + 1)) = nd j ∧ tr_A K A B C (sg (nd (j + 1))) (i0 + j)
theorem tr_P0 {n : Nat} {sg par K A B C : Nat → Nat} {i0 : Nat} : tr_P n sg par K A B C i0 0 0 :=
  ⟨fun _ => 0, rfl, rfl, fun j hj => absurd hj (by omega)⟩
theorem tr_Pext {n n' : Nat} {sg par sg' par' K A B C : Nat → Nat} {i0 m e : Nat} (h : tr_P n sg par K A B C i0 m e) (hn : n ≤ n') (g : ∀ d, d < n → sg' d = sg d ∧ par' d = par d) : tr_P n' sg' par' K A B C i0 m e := by
  obtain ⟨nd, h0, h1, h2⟩ := h
  refine ⟨nd, h0, h1, fun j hj => ?_⟩
  obtain ⟨a1, a2, a3, a4⟩ := h2 j hj
  obtain ⟨b1, b2⟩ := g _ a2
  rw [b1, b2]
  exact ⟨a1, by omega, a3, a4⟩
theorem tr_Psn {n : Nat} {sg par K A B C : Nat → Nat} {i0 m e r : Nat} (h : tr_P n sg par K A B C i0 m e) (h0 : 0 < r) (hr : r < n) (hp : par r = e) (ha : tr_A K A B C (sg r) (i0 + m)) : tr_P n sg par K A B C i0 (m + 1) r := by
  obtain ⟨nd, g0, g1, g2⟩ := h
  refine ⟨ar_u nd (m + 1) r, (ar_un (by omega)).trans g0, ar_us, fun j hj => ?_⟩
  by_cases e1 : j = m
  · subst e1
    rw [ar_us, ar_un (by omega), g1]
    exact ⟨h0, hr, hp, ha⟩
  · rw [ar_un (by omega), ar_un (by omega)]
    exact g2 j (by omega)
theorem tr_Pcg {n M : Nat} {sg par K A B C K' A' B' C' : Nat → Nat} {i0 m e : Nat} (h : tr_P n sg par K A B C i0 m e) (hs : ∀ d, 0 < d → d < n → sg d < M) (hm : i0 + m ≤ M) (g : ∀ i, i < M → K' i = K i ∧ A' i = A i ∧ B' i = B i ∧ C' i = C i) : tr_P n sg par K' A' B' C' i0 m e := by
  obtain ⟨nd, h0, h1, h2⟩ := h
  refine ⟨nd, h0, h1, fun j hj => ?_⟩
  obtain ⟨a1, a2, a3, b1, b2, b3, b4⟩ := h2 j hj
  obtain ⟨c1, c2, c3, c4⟩ := g _ (hs _ a1 a2)
  obtain ⟨d1, d2, d3, d4⟩ := g (i0 + j) (by omega)
  exact ⟨a1, a2, a3, by rw [c1, d1, b1], by rw [c2, d2, b2], by rw [c3, d3, b3], by rw [c4, d4, b4]⟩
theorem tr_Plev {M n : Nat} {sg par lev ch sb K A B C : Nat → Nat} {i0 m e : Nat} (hT : tr_T M n sg par lev ch sb) (h : tr_P n sg par K A B C i0 m e) : e < n ∧ lev e = m := by
  obtain ⟨t0, t1, t2, t3, t4, t5, t6, t7⟩ := hT
  obtain ⟨nd, h0, h1, h2⟩ := h
  have g : ∀ j, j ≤ m → nd j < n ∧ lev (nd j) = j := by
    intro j
    induction j with
    | zero => intro _; rw [h0]; exact ⟨t0, t1⟩
    | succ j ih =>
      intro hj
      obtain ⟨a1, a2, a3, a4⟩ := h2 j (by omega)
      refine ⟨a2, ?_⟩
      rw [(t3 _ a1 a2).2.1, a3, (ih (by omega)).2]
  have := g m (Nat.le_refl m)
  rw [h1] at this
  exact this
/-! where the rules end -/
def tr_E (q n : Nat) (sg par en K A B C bg eN : Nat → Nat) : Prop :=
  (∀ d, d < n → en d < 2 ^ q) ∧ ∀ k, k < q → tr_P n sg par K A B C (bg k) (bg (k + 1) - bg k) (eN k) ∧ eN k < n ∧ ∀ d, d < n → (en d).testBit k = decide (d = eN k)
theorem tr_E0 {n : Nat} {sg par en K A B C bg eN : Nat → Nat} (h : ∀ d, d < n → en d = 0) : tr_E 0 n sg par en K A B C bg eN :=
  ⟨fun d hd => by rw [h d hd]; exact Nat.one_pos, fun k hk => absurd hk (by omega)⟩
theorem tr_Eext {q n s p : Nat} {sg par en K A B C bg eN : Nat → Nat} (h : tr_E q n sg par en K A B C bg eN) : tr_E q (n + 1) (ar_u sg n s) (ar_u par n p) (ar_u en n 0) K A B C bg eN := by
  obtain ⟨h1, h2⟩ := h
  refine ⟨fun d hd => ?_, fun k hk => ?_⟩
  · by_cases e : d = n
    · subst e
      rw [ar_us]
      exact Nat.two_pow_pos q
    · rw [ar_un e]
      exact h1 d (by omega)
  · obtain ⟨a1, a2, a3⟩ := h2 k hk
    refine ⟨tr_Pext a1 (by omega) (fun d hd => ⟨ar_un (by omega), ar_un (by omega)⟩), by omega, fun d hd => ?_⟩
    by_cases e : d = n
    · subst e
      rw [ar_us, decide_eq_false (by omega)]
      exact Nat.zero_testBit k
    · rw [ar_un e]
      exact a3 d (by omega)
theorem tr_Eadd {q n e : Nat} {sg par en K A B C bg eN : Nat → Nat} (h : tr_E q n sg par en K A B C bg eN) (hP : tr_P n sg par K A B C (bg q) (bg (q + 1) - bg q) e) (he : e < n) : tr_E (q + 1) n sg par (ar_u en e (en e ||| 2 ^ q)) K A B C bg (ar_u eN q e) := by
  obtain ⟨h1, h2⟩ := h
  have hq : 2 ^ q < 2 ^ (q + 1) := Nat.pow_lt_pow_right (by decide) (by omega)
  refine ⟨fun d hd => ?_, fun k hk => ?_⟩
  · by_cases e1 : d = e
    · subst e1
      rw [ar_us]
      exact Nat.or_lt_two_pow (Nat.lt_trans (h1 d hd) hq) hq
    · rw [ar_un e1]
      exact Nat.lt_trans (h1 d hd) hq
  · by_cases ek : k = q
    · subst ek
      rw [ar_us]
      refine ⟨hP, he, fun d hd => ?_⟩
      by_cases e1 : d = e
      · subst e1
        rw [ar_us, Nat.testBit_or, Nat.testBit_two_pow_self, Bool.or_true, decide_eq_true rfl]
      · rw [ar_un e1, Nat.testBit_lt_two_pow (h1 d hd), decide_eq_false e1]
    · obtain ⟨a1, a2, a3⟩ := h2 k (by omega)
      rw [ar_un ek]
      refine ⟨a1, a2, fun d hd => ?_⟩
      by_cases e1 : d = e
      · subst e1
        rw [ar_us, Nat.testBit_or, Nat.testBit_two_pow_of_ne (Ne.symm ek), Bool.or_false]
        exact a3 d hd
      · rw [ar_un e1]
        exact a3 d hd
def tr_Z (c n : Nat) (sg par lev ch sb en K A B C bg : Nat → Nat) : Prop := tr_T (bg c) n sg par lev ch sb ∧ n ≤ 31 ∧ ∃ eN, tr_E c n sg par en K A B C bg eN
end
section
theorem nx_or (a b : Nat) : nI a ||| nI b = nI (a ||| b) := by
  apply Int32.toBitVec_inj.mp
  apply BitVec.eq_of_toNat_eq
  show ((BitVec.ofNat 32 a) ||| (BitVec.ofNat 32 b)).toNat = (BitVec.ofNat 32 (a ||| b)).toNat
  rw [BitVec.toNat_or, BitVec.toNat_ofNat, BitVec.toNat_ofNat, BitVec.toNat_ofNat, Nat.or_mod_two_pow]
theorem nx_one {k : Nat} (hk : k < 31) : (1 : Int32) <<< (nI k &&& 31) = nI (2 ^ k) := by
  have h : 1 * 2 ^ k < 2 ^ 32 := by rw [Nat.one_mul]; exact Nat.pow_lt_pow_right (by decide) (by omega)
  have e := pk_shlN (n := 1) (nI k &&& 31) k (s_l k (by omega)) h
  rw [Nat.one_mul] at e
  exact e
def ab_S (K A B C : Nat → Nat) : Prop := ∀ q, K q < 2 ^ 31 ∧ A q < 2 ^ 31 ∧ B q < 2 ^ 31 ∧ C q < 2 ^ 31
section
variable {t c L n ft : Nat} {bu ps : Int32} {K A B C bg b sg par lev ch sb en pl : Nat → Nat} {va lf : Nat → Int32}
theorem xb_alike {post : Int32 → Prop} {i j : Nat} (hi : i < 32) (hj : j < 32) (hS : ab_S K A B C) (h1 : tr_A K A B C i j → post 1) (h0 : post 0) : wpX_alike post (nI t, nI c, nI L, bu, nI n, ps, nI ft, ar_g K, ar_g A, ar_g B, ar_g C, ar_g bg, ar_g b, ar_g sg, ar_g par, ar_g lev, ar_g ch, ar_g sb, ar_g en, ar_g pl, va, lf) (nI i) (nI j) := by
  have ii : vp_in (nI i) 32 := pk_in i 32 hi
  have ij : vp_in (nI j) 32 := pk_in j 32 hj
  have bi := hS i
  have bj := hS j
  unfold wpX_alike
  dsimp only
  rw [ar_get (f := K) (j := i) (by omega), ar_get (f := K) (j := j) (by omega), ar_get (f := A) (j := i) (by omega), ar_get (f := A) (j := j) (by omega), ar_get (f := B) (j := i) (by omega), ar_get (f := B) (j := j) (by omega), ar_get (f := C) (j := i) (by omega), ar_get (f := C) (j := j) (by omega)]
  exact ⟨ii, ij, pk_eq (K i) (K j) (fun e1 => ⟨ii, ij, pk_eq (A i) (A j) (fun e2 => ⟨ii, ij, pk_eq (B i) (B j) (fun e3 => ⟨ii, ij, pk_eq (C i) (C j) (fun e4 => h1 ⟨e1, e2, e3, e4⟩) (fun _ => h0)⟩) (fun _ => h0)⟩) (fun _ => h0)⟩) (fun _ => h0)⟩
theorem xb_61 {post : Int32 → SX → Prop} {M p s a : Nat} (hT : tr_T M n sg par lev ch sb) (hn : n ≤ 30) (hp : p < n) (hl : lev p < 6) (hs : s < M) (h : (a = 0 ∧ ch p = 0) ∨ (0 < a ∧ a < n ∧ par a = p ∧ sb a = 0))
    (H : ∀ ch' sb', tr_T M (n + 1) (ar_u sg n s) (ar_u par n p) (ar_u lev n (lev p + 1)) ch' sb' → post (nI n) (nI t, nI c, nI L, bu, nI (n + 1), ps, nI ft, ar_g K, ar_g A, ar_g B, ar_g C, ar_g bg, ar_g b, ar_g (ar_u sg n s), ar_g (ar_u par n p), ar_g (ar_u lev n (lev p + 1)), ar_g ch', ar_g sb', ar_g (ar_u en n 0), ar_g pl, va, lf)) : wX_childFor_61 post (nI p) (nI s) (nI a) (nI t) (nI c) (nI L) bu (nI n) ps (nI ft) (ar_g K) (ar_g A) (ar_g B) (ar_g C) (ar_g bg) (ar_g b) (ar_g sg) (ar_g par) (ar_g lev) (ar_g ch) (ar_g sb) (ar_g en) (ar_g pl) va lf := by
  have i1 : vp_in (nI n) 32 := pk_in n 32 (by omega)
  have i2 : vp_in (nI p) 32 := pk_in p 32 (by omega)
  refine nm_r (e' := nI (n + 1)) (nI_1 n) ⟨i1, nm_r (e' := ar_g (ar_u sg n s)) (ar_set (by omega)) ⟨i1, nm_r (e' := ar_g (ar_u par n p)) (ar_set (by omega)) ⟨i2, i1, nm_r (e' := ar_g (ar_u lev n (lev p + 1))) ?_ ⟨i1, nm_r (e' := ar_g (ar_u ch n 0)) (ar_set (x := 0) (by omega)) ⟨i1, nm_r (e' := ar_g (ar_u sb n 0)) (ar_set (x := 0) (by omega)) ⟨i1, nm_r (e' := ar_g (ar_u en n 0)) (ar_set (x := 0) (by omega)) ?_⟩⟩⟩⟩⟩⟩
  · rw [ar_get (by omega), nI_1, ar_set (by omega)]
  rcases h with ⟨ha, hc⟩ | ⟨h0, ha, hpa, hc⟩
  · subst ha
    exact br_t rfl ⟨i2, nm_r (e' := ar_g (ar_u (ar_u ch n 0) p n)) (ar_set (by omega)) (H _ _ (tr_ins_ch hT hp hl hs hc))⟩
  · exact br_f (nI_ne0 h0 (by omega)) ⟨pk_in a 32 (by omega), nm_r (e' := ar_g (ar_u (ar_u sb n 0) a n)) (ar_set (by omega)) (H _ _ (tr_ins_sb hT hp hl hs h0 ha hpa hc))⟩
theorem xb_13 {post : Int32 → SX → Prop} {M p s : Nat} (hT : tr_T M n sg par lev ch sb) (hS : ab_S K A B C) (hM : M ≤ 30) (hn : n ≤ 30) (hp : p < n) (hl : lev p < 6) (hs : s < M)
    (H1 : ∀ r, 0 < r → r < n → par r = p → tr_A K A B C (sg r) s → post (nI r) (nI t, nI c, nI L, bu, nI n, ps, nI ft, ar_g K, ar_g A, ar_g B, ar_g C, ar_g bg, ar_g b, ar_g sg, ar_g par, ar_g lev, ar_g ch, ar_g sb, ar_g en, ar_g pl, va, lf))
    (H : ∀ ch' sb', tr_T M (n + 1) (ar_u sg n s) (ar_u par n p) (ar_u lev n (lev p + 1)) ch' sb' → post (nI n) (nI t, nI c, nI L, bu, nI (n + 1), ps, nI ft, ar_g K, ar_g A, ar_g B, ar_g C, ar_g bg, ar_g b, ar_g (ar_u sg n s), ar_g (ar_u par n p), ar_g (ar_u lev n (lev p + 1)), ar_g ch', ar_g sb', ar_g (ar_u en n 0), ar_g pl, va, lf)) :
    ∀ e d a i, (d ≠ 0 → d < n ∧ n ≤ d + e ∧ par d = p ∧ i < d) → ((a = 0 ∧ ch p = d) ∨ (0 < a ∧ a < n ∧ par a = p ∧ sb a = d)) → wX_childFor_13 post (nI p) (nI s) (nI t) (nI c) (nI L) bu (nI n) ps (nI ft) (ar_g K) (ar_g A) (ar_g B) (ar_g C) (ar_g bg) (ar_g b) (ar_g sg) (ar_g par) (ar_g lev) (ar_g ch) (ar_g sb) (ar_g en) (ar_g pl) va lf (e + 1) (nI a) (nI d) (nI i) := by
  intro e
  have T := hT
  obtain ⟨t0, t1, t2, t3, t4, t5, t6, t7⟩ := T
  have Z : ∀ a, ((a = 0 ∧ ch p = 0) ∨ (0 < a ∧ a < n ∧ par a = p ∧ sb a = 0)) → wX_childFor_61 post (nI p) (nI s) (nI a) (nI t) (nI c) (nI L) bu (nI n) ps (nI ft) (ar_g K) (ar_g A) (ar_g B) (ar_g C) (ar_g bg) (ar_g b) (ar_g sg) (ar_g par) (ar_g lev) (ar_g ch) (ar_g sb) (ar_g en) (ar_g pl) va lf := fun a h => xb_61 hT hn hp hl hs h H
  induction e with
  | zero =>
    intro d a i hd ha
    have e0 : d = 0 := by
      by_cases e0 : d = 0
      · exact e0
      · have := hd e0
        omega
    subst e0
    exact br_c (fun _ => Z a ha) (fun _ => br_t rfl (Z a ha))
  | succ e ih =>
    intro d a i hd ha
    by_cases e0 : d = 0
    · subst e0
      exact br_c (fun _ => Z a ha) (fun _ => br_t rfl (Z a ha))
    · obtain ⟨g1, g2, g3, g4⟩ := hd e0
      have sd := (t3 d (by omega) g1).2.2.2
      refine pk_le 32 i (fun z => absurd z (by omega)) (fun _ => br_f (nI_ne0 (by omega) (by omega)) ⟨pk_in d 32 (by omega), ?_⟩)
      rw [ar_get (f := sg) (j := d) (by omega)]
      refine xb_alike (by omega) (by omega) hS (fun h => br_f (by decide) (H1 d (by omega) g1 g3 h)) (br_t rfl ⟨pk_in d 32 (by omega), nm_r (e' := nI (sb d)) (ar_get (by omega)) (nm_r (e' := nI (i + 1)) (nI_1 i) (ih (sb d) d (i + 1) (fun hz => ?_) (Or.inr ⟨by omega, g1, g3, rfl⟩)))⟩)
      obtain ⟨b1, b2, b3, b4⟩ := t7 d (by omega) g1 hz
      exact ⟨b1, by omega, by omega, by omega⟩
theorem xb_cf {post : Int32 → SX → Prop} {M p s : Nat} (hT : tr_T M n sg par lev ch sb) (hS : ab_S K A B C) (hM : M ≤ 30) (hn : n ≤ 30) (hp : p < n) (hl : lev p < 6) (hs : s < M)
    (H1 : ∀ r, 0 < r → r < n → par r = p → tr_A K A B C (sg r) s → post (nI r) (nI t, nI c, nI L, bu, nI n, ps, nI ft, ar_g K, ar_g A, ar_g B, ar_g C, ar_g bg, ar_g b, ar_g sg, ar_g par, ar_g lev, ar_g ch, ar_g sb, ar_g en, ar_g pl, va, lf))
    (H : ∀ ch' sb', tr_T M (n + 1) (ar_u sg n s) (ar_u par n p) (ar_u lev n (lev p + 1)) ch' sb' → post (nI n) (nI t, nI c, nI L, bu, nI (n + 1), ps, nI ft, ar_g K, ar_g A, ar_g B, ar_g C, ar_g bg, ar_g b, ar_g (ar_u sg n s), ar_g (ar_u par n p), ar_g (ar_u lev n (lev p + 1)), ar_g ch', ar_g sb', ar_g (ar_u en n 0), ar_g pl, va, lf)) : wpX_childFor post (nI t, nI c, nI L, bu, nI n, ps, nI ft, ar_g K, ar_g A, ar_g B, ar_g C, ar_g bg, ar_g b, ar_g sg, ar_g par, ar_g lev, ar_g ch, ar_g sb, ar_g en, ar_g pl, va, lf) (nI p) (nI s) := by
  refine And.intro (pk_in p 32 (by omega)) (nm_r (e' := nI (ch p)) (ar_get (by omega)) ⟨n + 1, xb_13 hT hS hM hn hp hl hs H1 H n (ch p) 0 0 (fun h => ?_) (Or.inl ⟨rfl, rfl⟩)⟩)
  obtain ⟨t0, t1, t2, t3, t4, t5, t6, t7⟩ := hT
  obtain ⟨b1, b2, b3⟩ := t5 p hp h
  exact ⟨b1, by omega, b2, by omega⟩
end
section
variable {t c L ft : Nat} {bu ps : Int32} {K A B C bg b pl : Nat → Nat} {va lf : Nat → Int32}
theorem xb_60 {post : SX → Prop} (J : Int32 → Int32 → Int32 → Int32 → Int32 → Int32 → Int32 → Int32 → (Nat → Int32) → (Nat → Int32) → (Nat → Int32) → (Nat → Int32) → (Nat → Int32) → (Nat → Int32) → (Nat → Int32) → (Nat → Int32) → (Nat → Int32) → (Nat → Int32) → (Nat → Int32) → (Nat → Int32) → (Nat → Int32) → (Nat → Int32) → (Nat → Int32) → Prop) {k : Nat} (hc : c ≤ 6) (hk : k < c) (hM : bg c ≤ 30) (h1 : bg k ≤ bg (k + 1)) (h2 : bg (k + 1) ≤ bg k + 6) (h3 : bg (k + 1) ≤ bg c) (hS : ab_S K A B C)
    (HJ : ∀ (n : Nat) (sg par lev ch sb en eN : Nat → Nat), tr_T (bg c) n sg par lev ch sb → n ≤ 1 + bg (k + 1) → tr_E (k + 1) n sg par en K A B C bg eN → J (nI (k + 1)) (nI t) (nI c) (nI L) bu (nI n) ps (nI ft) (ar_g K) (ar_g A) (ar_g B) (ar_g C) (ar_g bg) (ar_g b) (ar_g sg) (ar_g par) (ar_g lev) (ar_g ch) (ar_g sb) (ar_g en) (ar_g pl) va lf) :
    ∀ d j, j + d = bg (k + 1) - bg k → ∀ (n node : Nat) (sg par lev ch sb en eN : Nat → Nat), tr_T (bg c) n sg par lev ch sb → n ≤ 1 + bg k + j → tr_E k n sg par en K A B C bg eN → tr_P n sg par K A B C (bg k) j node → wX_build_60 post J (nI k) (d + 1) (nI node) (nI (bg k + j)) (nI t) (nI c) (nI L) bu (nI n) ps (nI ft) (ar_g K) (ar_g A) (ar_g B) (ar_g C) (ar_g bg) (ar_g b) (ar_g sg) (ar_g par) (ar_g lev) (ar_g ch) (ar_g sb) (ar_g en) (ar_g pl) va lf := by
  intro d
  have eb : ar_g bg (nI (k + 1)).toNatClampNeg = nI (bg (k + 1)) := ar_get (by omega)
  induction d with
  | zero =>
    intro j hj n node sg par lev ch sb en eN hT hn hE hP
    have ej : bg k + j = bg (k + 1) := by omega
    have em : j = bg (k + 1) - bg k := by omega
    obtain ⟨w1, w2⟩ := tr_Plev hT hP
    have i1 : vp_in (nI node) 32 := pk_in node 32 (by omega)
    refine And.intro (pk_in (k + 1) 7 (by omega) (nI_1 k)) ?_
    rw [nI_1 k, eb, ej]
    refine pk_le (bg (k + 1)) (bg (k + 1)) (fun _ => ⟨i1, i1, nm_r (e' := ar_g (ar_u en node (en node ||| 2 ^ k))) ?_ (nm_r (e' := nI (k + 1)) rfl (HJ n sg par lev ch sb _ _ hT (by omega) (tr_Eadd hE (em ▸ hP) w1)))⟩) (fun z => absurd z (by omega))
    rw [ar_get (by omega), nx_one (by omega), nx_or, ar_set (by omega)]
  | succ d ih =>
    intro j hj n node sg par lev ch sb en eN hT hn hE hP
    obtain ⟨w1, w2⟩ := tr_Plev hT hP
    refine And.intro (pk_in (k + 1) 7 (by omega) (nI_1 k)) ?_
    rw [nI_1 k, eb]
    refine pk_le (bg (k + 1)) (bg k + j) (fun z => absurd z (by omega)) (fun _ => ?_)
    refine xb_cf hT hS hM (by omega) w1 (by omega) (by omega) (fun r r0 r1 r2 r3 => nm_r (e' := nI (bg k + (j + 1))) (nI_1 _) (ih (j + 1) (by omega) n r sg par lev ch sb en eN hT (by omega) hE (tr_Psn hP r0 r1 r2 r3))) (fun ch' sb' hT' => nm_r (e' := nI (bg k + (j + 1))) (nI_1 _) (ih (j + 1) (by omega) (n + 1) n _ _ _ ch' sb' _ eN hT' (by omega) (tr_Eext hE) (tr_Psn (tr_Pext hP (by omega) (fun d hd => ⟨ar_un (by omega), ar_un (by omega)⟩)) hT.1 (by omega) ar_us ?_)))
    rw [ar_us]
    exact ⟨rfl, rfl, rfl, rfl⟩
theorem xb_43 {post : SX → Prop} (hc : c ≤ 6) (hM : bg c ≤ 30) (h1 : ∀ k, k < c → bg k ≤ bg (k + 1) ∧ bg (k + 1) ≤ bg k + 6 ∧ bg (k + 1) ≤ bg c) (hS : ab_S K A B C)
    (H : ∀ (n : Nat) (sg par lev ch sb en : Nat → Nat), tr_Z c n sg par lev ch sb en K A B C bg → post (nI t, nI c, nI L, 1, nI n, 0, nI ft, ar_g K, ar_g A, ar_g B, ar_g C, ar_g bg, ar_g b, ar_g sg, ar_g par, ar_g lev, ar_g ch, ar_g sb, ar_g en, ar_g pl, va, lf)) :
    ∀ d k, k + d = c → ∀ (n : Nat) (sg par lev ch sb en eN : Nat → Nat), tr_T (bg c) n sg par lev ch sb → n ≤ 1 + bg k → tr_E k n sg par en K A B C bg eN → wX_build_43 post (d + 1) (nI k) (nI t) (nI c) (nI L) bu (nI n) ps (nI ft) (ar_g K) (ar_g A) (ar_g B) (ar_g C) (ar_g bg) (ar_g b) (ar_g sg) (ar_g par) (ar_g lev) (ar_g ch) (ar_g sb) (ar_g en) (ar_g pl) va lf := by
  intro d
  induction d with
  | zero =>
    intro k hk n sg par lev ch sb en eN hT hn hE
    have e : k = c := by omega
    subst e
    exact pk_le k k (fun _ => H n sg par lev ch sb en ⟨hT, by omega, eN, hE⟩) (fun z => absurd z (by omega))
  | succ d ih =>
    intro k hk n sg par lev ch sb en eN hT hn hE
    obtain ⟨g1, g2, g3⟩ := h1 k (by omega)
    exact pk_le c k (fun z => absurd z (by omega)) (fun _ => ⟨pk_in k 7 (by omega), nm_r (e' := nI (bg k)) (ar_get (by omega)) ⟨bg (k + 1) - bg k + 1, xb_60 _ hc (by omega) hM g1 g2 g3 hS (fun n sg par lev ch sb en eN => ih (k + 1) (by omega) n sg par lev ch sb en eN) (bg (k + 1) - bg k) 0 (by omega) n 0 sg par lev ch sb en eN hT (by omega) hE tr_P0⟩⟩)
end
section
variable {t c L n ft : Nat} {bu ps : Int32} {K A B C bg b sg par lev ch sb en pl : Nat → Nat} {va lf : Nat → Int32}
theorem xb_build {post : SX → Prop} (hc : c ≤ 6) (hM : bg c ≤ 30) (h1 : ∀ k, k < c → bg k ≤ bg (k + 1) ∧ bg (k + 1) ≤ bg k + 6 ∧ bg (k + 1) ≤ bg c) (hS : ab_S K A B C)
    (H0 : bu ≠ 0 → post (nI t, nI c, nI L, bu, nI n, ps, nI ft, ar_g K, ar_g A, ar_g B, ar_g C, ar_g bg, ar_g b, ar_g sg, ar_g par, ar_g lev, ar_g ch, ar_g sb, ar_g en, ar_g pl, va, lf))
    (H : bu = 0 → ∀ (n : Nat) (sg par lev ch sb en : Nat → Nat), tr_Z c n sg par lev ch sb en K A B C bg → post (nI t, nI c, nI L, 1, nI n, 0, nI ft, ar_g K, ar_g A, ar_g B, ar_g C, ar_g bg, ar_g b, ar_g sg, ar_g par, ar_g lev, ar_g ch, ar_g sb, ar_g en, ar_g pl, va, lf)) : wpX_build post (nI t, nI c, nI L, bu, nI n, ps, nI ft, ar_g K, ar_g A, ar_g B, ar_g C, ar_g bg, ar_g b, ar_g sg, ar_g par, ar_g lev, ar_g ch, ar_g sb, ar_g en, ar_g pl, va, lf) := by
  refine br_c (fun h => ?_) H0
  refine nm_r (e' := ar_g (ar_u lev 0 0)) (ar_set0 lev 0 0) (nm_r (e' := ar_g (ar_u ch 0 0)) (ar_set0 ch 0 0) (nm_r (e' := ar_g (ar_u sb 0 0)) (ar_set0 sb 0 0) (nm_r (e' := ar_g (ar_u en 0 0)) (ar_set0 en 0 0) ⟨c + 1, xb_43 hc hM h1 hS (H h) c 0 (by omega) 1 sg par _ _ _ _ (fun _ => 0) (tr_one ar_us ar_us ar_us) (by omega) (tr_E0 (fun d hd => ?_))⟩)))
  have e : d = 0 := by omega
  subst e
  exact ar_us
end
end
section
/-! recursion along the parents, the order of the walk, descendants -/
def tr_fu {α : Type} (par : Nat → Nat) (z : α) (F : Nat → α → α) : Nat → Nat → α
  | 0, _ => z
  | q + 1, d => if d = 0 then z else F d (tr_fu par z F q (par d))
theorem tr_fu0 {α : Type} {par : Nat → Nat} {z : α} {F : Nat → α → α} (q : Nat) : tr_fu par z F q 0 = z := by
  cases q with
  | zero => rfl
  | succ q => exact if_pos rfl
theorem tr_fuS {α : Type} {par : Nat → Nat} {z : α} {F : Nat → α → α} {q d : Nat} (h : d ≠ 0) : tr_fu par z F (q + 1) d = F d (tr_fu par z F q (par d)) := if_neg h
theorem tr_fuE {α : Type} {par : Nat → Nat} {z : α} {F : Nat → α → α} {n : Nat} (h : ∀ d, 0 < d → d < n → par d < d) : ∀ q q' d, d ≤ q → d ≤ q' → d < n → tr_fu par z F q d = tr_fu par z F q' d := by
  intro q
  induction q with
  | zero =>
    intro q' d h1 h2 h3
    have e : d = 0 := by omega
    subst e
    rw [tr_fu0, tr_fu0]
  | succ q ih =>
    intro q' d h1 h2 h3
    by_cases e : d = 0
    · subst e
      rw [tr_fu0, tr_fu0]
    · obtain ⟨q2, rfl⟩ : ∃ q2, q' = q2 + 1 := ⟨q' - 1, by omega⟩
      have := h d (by omega) h3
      rw [tr_fuS e, tr_fuS e, ih q2 (par d) (by omega) (by omega) (by omega)]
theorem tr_rec {α : Type} {par : Nat → Nat} {n : Nat} (z : α) (F : Nat → α → α) (h : ∀ d, 0 < d → d < n → par d < d) : ∃ f : Nat → α, f 0 = z ∧ ∀ d, 0 < d → d < n → f d = F d (f (par d)) := by
  refine ⟨fun d => tr_fu par z F d d, tr_fu0 0, fun d h0 hd => ?_⟩
  obtain ⟨q, rfl⟩ : ∃ q, d = q + 1 := ⟨d - 1, by omega⟩
  have := h _ h0 hd
  show tr_fu par z F (q + 1) (q + 1) = F (q + 1) (tr_fu par z F (par (q + 1)) (par (q + 1)))
  rw [tr_fuS (by omega), tr_fuE h q (par (q + 1)) (par (q + 1)) (by omega) (by omega) (by omega)]
/-! descendants -/
def tr_D (n : Nat) (par : Nat → Nat) (s d : Nat) : Prop := ∀ S : Nat → Prop, S s → (∀ x, 0 < x → x < n → S (par x) → S x) → S d
theorem tr_D0 {n : Nat} {par : Nat → Nat} {s : Nat} : tr_D n par s s := fun _ h _ => h
theorem tr_Ds {n : Nat} {par : Nat → Nat} {s x : Nat} (h0 : 0 < x) (hx : x < n) (h : tr_D n par s (par x)) : tr_D n par s x := fun S h1 h2 => h2 x h0 hx (h S h1 h2)
theorem tr_Dc {n : Nat} {par : Nat → Nat} {s d : Nat} (h : tr_D n par s d) : d = s ∨ ∃ r, 0 < r ∧ r < n ∧ par r = s ∧ tr_D n par r d := by
  refine h (fun y => y = s ∨ ∃ r, 0 < r ∧ r < n ∧ par r = s ∧ tr_D n par r y) (Or.inl rfl) (fun x h0 hx hp => ?_)
  rcases hp with hp | ⟨r, r0, r1, r2, r3⟩
  · exact Or.inr ⟨x, h0, hx, hp, tr_D0⟩
  · exact Or.inr ⟨r, r0, r1, r2, tr_Ds h0 hx r3⟩
theorem tr_Da {n : Nat} {par : Nat → Nat} (h : ∀ d, 0 < d → d < n → par d < d) : ∀ d, 0 < d → d < n → ∃ r, 0 < r ∧ r < n ∧ par r = 0 ∧ tr_D n par r d := by
  intro d
  induction d using Nat.strongRecOn with
  | ind d ih =>
    intro h0 hd
    have hp := h d h0 hd
    by_cases e : par d = 0
    · exact ⟨d, h0, hd, e, tr_D0⟩
    · obtain ⟨r, r0, r1, r2, r3⟩ := ih (par d) hp (by omega) (by omega)
      exact ⟨r, r0, r1, r2, tr_Ds h0 hd r3⟩
/-! the steps of the walk are counted by keys -/
def wk_c (ky : Nat → Nat) (x : Nat) : Nat → Nat
  | 0 => 0
  | q + 1 => wk_c ky x q + (if ky q < x then 1 else 0)
theorem wk_cn (ky : Nat → Nat) (x q : Nat) : wk_c ky x q ≤ q := by
  induction q with
  | zero => exact Nat.le_refl 0
  | succ q ih =>
    show wk_c ky x q + (if ky q < x then 1 else 0) ≤ q + 1
    split <;> omega
theorem wk_cm {ky : Nat → Nat} {x y : Nat} (h : x ≤ y) (q : Nat) : wk_c ky x q ≤ wk_c ky y q := by
  induction q with
  | zero => exact Nat.le_refl 0
  | succ q ih =>
    show wk_c ky x q + (if ky q < x then 1 else 0) ≤ wk_c ky y q + (if ky q < y then 1 else 0)
    split
    · rw [if_pos (by omega)]; omega
    · omega
theorem wk_cs {ky : Nat → Nat} {d y : Nat} (h : ky d < y) : ∀ q, d < q → wk_c ky (ky d) q + 1 ≤ wk_c ky y q := by
  intro q
  induction q with
  | zero => intro z; omega
  | succ q ih =>
    intro hd
    show wk_c ky (ky d) q + (if ky q < ky d then 1 else 0) + 1 ≤ wk_c ky y q + (if ky q < y then 1 else 0)
    by_cases e : d = q
    · subst e
      rw [if_neg (by omega), if_pos h]
      have := wk_cm (ky := ky) (Nat.le_of_lt h) d
      omega
    · have := ih (by omega)
      split
      · rw [if_pos (by omega)]; omega
      · omega
section
variable {M n : Nat} {sg par lev ch sb BB ky : Nat → Nat}
theorem wk_up {d : Nat} (hT : tr_T M n sg par lev ch sb) (hn : n ≤ 31) (hk : ∀ d, 0 < d → d < n → ky d = ky (par d) + d * 32 ^ (6 - lev d)) (h0 : 0 < d) (hd : d < n) : ky d + 32 ^ (6 - lev d) ≤ ky (par d) + 32 ^ (6 - lev (par d)) := by
  obtain ⟨t0, t1, t2, t3, t4, t5, t6, t7⟩ := hT
  obtain ⟨a1, a2, a3, a4⟩ := t3 d h0 hd
  rw [hk d h0 hd, show 6 - lev (par d) = (6 - lev d) + 1 by omega, Nat.pow_succ]
  have h : (d + 1) * 32 ^ (6 - lev d) ≤ 32 * 32 ^ (6 - lev d) := Nat.mul_le_mul_right _ (by omega)
  rw [Nat.succ_mul] at h
  omega
theorem wk_bh (hT : tr_T M n sg par lev ch sb) (hn : n ≤ 31) (hk : ∀ d, 0 < d → d < n → ky d = ky (par d) + d * 32 ^ (6 - lev d)) (b0 : BB 0 = 0) (b1 : ∀ d, 0 < d → d < n → BB d = if sb d = 0 then BB (par d) else sb d) :
    ∀ d, d < n → BB d ≠ 0 → BB d < n ∧ ky d + 32 ^ (6 - lev d) ≤ ky (BB d) := by
  intro d
  have T := hT
  obtain ⟨t0, t1, t2, t3, t4, t5, t6, t7⟩ := T
  induction d using Nat.strongRecOn with
  | ind d ih =>
    intro hd hB
    by_cases e : d = 0
    · subst e
      exact absurd b0 hB
    · have h0 : 0 < d := by omega
      have a1 := (t3 d h0 hd).1
      rw [b1 d h0 hd] at hB ⊢
      by_cases es : sb d = 0
      · rw [if_pos es] at hB ⊢
        obtain ⟨i1, i2⟩ := ih (par d) a1 (by omega) hB
        have := wk_up hT hn hk h0 hd
        exact ⟨i1, by omega⟩
      · rw [if_neg es] at hB ⊢
        obtain ⟨c1, c2, c3, c4⟩ := t7 d h0 hd es
        have el : lev (sb d) = lev d := by rw [(t3 (sb d) (by omega) c1).2.1, c3, (t3 d h0 hd).2.1]
        refine ⟨c1, ?_⟩
        rw [hk d h0 hd, hk (sb d) (by omega) c1, c3, el]
        have h : (d + 1) * 32 ^ (6 - lev d) ≤ sb d * 32 ^ (6 - lev d) := Nat.mul_le_mul_right _ (by omega)
        rw [Nat.succ_mul] at h
        omega
def wk_m (n : Nat) (ky : Nat → Nat) (r i : Nat) : Prop := (r = 0 → i ≤ 32) ∧ (r ≠ 0 → i ≤ wk_c ky (ky r) n)
theorem wk_mB {d i : Nat} (hT : tr_T M n sg par lev ch sb) (hn : n ≤ 31) (hk : ∀ d, 0 < d → d < n → ky d = ky (par d) + d * 32 ^ (6 - lev d)) (b0 : BB 0 = 0) (b1 : ∀ d, 0 < d → d < n → BB d = if sb d = 0 then BB (par d) else sb d) (hd : d < n) (hi : i ≤ wk_c ky (ky d) n) : wk_m n ky (BB d) (i + 1) := by
  refine ⟨fun _ => ?_, fun h => ?_⟩
  · have := wk_cn ky (ky d) n
    omega
  · obtain ⟨h1, h2⟩ := wk_bh hT hn hk b0 b1 d hd h
    have hp : 0 < 32 ^ (6 - lev d) := Nat.pow_pos (by decide)
    have := wk_cs (ky := ky) (d := d) (y := ky (BB d)) (by omega) n hd
    omega
theorem wk_mC {d i : Nat} (hT : tr_T M n sg par lev ch sb) (hk : ∀ d, 0 < d → d < n → ky d = ky (par d) + d * 32 ^ (6 - lev d)) (hd : d < n) (hc : ch d ≠ 0) (hi : i ≤ wk_c ky (ky d) n) : i + 1 ≤ wk_c ky (ky (ch d)) n := by
  obtain ⟨t0, t1, t2, t3, t4, t5, t6, t7⟩ := hT
  obtain ⟨c1, c2, c3⟩ := t5 d hd hc
  have e := hk (ch d) (by omega) c1
  rw [c2] at e
  have hp : 0 < ch d * 32 ^ (6 - lev (ch d)) := Nat.mul_pos (by omega) (Nat.pow_pos (by decide))
  have := wk_cs (ky := ky) (d := d) (y := ky (ch d)) (by omega) n hd
  omega
end
end
section
theorem nx_tb {a k : Nat} (ha : a < 2 ^ 31) (hk : k < 32) : ((nI a >>> (nI k &&& 31)) &&& 1) = 1 ↔ a.testBit k = true := by
  have e : (nI a >>> (nI k &&& 31)) &&& 1 = nI (a / 2 ^ k % 2) := by
    rw [pk_shrN ha _ k (s_l k hk)]
    exact pk_andN (Nat.lt_of_le_of_lt (Nat.div_le_self _ _) (by omega)) 1 (by decide)
  have hm : a / 2 ^ k % 2 < 2 := Nat.mod_lt _ (by decide)
  rw [e, Nat.testBit_eq_decide_div_mod_eq, decide_eq_true_iff]
  exact nI_eq (b := 1) (Nat.lt_trans hm (by decide)) (by decide)
section
variable {t c L n ft : Nat} {bu ps : Int32} {K A B C bg b sg par lev ch sb en pl : Nat → Nat} {va lf : Nat → Int32}
theorem xl_75 {post : SX → Prop} (J : Int32 → (Nat → Int32) → (Nat → Int32) → (Nat → Int32) → (Nat → Int32) → (Nat → Int32) → (Nat → Int32) → (Nat → Int32) → (Nat → Int32) → (Nat → Int32) → (Nat → Int32) → (Nat → Int32) → (Nat → Int32) → (Nat → Int32) → (Nat → Int32) → (Nat → Int32) → Prop) {d l k : Nat} (hl : l < 7) (hk : k < 6)
    (HJ : ∀ lg : Nat → Int32, (∀ y, y < 4 → lg (4 * k + y) = va (4 * l + y)) → (∀ i, (i < 4 * k ∨ 4 * k + 4 ≤ i) → lg i = lf i) → J (nI (k + 1)) (ar_g K) (ar_g A) (ar_g B) (ar_g C) (ar_g bg) (ar_g b) (ar_g sg) (ar_g par) (ar_g lev) (ar_g ch) (ar_g sb) (ar_g en) (ar_g pl) va lg) :
    ∀ e x, x + e = 4 → ∀ lg : Nat → Int32, (∀ y, y < x → lg (4 * k + y) = va (4 * l + y)) → (∀ i, (i < 4 * k ∨ 4 * k + 4 ≤ i) → lg i = lf i) → wX_leave_75 post J (nI d) (nI l) (nI k) (nI t) (nI c) (nI L) bu (nI n) ps (nI ft) (e + 1) (nI x) (ar_g K) (ar_g A) (ar_g B) (ar_g C) (ar_g bg) (ar_g b) (ar_g sg) (ar_g par) (ar_g lev) (ar_g ch) (ar_g sb) (ar_g en) (ar_g pl) va lg := by
  intro e
  induction e with
  | zero =>
    intro x hx lg h1 h2
    have e4 : x = 4 := by omega
    subst e4
    exact br_t (by decide) (nm_r (e' := nI (k + 1)) (nI_1 k) (HJ lg h1 h2))
  | succ e ih =>
    intro x hx lg h1 h2
    refine pk_le 4 x (fun z => absurd z (by omega)) (fun _ => ?_)
    rw [xe_ix, xe_ix]
    refine ⟨pk_in (4 * l + x) 28 (by omega), pk_in (4 * k + x) 24 (by omega), nm_r (e' := upd lg (4 * k + x) (va (4 * l + x))) ?_ (nm_r (e' := nI (x + 1)) (nI_1 x) (ih (x + 1) (by omega) _ (fun y hy => ?_) (fun i hi => ?_)))⟩
    · rw [nI_clamp (by omega), nI_clamp (by omega)]
    · by_cases e1 : y = x
      · subst e1
        exact pk_us
      · rw [pk_un (by omega)]
        exact h1 y (by omega)
    · rw [pk_un (by omega)]
      exact h2 i hi
theorem xl_50 {post : SX → Prop} {d l : Nat} (hd : d < 32) (hl : l < 7) (hc : c ≤ 6) (hen : en d < 2 ^ 31)
    (H : ∀ lg : Nat → Int32, (∀ k, k < c → ∀ x, x < 4 → lg (4 * k + x) = if (en d).testBit k = true then va (4 * l + x) else lf (4 * k + x)) → post (nI t, nI c, nI L, bu, nI n, ps, nI ft, ar_g K, ar_g A, ar_g B, ar_g C, ar_g bg, ar_g b, ar_g sg, ar_g par, ar_g lev, ar_g ch, ar_g sb, ar_g en, ar_g pl, va, lg)) :
    ∀ e k, k + e = c → ∀ lg : Nat → Int32, (∀ j, j < c → ∀ x, x < 4 → lg (4 * j + x) = if j < k ∧ (en d).testBit j = true then va (4 * l + x) else lf (4 * j + x)) → wX_leave_50 post (nI d) (nI l) (nI t) (nI c) (nI L) bu (nI n) ps (nI ft) (e + 1) (nI k) (ar_g K) (ar_g A) (ar_g B) (ar_g C) (ar_g bg) (ar_g b) (ar_g sg) (ar_g par) (ar_g lev) (ar_g ch) (ar_g sb) (ar_g en) (ar_g pl) va lg := by
  intro e
  induction e with
  | zero =>
    intro k hk lg hg
    have ek : k = c := by omega
    subst ek
    refine pk_le k k (fun _ => H lg (fun j hj x hx => ?_)) (fun z => absurd z (by omega))
    rw [hg j hj x hx]
    by_cases et : (en d).testBit j = true
    · rw [if_pos ⟨hj, et⟩, if_pos et]
    · rw [if_neg (fun z => et z.2), if_neg et]
  | succ e ih =>
    intro k hk lg hg
    refine pk_le c k (fun z => absurd z (by omega)) (fun _ => ⟨pk_in d 32 hd, ?_⟩)
    rw [ar_get (f := en) (j := d) (by omega)]
    refine ek_if (nx_tb hen (by omega)) (fun et => ⟨5, ?_⟩) (fun et => nm_r (e' := nI (k + 1)) (nI_1 k) (ih (k + 1) (by omega) lg (fun j hj x hx => ?_)))
    · refine xl_75 (lf := lg) _ hl (by omega) (fun lh h1 h2 => ih (k + 1) (by omega) lh (fun j hj x hx => ?_)) 4 0 (by omega) lg (fun y hy => absurd hy (by omega)) (fun _ _ => rfl)
      by_cases ej : j = k
      · subst ej
        rw [h1 x hx, if_pos ⟨by omega, et⟩]
      · rw [h2 _ (by omega), hg j hj x hx]
        by_cases g : j < k ∧ (en d).testBit j = true
        · rw [if_pos g, if_pos ⟨by omega, g.2⟩]
        · rw [if_neg g, if_neg (fun z => g ⟨by omega, z.2⟩)]
    · rw [hg j hj x hx]
      by_cases ej : j = k
      · subst ej
        rw [if_neg (fun z => et z.2), if_neg (fun z => et z.2)]
      · by_cases g : j < k ∧ (en d).testBit j = true
        · rw [if_pos g, if_pos ⟨by omega, g.2⟩]
        · rw [if_neg g, if_neg (fun z => g ⟨by omega, z.2⟩)]
theorem xl_leave {post : SX → Prop} {d l : Nat} (hd : d < 32) (hlev : lev d = l) (hl : l < 7) (hc : c ≤ 6) (hL : L ≤ 8) (hp : pl l ≤ 8 * L) (hen : en d < 2 ^ c)
    (H0 : pl l ≠ 8 * L → post (nI t, nI c, nI L, bu, nI n, ps, nI ft, ar_g K, ar_g A, ar_g B, ar_g C, ar_g bg, ar_g b, ar_g sg, ar_g par, ar_g lev, ar_g ch, ar_g sb, ar_g en, ar_g pl, va, lf))
    (H1 : pl l = 8 * L → ∀ lg : Nat → Int32, (∀ k, k < c → ∀ x, x < 4 → lg (4 * k + x) = if (en d).testBit k = true then va (4 * l + x) else lf (4 * k + x)) → post (nI t, nI c, nI L, bu, nI n, ps, nI (ft ||| en d), ar_g K, ar_g A, ar_g B, ar_g C, ar_g bg, ar_g b, ar_g sg, ar_g par, ar_g lev, ar_g ch, ar_g sb, ar_g en, ar_g pl, va, lg)) : wpX_leave post (nI t, nI c, nI L, bu, nI n, ps, nI ft, ar_g K, ar_g A, ar_g B, ar_g C, ar_g bg, ar_g b, ar_g sg, ar_g par, ar_g lev, ar_g ch, ar_g sb, ar_g en, ar_g pl, va, lf) (nI d) := by
  have hen2 : en d < 2 ^ 31 := Nat.lt_of_lt_of_le hen (bi_p2 (by omega))
  have iD : vp_in (nI d) 32 := pk_in d 32 hd
  refine And.intro iD (nm_r (e' := nI l) (by rw [ar_get (by omega), hlev]) ⟨iD, ?_⟩)
  rw [ar_get (f := en) (j := d) (by omega), ar_get (f := pl) (j := l) (by omega)]
  refine pk_eq (en d) 0 (fun e0 => ?_) (fun e0 => ⟨pk_in l 7 hl, ?_⟩)
  · by_cases e : pl l = 8 * L
    · have h := H1 e lf (fun k hk x hx => by rw [e0, Nat.zero_testBit, if_neg (by decide)])
      rw [e0, Nat.or_zero] at h
      exact h
    · exact H0 e
  · refine pk_eq (pl l) (8 * L) (fun e => ⟨iD, nm_r (e' := nI (ft ||| en d)) (nx_or ft (en d)) ⟨c + 1, ?_⟩⟩) H0 rfl (by rw [Nat.mul_comm]; exact pk_mul L 8)
    exact xl_50 hd hl hc hen2 (H1 e) c 0 (by omega) lf (fun j hj x hx => by rw [if_neg (fun z => absurd z.1 (by omega))])
theorem xl_4 {post : Int32 → Prop} {M : Nat} {BB : Nat → Nat} (hT : tr_T M n sg par lev ch sb) (hn : n ≤ 31) (b0 : BB 0 = 0) (b1 : ∀ d, 0 < d → d < n → BB d = if sb d = 0 then BB (par d) else sb d) :
    ∀ e a i, a < n → lev a = e → i + e ≤ 6 → post (nI (BB a)) → wX_behind_4 post (nI t) (nI c) (nI L) bu (nI n) ps (nI ft) (ar_g K) (ar_g A) (ar_g B) (ar_g C) (ar_g bg) (ar_g b) (ar_g sg) (ar_g par) (ar_g lev) (ar_g ch) (ar_g sb) (ar_g en) (ar_g pl) va lf (e + 1) (nI a) (nI i) := by
  intro e
  obtain ⟨t0, t1, t2, t3, t4, t5, t6, t7⟩ := hT
  induction e with
  | zero =>
    intro a i ha hl hi h
    have e0 : a = 0 := by
      by_cases e0 : a = 0
      · exact e0
      · have := (t3 a (by omega) ha).2.1
        omega
    subst e0
    rw [b0] at h
    exact pk_le 8 i (fun z => absurd z (by omega)) (fun _ => br_t rfl (br_t rfl h))
  | succ e ih =>
    intro a i ha hl hi h
    have h0 : 0 < a := by
      by_cases e0 : a = 0
      · subst e0; omega
      · omega
    obtain ⟨a1, a2, a3, a4⟩ := t3 a h0 ha
    have ia : vp_in (nI a) 32 := pk_in a 32 (by omega)
    have ne : ¬ nI a = 0 := nI_ne0 h0 (by omega)
    rw [b1 a h0 ha] at h
    have eS : ar_g sb (nI a).toNatClampNeg = nI (sb a) := ar_get (by omega)
    have sN : sb a < n := by
      by_cases z : sb a = 0
      · omega
      · exact (t7 a h0 ha z).1
    refine pk_le 8 i (fun z => absurd z (by omega)) (fun _ => br_f ne ⟨ia, ?_⟩)
    rw [eS]
    refine pk_eq (sb a) 0 (fun es => ⟨ia, nm_r (e' := nI (par a)) (ar_get (by omega)) (nm_r (e' := nI (i + 1)) (nI_1 i) (ih (par a) (i + 1) (by omega) (by omega) (by omega) ?_))⟩) (fun es => br_f ne ⟨ia, ?_⟩)
    · rw [if_pos es] at h
      exact h
    · rw [if_neg es] at h
      rw [eS]
      exact h
theorem xl_behind {post : Int32 → Prop} {M d : Nat} {BB : Nat → Nat} (hT : tr_T M n sg par lev ch sb) (hn : n ≤ 31) (b0 : BB 0 = 0) (b1 : ∀ d, 0 < d → d < n → BB d = if sb d = 0 then BB (par d) else sb d) (hd : d < n) (hl : lev d ≤ 6) (h : post (nI (BB d))) : wpX_behind post (nI t, nI c, nI L, bu, nI n, ps, nI ft, ar_g K, ar_g A, ar_g B, ar_g C, ar_g bg, ar_g b, ar_g sg, ar_g par, ar_g lev, ar_g ch, ar_g sb, ar_g en, ar_g pl, va, lf) (nI d) :=
  ⟨lev d + 1, xl_4 hT hn b0 b1 (lev d) d 0 hd rfl (by omega) h⟩
end
end
section
/-! the pass over the tree -/
def wk_S (c L : Nat) (st : Nat → Option (Nat × (Nat → Int32))) (eN : Nat → Nat) (ft : Nat) (lf : Nat → Int32) : Prop :=
  ft < 2 ^ c ∧ ∀ k, k < c → ft.testBit k = true → ∃ s, st (eN k) = some s ∧ s.1 = 8 * L ∧ ∀ x, x < 4 → lf (4 * k + x) = s.2 x
def wk_G (c L : Nat) (st : Nat → Option (Nat × (Nat → Int32))) (en : Nat → Nat) (ft d : Nat) : Prop :=
  ∀ s, st d = some s → s.1 = 8 * L → ∀ k, k < c → (en d).testBit k = true → ft.testBit k = true
def wk_I (ft ft' : Nat) : Prop := ∀ k, ft.testBit k = true → ft'.testBit k = true
theorem wk_Gm {c L : Nat} {st : Nat → Option (Nat × (Nat → Int32))} {en : Nat → Nat} {ft ft' d : Nat} (h : wk_G c L st en ft d) (hi : wk_I ft ft') : wk_G c L st en ft' d :=
  fun s h1 h2 k hk ht => hi k (h s h1 h2 k hk ht)
section
variable {t c L n ft : Nat} {bu ps : Int32} {K A B C bg b sg par lev ch sb en pl : Nat → Nat} {va lf : Nat → Int32}
theorem xw_lv {post : SX → Prop} {d l : Nat} {st : Nat → Option (Nat × (Nat → Int32))} {eN : Nat → Nat} {s : Nat × (Nat → Int32)} (hE : tr_E c n sg par en K A B C bg eN) (hn : n ≤ 31) (hd : d < n) (hlev : lev d = l) (hl : l < 7) (hc : c ≤ 6) (hL : L ≤ 8) (hs : st d = some s) (hs8 : s.1 ≤ 8 * L) (hp : pl l = s.1) (hv : ∀ x, x < 4 → va (4 * l + x) = s.2 x) (hS : wk_S c L st eN ft lf)
    (H : ∀ ft' lf', wk_S c L st eN ft' lf' → wk_I ft ft' → wk_G c L st en ft' d → post (nI t, nI c, nI L, bu, nI n, ps, nI ft', ar_g K, ar_g A, ar_g B, ar_g C, ar_g bg, ar_g b, ar_g sg, ar_g par, ar_g lev, ar_g ch, ar_g sb, ar_g en, ar_g pl, va, lf')) : wpX_leave post (nI t, nI c, nI L, bu, nI n, ps, nI ft, ar_g K, ar_g A, ar_g B, ar_g C, ar_g bg, ar_g b, ar_g sg, ar_g par, ar_g lev, ar_g ch, ar_g sb, ar_g en, ar_g pl, va, lf) (nI d) := by
  obtain ⟨E1, E2⟩ := hE
  refine xl_leave (by omega) hlev hl hc hL (by rw [hp]; exact hs8) (E1 d hd) (fun h => H ft lf hS (fun _ z => z) (fun s' h1 h2 => ?_)) (fun h lg hg => H _ lg ⟨Nat.or_lt_two_pow hS.1 (E1 d hd), fun k hk ht => ?_⟩ (fun k z => ?_) (fun s' h1 h2 k hk ht => ?_))
  · rw [hs] at h1
    cases h1
    exact absurd (hp.trans h2) h
  · by_cases e : (en d).testBit k = true
    · have ed : d = eN k := by
        have := (E2 k hk).2.2 d hd
        rw [e] at this
        exact of_decide_eq_true this.symm
      refine ⟨s, ed ▸ hs, hp.symm.trans h, fun x hx => ?_⟩
      rw [hg k hk x hx, if_pos e]
      exact hv x hx
    · rw [Nat.testBit_or] at ht
      have ht' : ft.testBit k = true := by
        cases h1 : ft.testBit k with
        | true => rfl
        | false =>
          rw [h1, Bool.false_or] at ht
          exact absurd ht e
      obtain ⟨s', g1, g2, g3⟩ := hS.2 k hk ht'
      refine ⟨s', g1, g2, fun x hx => ?_⟩
      rw [hg k hk x hx, if_neg e]
      exact g3 x hx
  · rw [Nat.testBit_or, z, Bool.true_or]
  · rw [Nat.testBit_or, ht, Bool.or_true]
end
section
variable {t c L n : Nat} {bu ps : Int32} {K A B C bg b sg par lev ch sb en : Nat → Nat}
theorem wk_le {st : Nat → Option (Nat × (Nat → Int32))} (hT : tr_T (bg c) n sg par lev ch sb) (hL : L ≤ 8) (hV : ∀ i, i < bg c → sp_V (K i) (A i) (B i) (C i)) (s0 : st 0 = some (0, fun _ => 0)) (s1 : ∀ d, 0 < d → d < n → st d = (st (par d)).bind (sp_s b L (K (sg d)) (A (sg d)) (B (sg d)) (C (sg d)))) : ∀ d, d < n → ∀ s, st d = some s → s.1 ≤ 8 * L := by
  intro d
  obtain ⟨t0, t1, t2, t3, t4, t5, t6, t7⟩ := hT
  induction d using Nat.strongRecOn with
  | ind d ih =>
    intro hd s hs
    by_cases e : d = 0
    · subst e
      rw [s0] at hs
      cases hs
      exact Nat.zero_le _
    · obtain ⟨a1, a2, a3, a4⟩ := t3 d (by omega) hd
      rw [s1 d (by omega) hd] at hs
      cases hq : st (par d) with
      | none =>
        rw [hq] at hs
        cases hs
      | some s' =>
        rw [hq] at hs
        exact sp_le (hV _ a4).1 hL (ih (par d) a1 (by omega) s' hq) hs
theorem wk_dfs {post : SX → Prop} {st : Nat → Option (Nat × (Nat → Int32))} {eN BB ky : Nat → Nat} (hT : tr_T (bg c) n sg par lev ch sb) (hE : tr_E c n sg par en K A B C bg eN) (hc : c ≤ 6) (hL : L ≤ 8) (hn : n ≤ 31) (hM : bg c ≤ 30) (hb : ∀ i, b i < 256) (hV : ∀ i, i < bg c → sp_V (K i) (A i) (B i) (C i))
    (s0 : st 0 = some (0, fun _ => 0)) (s1 : ∀ d, 0 < d → d < n → st d = (st (par d)).bind (sp_s b L (K (sg d)) (A (sg d)) (B (sg d)) (C (sg d))))
    (b0 : BB 0 = 0) (b1 : ∀ d, 0 < d → d < n → BB d = if sb d = 0 then BB (par d) else sb d) (hk : ∀ d, 0 < d → d < n → ky d = ky (par d) + d * 32 ^ (6 - lev d)) :
    ∀ m d, n ≤ d + m → 0 < d → d < n → ∀ (ft : Nat) (pl : Nat → Nat) (va lf : Nat → Int32) (s : Nat × (Nat → Int32)) (i N : Nat), st (par d) = some s → pl (lev (par d)) = s.1 → (∀ x, x < 4 → va (4 * lev (par d) + x) = s.2 x) → wk_S c L st eN ft lf → i ≤ wk_c ky (ky d) n → N + i = 70 →
      (∀ (ft' : Nat) (pl' : Nat → Nat) (va' lf' : Nat → Int32) (i' N' : Nat), N' + i' = 70 → wk_m n ky (BB (par d)) i' → (∀ j, j ≤ lev (par d) → pl' j = pl j) → (∀ j, j < 4 * lev (par d) + 4 → va' j = va j) → wk_S c L st eN ft' lf' → wk_I ft ft' → (∀ r d', 0 < r → r < n → par r = par d → d ≤ r → tr_D n par r d' → wk_G c L st en ft' d') → wX_walk_58 post N' (nI (BB (par d))) (nI i') (nI t) (nI c) (nI L) bu (nI n) ps (nI ft') (ar_g K) (ar_g A) (ar_g B) (ar_g C) (ar_g bg) (ar_g b) (ar_g sg) (ar_g par) (ar_g lev) (ar_g ch) (ar_g sb) (ar_g en) (ar_g pl') va' lf') →
      wX_walk_58 post N (nI d) (nI i) (nI t) (nI c) (nI L) bu (nI n) ps (nI ft) (ar_g K) (ar_g A) (ar_g B) (ar_g C) (ar_g bg) (ar_g b) (ar_g sg) (ar_g par) (ar_g lev) (ar_g ch) (ar_g sb) (ar_g en) (ar_g pl) va lf := by
  have T := hT
  obtain ⟨t0, t1, t2, t3, t4, t5, t6, t7⟩ := T
  have hle := wk_le hT hL hV s0 s1
  intro m
  induction m with
  | zero => intro d h1 h0 hd; omega
  | succ m ih =>
    intro d hm h0 hd ft pl va lf s i N hs hp hv hS hi hN H
    obtain ⟨a1, a2, a3, a4⟩ := t3 d h0 hd
    have hpn : par d < n := by omega
    have hs8 := hle (par d) hpn s hs
    have hin := wk_cn ky (ky d) n
    obtain ⟨N1, rfl⟩ : ∃ N1, N = N1 + 1 := ⟨N - 1, by omega⟩
    have hsd : st d = sp_s b L (K (sg d)) (A (sg d)) (B (sg d)) (C (sg d)) s := by
      rw [s1 d h0 hd, hs]
      rfl
    have hmB := wk_mB hT hn hk b0 b1 hd hi
    -- behind d and all below it
    have AF : ∀ (ft2 : Nat) (pl2 : Nat → Nat) (va2 lf2 : Nat → Int32) (i2 N2 : Nat), N2 + i2 = 70 → wk_m n ky (BB d) i2 → (∀ j, j ≤ lev (par d) → pl2 j = pl j) → (∀ j, j < 4 * lev (par d) + 4 → va2 j = va j) → wk_S c L st eN ft2 lf2 → wk_I ft ft2 → (∀ d', tr_D n par d d' → wk_G c L st en ft2 d') → wX_walk_58 post N2 (nI (BB d)) (nI i2) (nI t) (nI c) (nI L) bu (nI n) ps (nI ft2) (ar_g K) (ar_g A) (ar_g B) (ar_g C) (ar_g bg) (ar_g b) (ar_g sg) (ar_g par) (ar_g lev) (ar_g ch) (ar_g sb) (ar_g en) (ar_g pl2) va2 lf2 := by
      intro ft2 pl2 va2 lf2 i2 N2 hN2 hm2 f1 f2 hS2 hI2 hG2
      have eB := b1 d h0 hd
      by_cases es : sb d = 0
      · rw [if_pos es] at eB
        rw [eB] at hm2 ⊢
        refine H ft2 pl2 va2 lf2 i2 N2 hN2 hm2 f1 f2 hS2 hI2 (fun r d' r0 r1 r2 r3 r4 => ?_)
        have := t6 d h0 hd es r r0 r1 r2
        have e : r = d := by omega
        subst e
        exact hG2 d' r4
      · rw [if_neg es] at eB
        rw [eB] at hm2 ⊢
        obtain ⟨c1, c2, c3, c4⟩ := t7 d h0 hd es
        have ih' := ih (sb d) (by omega) (by omega) c1 ft2 pl2 va2 lf2 s i2 N2
        rw [c3] at ih'
        refine ih' hs (by rw [f1 _ (Nat.le_refl _)]; exact hp) (fun x hx => by rw [f2 _ (by omega)]; exact hv x hx) hS2 (hm2.2 es) hN2 (fun ft3 pl3 va3 lf3 i3 N3 hN3 hm3 g1 g2 hS3 hI3 hG3 => H ft3 pl3 va3 lf3 i3 N3 hN3 hm3 (fun j hj => (g1 j hj).trans (f1 j hj)) (fun j hj => (g2 j hj).trans (f2 j hj)) hS3 (fun k z => hI3 k (hI2 k z)) (fun r d' r0 r1 r2 r3 r4 => ?_))
        by_cases e : r = d
        · subst e
          exact wk_Gm (hG2 d' r4) hI3
        · exact hG3 r d' r0 r1 r2 (c4 r r0 r1 r2 (by omega)) r4
    refine pk_le 64 i (fun z => absurd z (by omega)) (fun _ => br_f (nI_ne0 h0 (by omega)) ?_)
    refine xe_enter (l := lev (par d)) (by omega) a2 (by omega) (by omega) (hV _ a4) hL hb hs8 hp hv (fun r pl' va' f1 f2 O => ?_)
    rw [← hsd] at O
    rcases O with ⟨O1, O2⟩ | ⟨s', O1, O2, O3, O4⟩
    · subst O2
      refine br_t rfl (br_t rfl (xl_behind hT hn b0 b1 hd (by omega) (nm_r (e' := nI (i + 1)) (nI_1 i) (AF ft pl' va' lf (i + 1) N1 (by omega) hmB f1 f2 hS (fun _ z => z) (fun d' hD s' h1 => ?_)))))
      have hnone : st d' = none := hD (fun y => st y = none) O1 (fun x x0 x1 x2 => by rw [s1 x x0 x1, x2]; rfl)
      rw [hnone] at h1
      cases h1
    · subst O2
      have hs8' := hle d hd s' O1
      have e4 : 4 * (lev (par d) + 1) = 4 * lev d := by rw [a2]
      refine br_f (by decide) (xw_lv (st := st) (s := s') hE hn hd a2 (by omega) hc hL O1 hs8' O3 O4 hS (fun ft1 lf1 hS1 hI1 hG1 => br_f (by decide) ⟨pk_in d 32 (by omega), ?_⟩))
      rw [ar_get (f := ch) (j := d) (by omega)]
      have cN : ch d < n := by
        by_cases z : ch d = 0
        · omega
        · exact (t5 d hd z).1
      refine pk_eq (ch d) 0 (fun ec => ?_) (fun ec => ⟨pk_in d 32 (by omega), nm_r (e' := nI (ch d)) rfl (nm_r (e' := nI (i + 1)) (nI_1 i) ?_)⟩)
      · refine xl_behind hT hn b0 b1 hd (by omega) (nm_r (e' := nI (i + 1)) (nI_1 i) (AF ft1 pl' va' lf1 (i + 1) N1 (by omega) hmB f1 f2 hS1 hI1 (fun d' hD => ?_)))
        rcases tr_Dc hD with e | ⟨r, r0, r1, r2, r3⟩
        · subst e
          exact hG1
        · exact absurd r2 (t4 d hd ec r r0 r1)
      · obtain ⟨c1, c2, c3⟩ := t5 d hd ec
        have c0 := (t3 (ch d) (by omega) c1).1
        have ih' := ih (ch d) (by omega) (by omega) c1 ft1 pl' va' lf1 s' (i + 1) N1
        rw [c2] at ih'
        refine ih' O1 (by rw [a2]; exact O3) (fun x hx => by rw [a2]; exact O4 x hx) hS1 (wk_mC hT hk hd ec hi) (by omega) (fun ft2 pl2 va2 lf2 i2 N2 hN2 hm2 g1 g2 hS2 hI2 hG2 => AF ft2 pl2 va2 lf2 i2 N2 hN2 hm2 (fun j hj => (g1 j (by omega)).trans (f1 j hj)) (fun j hj => (g2 j (by omega)).trans (f2 j hj)) hS2 (fun k z => hI2 k (hI1 k z)) (fun d' hD => ?_))
        rcases tr_Dc hD with e | ⟨r, r0, r1, r2, r3⟩
        · subst e
          exact wk_Gm hG1 hI2
        · exact hG2 r d' r0 r1 r2 (c3 r r0 r1 r2) r3
end
end
section
def wk_F (c L : Nat) (bg K A B C b : Nat → Nat) (ft : Nat) (lf : Nat → Int32) : Prop :=
  ft < 2 ^ c ∧ ∀ k, k < c → (ft.testBit k = true → ∃ s, rn_r b L K A B C (bg k) (bg (k + 1) - bg k) = some s ∧ s.1 = 8 * L ∧ ∀ x, x < 4 → lf (4 * k + x) = s.2 x) ∧ (ft.testBit k = false → ¬ rn_ok L (rn_r b L K A B C (bg k) (bg (k + 1) - bg k)))
theorem sp_A {b K A B C : Nat → Nat} {L i j : Nat} (h : tr_A K A B C i j) : sp_s b L (K i) (A i) (B i) (C i) = sp_s b L (K j) (A j) (B j) (C j) := by
  obtain ⟨h1, h2, h3, h4⟩ := h
  rw [h1, h2, h3, h4]
theorem rn_st {b K A B C sg par : Nat → Nat} {L n i0 m e : Nat} {st : Nat → Option (Nat × (Nat → Int32))} (s0 : st 0 = some (0, fun _ => 0)) (s1 : ∀ d, 0 < d → d < n → st d = (st (par d)).bind (sp_s b L (K (sg d)) (A (sg d)) (B (sg d)) (C (sg d)))) (h : tr_P n sg par K A B C i0 m e) : rn_r b L K A B C i0 m = st e := by
  obtain ⟨nd, h0, h1, h2⟩ := h
  have g : ∀ j, j ≤ m → rn_r b L K A B C i0 j = st (nd j) := by
    intro j
    induction j with
    | zero => intro _; rw [h0, s0]; rfl
    | succ j ih =>
      intro hj
      obtain ⟨a1, a2, a3, a4⟩ := h2 j (by omega)
      show (rn_r b L K A B C i0 j).bind _ = _
      rw [ih (by omega), s1 _ a1 a2, a3, sp_A a4]
  rw [g m (Nat.le_refl m), h1]
theorem wk_fin {b K A B C sg par lev ch sb en bg eN : Nat → Nat} {L c n ft : Nat} {lf : Nat → Int32} {st : Nat → Option (Nat × (Nat → Int32))} (hE : tr_E c n sg par en K A B C bg eN) (s0 : st 0 = some (0, fun _ => 0)) (s1 : ∀ d, 0 < d → d < n → st d = (st (par d)).bind (sp_s b L (K (sg d)) (A (sg d)) (B (sg d)) (C (sg d)))) (hS : wk_S c L st eN ft lf) (hG : ∀ d, d < n → wk_G c L st en ft d) : wk_F c L bg K A B C b ft lf := by
  refine ⟨hS.1, fun k hk => ?_⟩
  obtain ⟨e1, e2, e3⟩ := hE.2 k hk
  rw [rn_st s0 s1 e1]
  refine ⟨fun h => hS.2 k hk h, fun h => ?_⟩
  rintro ⟨s, h1, h2⟩
  have h3 := hG (eN k) e2 s h1 h2 k hk (by rw [e3 _ e2]; exact decide_eq_true rfl)
  rw [h] at h3
  cases h3
section
variable {t c L n ft : Nat} {bu ps : Int32} {K A B C bg b sg par lev ch sb en pl : Nat → Nat} {va lf : Nat → Int32}
theorem xw_end {post : SX → Prop} {N i : Nat} (hN : N + i = 70) (hi : i ≤ 32) (h : post (nI t, nI c, nI L, bu, nI n, 1, nI ft, ar_g K, ar_g A, ar_g B, ar_g C, ar_g bg, ar_g b, ar_g sg, ar_g par, ar_g lev, ar_g ch, ar_g sb, ar_g en, ar_g pl, va, lf)) : wX_walk_58 post N 0 (nI i) (nI t) (nI c) (nI L) bu (nI n) ps (nI ft) (ar_g K) (ar_g A) (ar_g B) (ar_g C) (ar_g bg) (ar_g b) (ar_g sg) (ar_g par) (ar_g lev) (ar_g ch) (ar_g sb) (ar_g en) (ar_g pl) va lf := by
  obtain ⟨N1, rfl⟩ : ∃ N1, N = N1 + 1 := ⟨N - 1, by omega⟩
  exact br_c (fun _ => h) (fun _ => br_t rfl h)
theorem xw_26 {post : SX → Prop} (hc : c ≤ 6) (hL : L ≤ 8) (hM : bg c ≤ 30) (hb : ∀ i, b i < 256) (hV : ∀ i, i < bg c → sp_V (K i) (A i) (B i) (C i)) (hZ : tr_Z c n sg par lev ch sb en K A B C bg) (hp : pl 0 = 0)
    (H : ∀ (ft : Nat) (pl : Nat → Nat) (va lf : Nat → Int32), wk_F c L bg K A B C b ft lf → post (nI t, nI c, nI L, bu, nI n, 1, nI ft, ar_g K, ar_g A, ar_g B, ar_g C, ar_g bg, ar_g b, ar_g sg, ar_g par, ar_g lev, ar_g ch, ar_g sb, ar_g en, ar_g pl, va, lf)) :
    ∀ e x, x + e = 4 → ∀ vb : Nat → Int32, (∀ y, y < x → vb y = 0) → wX_walk_26 post (nI t) (nI c) (nI L) bu (nI n) ps (nI 0) (e + 1) (nI x) (ar_g K) (ar_g A) (ar_g B) (ar_g C) (ar_g bg) (ar_g b) (ar_g sg) (ar_g par) (ar_g lev) (ar_g ch) (ar_g sb) (ar_g en) (ar_g pl) vb lf := by
  intro e
  induction e with
  | zero =>
    intro x hx vb hv
    have e4 : x = 4 := by omega
    subst e4
    obtain ⟨hT, hn, eN, hE⟩ := hZ
    have T := hT
    obtain ⟨t0, t1, t2, t3, t4, t5, t6, t7⟩ := T
    have hpar : ∀ d, 0 < d → d < n → par d < d := fun d d0 d1 => (t3 d d0 d1).1
    obtain ⟨st, s0, s1⟩ := tr_rec (n := n) (some (0, fun _ => 0)) (fun d (o : Option (Nat × (Nat → Int32))) => o.bind (sp_s b L (K (sg d)) (A (sg d)) (B (sg d)) (C (sg d)))) hpar
    obtain ⟨BB, b0, b1⟩ := tr_rec (n := n) 0 (fun d o => if sb d = 0 then o else sb d) hpar
    obtain ⟨ky, k0, k1⟩ := tr_rec (n := n) 0 (fun d o => o + d * 32 ^ (6 - lev d)) hpar
    refine br_t (by decide) ?_
    refine xw_lv (d := 0) (l := 0) (ft := 0) (st := st) (s := (0, fun _ => 0)) hE hn t0 t1 (by omega) hc hL s0 (Nat.zero_le _) hp (fun y hy => by rw [Nat.mul_zero, Nat.zero_add]; exact hv y hy) ⟨Nat.two_pow_pos c, fun k _ h => by rw [Nat.zero_testBit] at h; cases h⟩ (fun ft1 lf1 hS1 hI1 hG1 => nm_r (e' := nI (ch 0)) rfl ⟨70, ?_⟩)
    by_cases ec : ch 0 = 0
    · rw [ec]
      refine xw_end (i := 0) (by omega) (by omega) (H ft1 pl vb lf1 (wk_fin (lev := lev) (ch := ch) (sb := sb) hE s0 s1 hS1 (fun d hd => ?_)))
      by_cases e0 : d = 0
      · subst e0
        exact hG1
      · obtain ⟨r, r0, r1, r2, r3⟩ := tr_Da hpar d (by omega) hd
        exact absurd r2 (t4 0 t0 ec r r0 r1)
    · obtain ⟨c1, c2, c3⟩ := t5 0 t0 ec
      have hd := wk_dfs (t := t) (bu := bu) (ps := ps) (post := post) hT hE hc hL hn hM hb hV s0 s1 b0 b1 k1 n (ch 0) (by omega) (by omega) c1 ft1 pl vb lf1 (0, fun _ => 0) 0 70
      rw [c2, t1, b0] at hd
      refine hd s0 hp (fun y hy => by rw [Nat.mul_zero, Nat.zero_add]; exact hv y hy) hS1 (Nat.zero_le _) rfl (fun ft2 pl2 va2 lf2 i2 N2 hN2 hm2 f1 f2 hS2 hI2 hG2 => xw_end hN2 (hm2.1 rfl) (H ft2 pl2 va2 lf2 (wk_fin (lev := lev) (ch := ch) (sb := sb) hE s0 s1 hS2 (fun d hd => ?_))))
      by_cases e0 : d = 0
      · subst e0
        exact wk_Gm hG1 hI2
      · obtain ⟨r, r0, r1, r2, r3⟩ := tr_Da hpar d (by omega) hd
        exact hG2 r d r0 r1 r2 (c3 r r0 r1 r2) r3
  | succ e ih =>
    intro x hx vb hv
    refine pk_le 4 x (fun z => absurd z (by omega)) (fun _ => ⟨pk_in x 28 (by omega), nm_r (e' := upd vb x 0) ?_ (nm_r (e' := nI (x + 1)) (nI_1 x) (ih (x + 1) (by omega) _ (fun y hy => ?_)))⟩)
    · rw [nI_clamp (by omega)]
    · by_cases e1 : y = x
      · subst e1
        exact pk_us
      · rw [pk_un e1]
        exact hv y (by omega)
theorem xw_walk {post : SX → Prop} (hc : c ≤ 6) (hL : L ≤ 8) (hM : bg c ≤ 30) (h1 : ∀ k, k < c → bg k ≤ bg (k + 1) ∧ bg (k + 1) ≤ bg k + 6 ∧ bg (k + 1) ≤ bg c) (hS : ab_S K A B C) (hb : ∀ i, b i < 256) (hV : ∀ i, i < bg c → sp_V (K i) (A i) (B i) (C i)) (hZ : bu ≠ 0 → tr_Z c n sg par lev ch sb en K A B C bg) (hF : bu ≠ 0 → ps ≠ 0 → wk_F c L bg K A B C b ft lf)
    (H : ∀ (n ft : Nat) (bu ps : Int32) (sg par lev ch sb en pl : Nat → Nat) (va lf : Nat → Int32), bu ≠ 0 → ps ≠ 0 → tr_Z c n sg par lev ch sb en K A B C bg → wk_F c L bg K A B C b ft lf → post (nI t, nI c, nI L, bu, nI n, ps, nI ft, ar_g K, ar_g A, ar_g B, ar_g C, ar_g bg, ar_g b, ar_g sg, ar_g par, ar_g lev, ar_g ch, ar_g sb, ar_g en, ar_g pl, va, lf)) : wpX_walk post (nI t, nI c, nI L, bu, nI n, ps, nI ft, ar_g K, ar_g A, ar_g B, ar_g C, ar_g bg, ar_g b, ar_g sg, ar_g par, ar_g lev, ar_g ch, ar_g sb, ar_g en, ar_g pl, va, lf) := by
  unfold wpX_walk
  dsimp only
  refine xb_build hc hM h1 hS (fun hb0 => br_c (fun hp => ?_) (fun hp => H n ft bu ps sg par lev ch sb en pl va lf hb0 hp (hZ hb0) (hF hb0 hp))) (fun hb0 n' sg' par' lev' ch' sb' en' hZ' => br_t rfl ?_)
  · exact nm_r (e' := ar_g (ar_u pl 0 0)) (ar_set0 pl 0 0) ⟨5, xw_26 hc hL hM hb hV (hZ hb0) ar_us (fun ft' pl' va' lf' hF' => H n ft' bu 1 sg par lev ch sb en pl' va' lf' hb0 (by decide) (hZ hb0) hF') 4 0 (by omega) va (fun y hy => absurd hy (by omega))⟩
  · exact nm_r (e' := ar_g (ar_u pl 0 0)) (ar_set0 pl 0 0) ⟨5, xw_26 hc hL hM hb hV hZ' ar_us (fun ft' pl' va' lf' hF' => H n' ft' 1 1 sg' par' lev' ch' sb' en' pl' va' lf' (by decide) (by decide) hZ' hF') 4 0 (by omega) va (fun y hy => absurd hy (by omega))⟩
end
end
section
/-! what holds of X's state by itself -/
def iv_B (t c L : Nat) (K A B C bg b : Nat → Nat) : Prop :=
  c ≤ 6 ∧ t ≤ 30 ∧ L ≤ 8 ∧ bg 0 = 0 ∧ (∀ k, k < c → bg k ≤ bg (k + 1) ∧ bg (k + 1) ≤ bg k + 6) ∧ bg c ≤ t ∧ t ≤ bg c + 6 ∧ (∀ i, i < t → sp_V (K i) (A i) (B i) (C i)) ∧ (∀ i, b i < 256) ∧ ab_S K A B C
theorem iv_mono {c : Nat} {bg : Nat → Nat} (h : ∀ k, k < c → bg k ≤ bg (k + 1) ∧ bg (k + 1) ≤ bg k + 6) : ∀ k, k ≤ c → bg k ≤ bg c := by
  have g : ∀ d k, k + d = c → bg k ≤ bg c := by
    intro d
    induction d with
    | zero => intro k hk; rw [show k = c by omega]; exact Nat.le_refl _
    | succ d ih =>
      intro k hk
      have h1 := (h k (by omega)).1
      have h2 := ih (k + 1) (by omega)
      omega
  intro k hk
  exact g (c - k) k (by omega)
/-- what the rules' answers are -/
def iv_S (L : Nat) (K A B C bg b : Nat → Nat) (k : Nat) : Prop := rn_ok L (rn_r b L K A B C (bg k) (bg (k + 1) - bg k))
def mf_R (c j : Nat) (S : Nat → Prop) (r : Int32) : Prop := (∃ k, j ≤ k ∧ k < c ∧ S k ∧ (∀ i, j ≤ i → i < k → ¬ S i) ∧ r = nI k) ∨ ((∀ i, j ≤ i → i < c → ¬ S i) ∧ r = -4)
theorem mf_u {c j : Nat} {S : Nat → Prop} {r r' : Int32} (h : mf_R c j S r) (h' : mf_R c j S r') : r' = r := by
  rcases h with ⟨k, h1, h2, h3, h4, rfl⟩ | ⟨h1, rfl⟩
  · rcases h' with ⟨k', g1, g2, g3, g4, rfl⟩ | ⟨g1, rfl⟩
    · by_cases e : k' = k
      · rw [e]
      · by_cases l : k' < k
        · exact absurd g3 (h4 k' g1 l)
        · exact absurd h3 (g4 k h1 (by omega))
    · exact absurd h3 (g1 k h1 h2)
  · rcases h' with ⟨k', g1, g2, g3, g4, rfl⟩ | ⟨g1, rfl⟩
    · exact absurd g3 (h1 k' g1 g2)
    · rfl
theorem mf_y {c j : Nat} {S : Nat → Prop} (h1 : j < c) (h2 : S j) : mf_R c j S (nI j) := Or.inl ⟨j, Nat.le_refl j, h1, h2, fun i a b => absurd b (by omega), rfl⟩
theorem mf_n {c j : Nat} {S : Nat → Prop} {r : Int32} (h2 : ¬ S j) (h : mf_R c (j + 1) S r) : mf_R c j S r := by
  have g : ∀ i, j ≤ i → ¬ (j + 1 ≤ i) → ¬ S i := by
    intro i a b
    rw [show i = j by omega]
    exact h2
  rcases h with ⟨k, a1, a2, a3, a4, a5⟩ | ⟨a1, a2⟩
  · refine Or.inl ⟨k, by omega, a2, a3, fun i i1 i2 => ?_, a5⟩
    by_cases l : j + 1 ≤ i
    · exact a4 i l i2
    · exact g i i1 l
  · refine Or.inr ⟨fun i i1 i2 => ?_, a2⟩
    by_cases l : j + 1 ≤ i
    · exact a1 i l i2
    · exact g i i1 l
theorem mf_e {c j : Nat} {S : Nat → Prop} (h : c ≤ j) : mf_R c j S (-4) := Or.inr ⟨fun i a b => absurd b (by omega), rfl⟩
def bd_R (L : Nat) (o : Option (Nat × (Nat → Int32))) (x : Nat) (r : Int32) : Prop := (∃ s, o = some s ∧ s.1 = 8 * L ∧ r = s.2 x) ∨ (¬ rn_ok L o ∧ r = 0)
def bq_R (c L : Nat) (K A B C bg b : Nat → Nat) (p q r : Int32) : Prop :=
  ((p < 0 ∨ nI c ≤ p ∨ q < 0 ∨ 3 < q) ∧ r = 0) ∨ (∃ k x, k < c ∧ x ≤ 3 ∧ p = nI k ∧ q = nI x ∧ bd_R L (rn_r b L K A B C (bg k) (bg (k + 1) - bg k)) x r)
theorem bd_u {L x : Nat} {o : Option (Nat × (Nat → Int32))} {r r' : Int32} (h : bd_R L o x r) (h' : bd_R L o x r') : r' = r := by
  rcases h with ⟨s, h1, h2, rfl⟩ | ⟨h1, rfl⟩
  · rcases h' with ⟨s', g1, g2, rfl⟩ | ⟨g1, rfl⟩
    · rw [h1] at g1
      cases g1
      rfl
    · exact absurd ⟨s, h1, h2⟩ g1
  · rcases h' with ⟨s', g1, g2, rfl⟩ | ⟨g1, rfl⟩
    · exact absurd ⟨s', g1, g2⟩ h1
    · rfl
theorem bq_x {c k x : Nat} (hc : c ≤ 6) (hk : k < c) (hx : x ≤ 3) : ¬ (nI k < 0 ∨ nI c ≤ nI k ∨ nI x < 0 ∨ 3 < nI x) := by
  rintro (h | h | h | h)
  · exact nI_pos (by omega) h
  · exact nI_ge hk (by omega) h
  · exact nI_pos (by omega) h
  · exact nI_nlt (a := 3) hx (by decide) h
theorem bq_u {c L : Nat} {K A B C bg b : Nat → Nat} {p q r r' : Int32} (hc : c ≤ 6) (h : bq_R c L K A B C bg b p q r) (h' : bq_R c L K A B C bg b p q r') : r' = r := by
  rcases h with ⟨h1, h2⟩ | ⟨k, x, h1, h2, h3, h4, h5⟩
  · rcases h' with ⟨g1, g2⟩ | ⟨k', x', g1, g2, g3, g4, g5⟩
    · rw [h2, g2]
    · subst g3 g4
      exact absurd h1 (bq_x hc g1 g2)
  · rcases h' with ⟨g1, g2⟩ | ⟨k', x', g1, g2, g3, g4, g5⟩
    · subst h3 h4
      exact absurd g1 (bq_x hc h1 h2)
    · rw [h3] at g3
      rw [h4] at g4
      have e1 := (nI_eq (by omega) (by omega)).mp g3
      have e2 := (nI_eq (by omega) (by omega)).mp g4
      subst e1 e2
      exact bd_u h5 g5
theorem iv_var (p : Int32) : (p < 0 ∨ 3 < p) ∨ ∃ x, x ≤ 3 ∧ p = nI x := by
  by_cases h : p < 0
  · exact Or.inl (Or.inl h)
  · by_cases h3 : (3 : Int32) < p
    · exact Or.inl (Or.inr h3)
    · obtain ⟨x, hx, rfl⟩ := nI_of h
      refine Or.inr ⟨x, ?_, rfl⟩
      have h4 : ¬ nI 3 < nI x := h3
      rw [nI_ltI (by decide) hx] at h4
      omega
section
variable {t c L n ft : Nat} {bu ps : Int32} {K A B C bg b sg par lev ch sb en pl : Nat → Nat} {va lf : Nat → Int32}
theorem xa_good {post : Int32 → Prop} {x : Nat} (hx : x ≤ 3) (h : post 0) : wpX_badVariable post (nI t, nI c, nI L, bu, nI n, ps, nI ft, ar_g K, ar_g A, ar_g B, ar_g C, ar_g bg, ar_g b, ar_g sg, ar_g par, ar_g lev, ar_g ch, ar_g sb, ar_g en, ar_g pl, va, lf) (nI x) :=
  br_f (nI_pos (by omega)) (br_t (nI_le (b := 3) hx (by decide)) h)
theorem xa_bad {post : Int32 → Prop} {p : Int32} (hp : p < 0 ∨ 3 < p) (h : post 1) : wpX_badVariable post (nI t, nI c, nI L, bu, nI n, ps, nI ft, ar_g K, ar_g A, ar_g B, ar_g C, ar_g bg, ar_g b, ar_g sg, ar_g par, ar_g lev, ar_g ch, ar_g sb, ar_g en, ar_g pl, va, lf) p := by
  refine br_c (fun _ => h) (fun h1 => br_f ?_ h)
  rcases hp with hp | hp
  · exact absurd hp h1
  · exact Int32.not_le.mpr hp
def iv_X (t c L : Nat) (bu ps : Int32) (n ft : Nat) (K A B C bg b sg par lev ch sb en : Nat → Nat) (lf : Nat → Int32) : Prop :=
  iv_B t c L K A B C bg b ∧ (bu ≠ 0 → tr_Z c n sg par lev ch sb en K A B C bg) ∧ (bu ≠ 0 → ps ≠ 0 → wk_F c L bg K A B C b ft lf)
theorem xq_walk {post : SX → Prop} (I : iv_X t c L bu ps n ft K A B C bg b sg par lev ch sb en lf)
    (H : ∀ (n ft : Nat) (bu ps : Int32) (sg par lev ch sb en pl : Nat → Nat) (va lf : Nat → Int32), iv_X t c L bu ps n ft K A B C bg b sg par lev ch sb en lf → wk_F c L bg K A B C b ft lf → post (nI t, nI c, nI L, bu, nI n, ps, nI ft, ar_g K, ar_g A, ar_g B, ar_g C, ar_g bg, ar_g b, ar_g sg, ar_g par, ar_g lev, ar_g ch, ar_g sb, ar_g en, ar_g pl, va, lf)) : wpX_walk post (nI t, nI c, nI L, bu, nI n, ps, nI ft, ar_g K, ar_g A, ar_g B, ar_g C, ar_g bg, ar_g b, ar_g sg, ar_g par, ar_g lev, ar_g ch, ar_g sb, ar_g en, ar_g pl, va, lf) := by
  obtain ⟨hB, hZ, hF⟩ := I
  have hB' := hB
  obtain ⟨h1, h2, h3, h4, h5, h6, h7, h8, h9, h10⟩ := hB'
  refine xw_walk h1 h3 (by omega) (fun k hk => ⟨(h5 k hk).1, (h5 k hk).2, iv_mono h5 (k + 1) (by omega)⟩) h10 h9 (fun i hi => h8 i (by omega)) hZ hF (fun n ft bu ps sg par lev ch sb en pl va lf hbu hps hZ' hF' => H n ft bu ps sg par lev ch sb en pl va lf ⟨hB, fun _ => hZ', fun _ _ => hF'⟩ hF')
theorem xq_12 {post : Int32 → SX → Prop} (hc : c ≤ 6) (hF : wk_F c L bg K A B C b ft lf) : ∀ e j, c ≤ j + e → j < 2 ^ 31 → (∀ r, mf_R c j (iv_S L K A B C bg b) r → post r (nI t, nI c, nI L, bu, nI n, ps, nI ft, ar_g K, ar_g A, ar_g B, ar_g C, ar_g bg, ar_g b, ar_g sg, ar_g par, ar_g lev, ar_g ch, ar_g sb, ar_g en, ar_g pl, va, lf)) → wX_matchFrom_12 post (nI t) (nI c) (nI L) bu (nI n) ps (nI ft) (ar_g K) (ar_g A) (ar_g B) (ar_g C) (ar_g bg) (ar_g b) (ar_g sg) (ar_g par) (ar_g lev) (ar_g ch) (ar_g sb) (ar_g en) (ar_g pl) va lf (e + 1) (nI j) := by
  obtain ⟨f1, f2⟩ := hF
  have hft : ft < 2 ^ 31 := Nat.lt_of_lt_of_le f1 (bi_p2 (by omega))
  intro e
  induction e with
  | zero =>
    intro j hj hj2 H
    exact pk_le c j (fun h => H (-4) (mf_e h)) (fun z => absurd z (by omega))
  | succ e ih =>
    intro j hj hj2 H
    refine pk_le c j (fun h => H (-4) (mf_e h)) (fun h => ek_if (nx_tb hft (by omega)) (fun ht => H (nI j) (mf_y h ?_)) (fun ht => nm_r (e' := nI (j + 1)) (nI_1 j) (ih (j + 1) (by omega) (by omega) (fun r hr => H r (mf_n ?_ hr)))))
    · obtain ⟨s, g1, g2, g3⟩ := (f2 j h).1 ht
      exact ⟨s, g1, g2⟩
    · exact (f2 j h).2 (eq_false_of_ne_true ht)
theorem xq_mf {post : Int32 → SX → Prop} {j : Nat} (hj : j < 2 ^ 31) (I : iv_X t c L bu ps n ft K A B C bg b sg par lev ch sb en lf)
    (H : ∀ (r : Int32) (n ft : Nat) (bu ps : Int32) (sg par lev ch sb en pl : Nat → Nat) (va lf : Nat → Int32), iv_X t c L bu ps n ft K A B C bg b sg par lev ch sb en lf → mf_R c j (iv_S L K A B C bg b) r → post r (nI t, nI c, nI L, bu, nI n, ps, nI ft, ar_g K, ar_g A, ar_g B, ar_g C, ar_g bg, ar_g b, ar_g sg, ar_g par, ar_g lev, ar_g ch, ar_g sb, ar_g en, ar_g pl, va, lf)) : wpX_matchFrom post (nI t, nI c, nI L, bu, nI n, ps, nI ft, ar_g K, ar_g A, ar_g B, ar_g C, ar_g bg, ar_g b, ar_g sg, ar_g par, ar_g lev, ar_g ch, ar_g sb, ar_g en, ar_g pl, va, lf) (nI j) := by
  have hc := I.1.1
  refine br_t (nI_pos' hj) (xq_walk I (fun n ft bu ps sg par lev ch sb en pl va lf I' F' => ⟨7, ?_⟩))
  exact xq_12 hc F' 6 j (by omega) hj (fun r hr => H r n ft bu ps sg par lev ch sb en pl va lf I' hr)
theorem xq_match {post : Int32 → SX → Prop} (I : iv_X t c L bu ps n ft K A B C bg b sg par lev ch sb en lf)
    (H : ∀ (r : Int32) (n ft : Nat) (bu ps : Int32) (sg par lev ch sb en pl : Nat → Nat) (va lf : Nat → Int32), iv_X t c L bu ps n ft K A B C bg b sg par lev ch sb en lf → mf_R c 0 (iv_S L K A B C bg b) r → post r (nI t, nI c, nI L, bu, nI n, ps, nI ft, ar_g K, ar_g A, ar_g B, ar_g C, ar_g bg, ar_g b, ar_g sg, ar_g par, ar_g lev, ar_g ch, ar_g sb, ar_g en, ar_g pl, va, lf)) : wpX_match post (nI t, nI c, nI L, bu, nI n, ps, nI ft, ar_g K, ar_g A, ar_g B, ar_g C, ar_g bg, ar_g b, ar_g sg, ar_g par, ar_g lev, ar_g ch, ar_g sb, ar_g en, ar_g pl, va, lf) := by
  unfold wpX_match
  dsimp only
  exact xq_mf (j := 0) (by decide) I H
theorem xq_bb {post : Int32 → SX → Prop} (p q : Int32) (I : iv_X t c L bu ps n ft K A B C bg b sg par lev ch sb en lf)
    (H : ∀ (r : Int32) (n ft : Nat) (bu ps : Int32) (sg par lev ch sb en pl : Nat → Nat) (va lf : Nat → Int32), iv_X t c L bu ps n ft K A B C bg b sg par lev ch sb en lf → bq_R c L K A B C bg b p q r → post r (nI t, nI c, nI L, bu, nI n, ps, nI ft, ar_g K, ar_g A, ar_g B, ar_g C, ar_g bg, ar_g b, ar_g sg, ar_g par, ar_g lev, ar_g ch, ar_g sb, ar_g en, ar_g pl, va, lf)) : wpX_boundBy post (nI t, nI c, nI L, bu, nI n, ps, nI ft, ar_g K, ar_g A, ar_g B, ar_g C, ar_g bg, ar_g b, ar_g sg, ar_g par, ar_g lev, ar_g ch, ar_g sb, ar_g en, ar_g pl, va, lf) p q := by
  have hc := I.1.1
  refine br_c (fun h => H 0 n ft bu ps sg par lev ch sb en pl va lf I (Or.inl ⟨Or.inl h, rfl⟩)) (fun h => br_c (fun h2 => H 0 n ft bu ps sg par lev ch sb en pl va lf I (Or.inl ⟨Or.inr (Or.inl h2), rfl⟩)) (fun h2 => ?_))
  rcases iv_var q with hq | ⟨x, hx, rfl⟩
  · exact xa_bad hq (br_f (by decide) (H 0 n ft bu ps sg par lev ch sb en pl va lf I (Or.inl ⟨Or.inr (Or.inr hq), rfl⟩)))
  · obtain ⟨k, hk, rfl⟩ := nI_of h
    rw [nI_leI (by omega) hk] at h2
    refine xa_good hx (br_t rfl (xq_walk I (fun n ft bu ps sg par lev ch sb en pl va lf I' F' => ?_)))
    obtain ⟨f1, f2⟩ := F'
    have hft : ft < 2 ^ 31 := Nat.lt_of_lt_of_le f1 (bi_p2 (by omega))
    refine ek_if (nx_tb hft (by omega)) (fun ht => ?_) (fun ht => ?_)
    · obtain ⟨s, g1, g2, g3⟩ := (f2 k (by omega)).1 ht
      rw [xe_ix]
      refine ⟨pk_in (4 * k + x) 24 (by omega), H _ n ft bu ps sg par lev ch sb en pl va lf I' (Or.inr ⟨k, x, by omega, hx, rfl, rfl, Or.inl ⟨s, g1, g2, ?_⟩⟩)⟩
      rw [nI_clamp (by omega)]
      exact g3 x (by omega)
    · exact H 0 n ft bu ps sg par lev ch sb en pl va lf I' (Or.inr ⟨k, x, by omega, hx, rfl, rfl, Or.inr ⟨(f2 k (by omega)).2 (eq_false_of_ne_true ht), rfl⟩⟩)
end
/-! Y -/
def iv_Y (t c : Nat) (K A B C bg YK Y1 Y2 Y3 sz : Nat → Nat) : Prop :=
  (∀ k, k < c → sz k = bg (k + 1) - bg k) ∧ sz 6 = t - bg c ∧
  (∀ k, k < c → ∀ i, i < bg (k + 1) - bg k → ye_R (YK (6 * k + i)) (Y1 (6 * k + i)) (Y2 (6 * k + i)) (Y3 (6 * k + i)) (K (bg k + i)) (A (bg k + i)) (B (bg k + i)) (C (bg k + i))) ∧
  (∀ i, i < t - bg c → ye_R (YK (36 + i)) (Y1 (36 + i)) (Y2 (36 + i)) (Y3 (36 + i)) (K (bg c + i)) (A (bg c + i)) (B (bg c + i)) (C (bg c + i)))
section
variable {t c L : Nat} {pa : Int32} {YK Y1 Y2 Y3 sz b K A B C bg : Nat → Nat} {vs : Nat → Int32}
theorem ya_good {post : Int32 → Prop} {x : Nat} (hx : x ≤ 3) (h : post 1) : wpY_isVariable post (nI c, nI L, pa, ar_g YK, ar_g Y1, ar_g Y2, ar_g Y3, ar_g sz, ar_g b, vs) (nI x) :=
  br_f (nI_pos (by omega)) (br_f (nI_nlt (a := 3) hx (by decide)) h)
theorem ya_bad {post : Int32 → Prop} {p : Int32} (hp : p < 0 ∨ 3 < p) (h : post 0) : wpY_isVariable post (nI c, nI L, pa, ar_g YK, ar_g Y1, ar_g Y2, ar_g Y3, ar_g sz, ar_g b, vs) p := by
  refine br_c (fun _ => h) (fun h1 => br_t ?_ h)
  rcases hp with hp | hp
  · exact absurd hp h1
  · exact hp
theorem yq_fits {post : Int32 → SY → Prop} {k : Nat} (hB : iv_B t c L K A B C bg b) (hY : iv_Y t c K A B C bg YK Y1 Y2 Y3 sz) (hk : k < c)
    (H0 : ∀ pa vs, ¬ iv_S L K A B C bg b k → post 0 (nI c, nI L, pa, ar_g YK, ar_g Y1, ar_g Y2, ar_g Y3, ar_g sz, ar_g b, vs)) (H1 : ∀ pa vs s, rn_r b L K A B C (bg k) (bg (k + 1) - bg k) = some s → s.1 = 8 * L → (∀ x, x < 4 → vs x = s.2 x) → post 1 (nI c, nI L, pa, ar_g YK, ar_g Y1, ar_g Y2, ar_g Y3, ar_g sz, ar_g b, vs)) : wpY_fits post (nI c, nI L, pa, ar_g YK, ar_g Y1, ar_g Y2, ar_g Y3, ar_g sz, ar_g b, vs) (nI k) := by
  obtain ⟨h1, h2, h3, h4, h5, h6, h7, h8, h9, h10⟩ := hB
  obtain ⟨y1, y2, y3, y4⟩ := hY
  have hm := h5 k hk
  have hm2 := iv_mono h5 (k + 1) (by omega)
  exact yf_fits (i0 := bg k) (m := bg (k + 1) - bg k) (by omega) (by omega) (y1 k hk) h9 h3 (fun i hi => h8 _ (by omega)) (y3 k hk) (fun p' vs' h => H0 (nI p') vs' h) (fun p' vs' s a b d => H1 (nI p') vs' s a b d)
theorem yq_8 {post : Int32 → SY → Prop} (hB : iv_B t c L K A B C bg b) (hY : iv_Y t c K A B C bg YK Y1 Y2 Y3 sz) : ∀ e j, c ≤ j + e → j < 2 ^ 31 → ∀ pa vs, (∀ r pa vs, mf_R c j (iv_S L K A B C bg b) r → post r (nI c, nI L, pa, ar_g YK, ar_g Y1, ar_g Y2, ar_g Y3, ar_g sz, ar_g b, vs)) → wY_matchFrom_8 post (e + 1) (nI j) (nI c) (nI L) pa (ar_g YK) (ar_g Y1) (ar_g Y2) (ar_g Y3) (ar_g sz) (ar_g b) vs := by
  have hc := hB.1
  intro e
  induction e with
  | zero =>
    intro j hj hj2 pa vs H
    exact pk_le c j (fun h => H (-4) pa vs (mf_e h)) (fun z => absurd z (by omega))
  | succ e ih =>
    intro j hj hj2 pa vs H
    refine pk_le c j (fun h => H (-4) pa vs (mf_e h)) (fun h => yq_fits hB hY h (fun pa vs hn => br_t rfl (nm_r (e' := nI (j + 1)) (nI_1 j) (ih (j + 1) (by omega) (by omega) pa vs (fun r pa vs hr => H r pa vs (mf_n hn hr))))) (fun pa vs s g1 g2 g3 => br_f (by decide) (H (nI j) pa vs (mf_y h ⟨s, g1, g2⟩))))
theorem yq_mf {post : Int32 → SY → Prop} {j : Nat} (hj : j < 2 ^ 31) (hB : iv_B t c L K A B C bg b) (hY : iv_Y t c K A B C bg YK Y1 Y2 Y3 sz)
    (H : ∀ r pa vs, mf_R c j (iv_S L K A B C bg b) r → post r (nI c, nI L, pa, ar_g YK, ar_g Y1, ar_g Y2, ar_g Y3, ar_g sz, ar_g b, vs)) : wpY_matchFrom post (nI c, nI L, pa, ar_g YK, ar_g Y1, ar_g Y2, ar_g Y3, ar_g sz, ar_g b, vs) (nI j) :=
  br_t (nI_pos' hj) ⟨7, yq_8 hB hY 6 j (by have := hB.1; omega) hj pa vs H⟩
theorem yq_match {post : Int32 → SY → Prop} (hB : iv_B t c L K A B C bg b) (hY : iv_Y t c K A B C bg YK Y1 Y2 Y3 sz)
    (H : ∀ r pa vs, mf_R c 0 (iv_S L K A B C bg b) r → post r (nI c, nI L, pa, ar_g YK, ar_g Y1, ar_g Y2, ar_g Y3, ar_g sz, ar_g b, vs)) : wpY_match post (nI c, nI L, pa, ar_g YK, ar_g Y1, ar_g Y2, ar_g Y3, ar_g sz, ar_g b, vs) := by
  unfold wpY_match
  dsimp only
  exact yq_mf (j := 0) (by decide) hB hY H
theorem yq_bb {post : Int32 → SY → Prop} (p q : Int32) (hB : iv_B t c L K A B C bg b) (hY : iv_Y t c K A B C bg YK Y1 Y2 Y3 sz)
    (H : ∀ r pa vs, bq_R c L K A B C bg b p q r → post r (nI c, nI L, pa, ar_g YK, ar_g Y1, ar_g Y2, ar_g Y3, ar_g sz, ar_g b, vs)) : wpY_boundBy post (nI c, nI L, pa, ar_g YK, ar_g Y1, ar_g Y2, ar_g Y3, ar_g sz, ar_g b, vs) p q := by
  have hc := hB.1
  refine br_c (fun h => H 0 pa vs (Or.inl ⟨Or.inl h, rfl⟩)) (fun h => br_c (fun h2 => H 0 pa vs (Or.inl ⟨Or.inr (Or.inl h2), rfl⟩)) (fun h2 => ?_))
  rcases iv_var q with hq | ⟨x, hx, rfl⟩
  · exact ya_bad hq (br_t rfl (H 0 pa vs (Or.inl ⟨Or.inr (Or.inr hq), rfl⟩)))
  · obtain ⟨k, hk, rfl⟩ := nI_of h
    rw [nI_leI (by omega) hk] at h2
    refine ya_good hx (br_f (by decide) (yq_fits hB hY (by omega) (fun pa vs hn => br_t rfl (H 0 pa vs (Or.inr ⟨k, x, by omega, hx, rfl, rfl, Or.inr ⟨hn, rfl⟩⟩))) (fun pa vs s g1 g2 g3 => br_f (by decide) ⟨pk_in x 4 (by omega), H _ pa vs (Or.inr ⟨k, x, by omega, hx, rfl, rfl, Or.inl ⟨s, g1, g2, ?_⟩⟩)⟩)))
    rw [nI_clamp (by omega)]
    exact g3 x (by omega)
theorem yq_4 {post : Int32 → SY → Prop} {ft : Nat} {lf : Nat → Int32} (hB : iv_B t c L K A B C bg b) (hY : iv_Y t c K A B C bg YK Y1 Y2 Y3 sz) (hF : wk_F c L bg K A B C b ft lf) (H : ∀ pa vs, post (nI ft) (nI c, nI L, pa, ar_g YK, ar_g Y1, ar_g Y2, ar_g Y3, ar_g sz, ar_g b, vs)) : ∀ e j, j + e = c → ∀ pa vs, wY_fitting_4 post (e + 1) (nI (ft % 2 ^ j)) (nI j) (nI c) (nI L) pa (ar_g YK) (ar_g Y1) (ar_g Y2) (ar_g Y3) (ar_g sz) (ar_g b) vs := by
  obtain ⟨f1, f2⟩ := hF
  have hc := hB.1
  intro e
  induction e with
  | zero =>
    intro j hj pa vs
    have ej : j = c := by omega
    subst ej
    rw [Nat.mod_eq_of_lt f1]
    exact pk_le j j (fun _ => H pa vs) (fun z => absurd z (by omega))
  | succ e ih =>
    intro j hj pa vs
    have em : ft % 2 ^ (j + 1) = ft % 2 ^ j + 2 ^ j * (ft / 2 ^ j % 2) := by rw [Nat.pow_succ, Nat.mod_mul]
    have ht : ft.testBit j = decide (ft / 2 ^ j % 2 = 1) := Nat.testBit_eq_decide_div_mod_eq
    refine pk_le c j (fun z => absurd z (by omega)) (fun h => yq_fits hB hY h (fun pa vs hn => br_t rfl (nm_r (e' := nI (j + 1)) (nI_1 j) ?_)) (fun pa vs s g1 g2 g3 => br_f (by decide) (nm_r (e' := nI (ft % 2 ^ (j + 1))) ?_ (nm_r (e' := nI (j + 1)) (nI_1 j) (ih (j + 1) (by omega) pa vs)))))
    · have hb : ¬ ft / 2 ^ j % 2 = 1 := by
        intro z
        rw [z] at ht
        obtain ⟨s, g1, g2, g3⟩ := (f2 j h).1 (ht.trans (decide_eq_true rfl))
        exact hn ⟨s, g1, g2⟩
      have h2 : ft / 2 ^ j % 2 < 2 := Nat.mod_lt _ (by decide)
      have e0 : ft / 2 ^ j % 2 = 0 := by omega
      rw [e0, Nat.mul_zero, Nat.add_zero] at em
      have g := ih (j + 1) (by omega) pa vs
      rw [em] at g
      exact g
    · have hb : ft / 2 ^ j % 2 = 1 := by
        cases hq : ft.testBit j with
        | true =>
          rw [hq] at ht
          exact of_decide_eq_true ht.symm
        | false => exact absurd ⟨s, g1, g2⟩ ((f2 j h).2 hq)
      rw [nx_one (by omega), nI_add, em, hb, Nat.mul_one]
theorem yq_fit {post : Int32 → SY → Prop} {ft : Nat} {lf : Nat → Int32} (hB : iv_B t c L K A B C bg b) (hY : iv_Y t c K A B C bg YK Y1 Y2 Y3 sz) (hF : wk_F c L bg K A B C b ft lf) (H : ∀ pa vs, post (nI ft) (nI c, nI L, pa, ar_g YK, ar_g Y1, ar_g Y2, ar_g Y3, ar_g sz, ar_g b, vs)) : wpY_fitting post (nI c, nI L, pa, ar_g YK, ar_g Y1, ar_g Y2, ar_g Y3, ar_g sz, ar_g b, vs) := by
  have g := yq_4 hB hY hF H c 0 (by omega) pa vs
  rw [Nat.pow_zero, Nat.mod_one] at g
  exact ⟨c + 1, g⟩
end
end
section
/-! the relation -/
def i_Rel (_ : Nat) (u : SX) (v : SY) : Prop :=
  ∃ (t c L n ft : Nat) (bu ps pa : Int32) (K A B C bg b sg par lev ch sb en pl YK Y1 Y2 Y3 sz : Nat → Nat) (va lf vs : Nat → Int32),
    u = (nI t, nI c, nI L, bu, nI n, ps, nI ft, ar_g K, ar_g A, ar_g B, ar_g C, ar_g bg, ar_g b, ar_g sg, ar_g par, ar_g lev, ar_g ch, ar_g sb, ar_g en, ar_g pl, va, lf) ∧ v = (nI c, nI L, pa, ar_g YK, ar_g Y1, ar_g Y2, ar_g Y3, ar_g sz, ar_g b, vs) ∧ iv_X t c L bu ps n ft K A B C bg b sg par lev ch sb en lf ∧ iv_Y t c K A B C bg YK Y1 Y2 Y3 sz
section
variable {t c L n ft : Nat} {bu ps pa : Int32} {K A B C bg b sg par lev ch sb en pl YK Y1 Y2 Y3 sz : Nat → Nat} {va lf vs : Nat → Int32}
theorem zz_in {k : Nat} (hX : iv_X t c L bu ps n ft K A B C bg b sg par lev ch sb en lf) (hY : iv_Y t c K A B C bg YK Y1 Y2 Y3 sz) : i_Rel k (nI t, nI c, nI L, bu, nI n, ps, nI ft, ar_g K, ar_g A, ar_g B, ar_g C, ar_g bg, ar_g b, ar_g sg, ar_g par, ar_g lev, ar_g ch, ar_g sb, ar_g en, ar_g pl, va, lf) (nI c, nI L, pa, ar_g YK, ar_g Y1, ar_g Y2, ar_g Y3, ar_g sz, ar_g b, vs) :=
  ⟨t, c, L, n, ft, bu, ps, pa, K, A, B, C, bg, b, sg, par, lev, ch, sb, en, pl, YK, Y1, Y2, Y3, sz, va, lf, vs, rfl, rfl, hX, hY⟩
end
theorem zz_el {P : SX → SY → Prop} {k : Nat} {u : SX} {v : SY} (I : i_Rel k u v)
    (h : ∀ (t c L n ft : Nat) (bu ps pa : Int32) (K A B C bg b sg par lev ch sb en pl YK Y1 Y2 Y3 sz : Nat → Nat) (va lf vs : Nat → Int32), iv_X t c L bu ps n ft K A B C bg b sg par lev ch sb en lf → iv_Y t c K A B C bg YK Y1 Y2 Y3 sz → P (nI t, nI c, nI L, bu, nI n, ps, nI ft, ar_g K, ar_g A, ar_g B, ar_g C, ar_g bg, ar_g b, ar_g sg, ar_g par, ar_g lev, ar_g ch, ar_g sb, ar_g en, ar_g pl, va, lf) (nI c, nI L, pa, ar_g YK, ar_g Y1, ar_g Y2, ar_g Y3, ar_g sz, ar_g b, vs)) : P u v := by
  obtain ⟨t, c, L, n, ft, bu, ps, pa, K, A, B, C, bg, b, sg, par, lev, ch, sb, en, pl, YK, Y1, Y2, Y3, sz, va, lf, vs, rfl, rfl, hX, hY⟩ := I
  exact h t c L n ft bu ps pa K A B C bg b sg par lev ch sb en pl YK Y1 Y2 Y3 sz va lf vs hX hY
theorem tr_Zcg {c n : Nat} {sg par lev ch sb en K A B C K' A' B' C' bg : Nat → Nat} (h : tr_Z c n sg par lev ch sb en K A B C bg) (h5 : ∀ k, k < c → bg k ≤ bg (k + 1) ∧ bg (k + 1) ≤ bg k + 6) (g : ∀ i, i < bg c → K' i = K i ∧ A' i = A i ∧ B' i = B i ∧ C' i = C i) : tr_Z c n sg par lev ch sb en K' A' B' C' bg := by
  obtain ⟨hT, hn, eN, e1, e2⟩ := h
  refine ⟨hT, hn, eN, e1, fun k hk => ?_⟩
  obtain ⟨a1, a2, a3⟩ := e2 k hk
  have h6 := (h5 k hk).1
  have h7 := iv_mono h5 (k + 1) (by omega)
  exact ⟨tr_Pcg a1 (fun d d0 d1 => (hT.2.2.2.1 d d0 d1).2.2.2) (by omega) g, a2, a3⟩
theorem wk_Fcg {c L ft : Nat} {K A B C K' A' B' C' bg b : Nat → Nat} {lf : Nat → Int32} (h : wk_F c L bg K A B C b ft lf) (h5 : ∀ k, k < c → bg k ≤ bg (k + 1) ∧ bg (k + 1) ≤ bg k + 6) (g : ∀ i, i < bg c → K' i = K i ∧ A' i = A i ∧ B' i = B i ∧ C' i = C i) : wk_F c L bg K' A' B' C' b ft lf := by
  refine ⟨h.1, fun k hk => ?_⟩
  have h6 := (h5 k hk).1
  have h7 := iv_mono h5 (k + 1) (by omega)
  have e : rn_r b L K' A' B' C' (bg k) (bg (k + 1) - bg k) = rn_r b L K A B C (bg k) (bg (k + 1) - bg k) := rn_cg (m := bg (k + 1) - bg k) (fun j hj => g (bg k + j) (by omega)) _ (Nat.le_refl _)
  rw [e]
  exact h.2 k hk
section
variable {t c L n ft : Nat} {bu ps pa : Int32} {K A B C bg b sg par lev ch sb en pl YK Y1 Y2 Y3 sz : Nat → Nat} {va lf vs : Nat → Int32}
theorem ya_12 {q : Int32 → SY → Prop} {y0 y1 y2 y3 : Nat} (hB : iv_B t c L K A B C bg b) (hY : iv_Y t c K A B C bg YK Y1 Y2 Y3 sz) (H0 : (sz 6 = 6 ∨ t = 30) → q (-2) (nI c, nI L, pa, ar_g YK, ar_g Y1, ar_g Y2, ar_g Y3, ar_g sz, ar_g b, vs))
    (H1 : sz 6 ≠ 6 → t ≠ 30 → q (nI (sz 6 + 1)) (nI c, nI L, pa, ar_g (ar_u YK (36 + sz 6) y0), ar_g (ar_u Y1 (36 + sz 6) y1), ar_g (ar_u Y2 (36 + sz 6) y2), ar_g (ar_u Y3 (36 + sz 6) y3), ar_g (ar_u sz 6 (sz 6 + 1)), ar_g b, vs)) :
    ∀ e j, j + e = c → wY_append_12 q (nI y0) (nI y1) (nI y2) (nI y3) (nI c) (nI L) pa (ar_g YK) (ar_g Y1) (ar_g Y2) (ar_g Y3) (ar_g sz) (ar_g b) vs (e + 1) (nI (sz 6 + bg j)) (nI j) := by
  obtain ⟨h1, h2, h3, h4, h5, h6, h7, h8, h9, h10⟩ := hB
  obtain ⟨z1, z2, z3, z4⟩ := hY
  intro e
  induction e with
  | zero =>
    intro j hj
    have ej : j = c := by omega
    subst ej
    refine pk_le j j (fun _ => pk_eq (sz 6) 6 (fun e6 => H0 (Or.inl e6)) (fun e6 => ?_)) (fun z => absurd z (by omega))
    have ip : vp_in (nI (36 + sz 6)) 42 := pk_in (36 + sz 6) 42 (by omega)
    refine pk_eq (sz 6 + bg j) 30 (fun e3 => H0 (Or.inr (by omega))) (fun e3 => nm_r (e' := nI (36 + sz 6)) (nI_add 36 (sz 6)) ⟨ip, nm_r (e' := ar_g (ar_u YK (36 + sz 6) y0)) (ar_set (by omega)) ⟨ip, nm_r (e' := ar_g (ar_u Y1 (36 + sz 6) y1)) (ar_set (by omega)) ⟨ip, nm_r (e' := ar_g (ar_u Y2 (36 + sz 6) y2)) (ar_set (by omega)) ⟨ip, nm_r (e' := ar_g (ar_u Y3 (36 + sz 6) y3)) (ar_set (by omega)) (nm_r (e' := ar_g (ar_u sz 6 (sz 6 + 1))) ?_ ?_)⟩⟩⟩⟩)
    · rw [← ar_set0, ← nI_1]
      rfl
    · exact ek_v (P := fun r => q r _) (congrArg nI ar_us) (H1 e6 (by omega))
  | succ e ih =>
    intro j hj
    have hj1 := h5 j (by omega)
    have hj2 := z1 j (by omega)
    refine pk_le c j (fun z => absurd z (by omega)) (fun _ => ⟨pk_in j 7 (by omega), nm_r (e' := nI (sz 6 + bg (j + 1))) ?_ (nm_r (e' := nI (j + 1)) (nI_1 j) (ih (j + 1) (by omega)))⟩)
    rw [ar_get (by omega), nI_add]
    exact congrArg nI (by omega)
theorem ya_app {q : Int32 → SY → Prop} {y0 y1 y2 y3 : Nat} (hB : iv_B t c L K A B C bg b) (hY : iv_Y t c K A B C bg YK Y1 Y2 Y3 sz) (H0 : (sz 6 = 6 ∨ t = 30) → q (-2) (nI c, nI L, pa, ar_g YK, ar_g Y1, ar_g Y2, ar_g Y3, ar_g sz, ar_g b, vs))
    (H1 : sz 6 ≠ 6 → t ≠ 30 → q (nI (sz 6 + 1)) (nI c, nI L, pa, ar_g (ar_u YK (36 + sz 6) y0), ar_g (ar_u Y1 (36 + sz 6) y1), ar_g (ar_u Y2 (36 + sz 6) y2), ar_g (ar_u Y3 (36 + sz 6) y3), ar_g (ar_u sz 6 (sz 6 + 1)), ar_g b, vs)) : wpY_append q (nI c, nI L, pa, ar_g YK, ar_g Y1, ar_g Y2, ar_g Y3, ar_g sz, ar_g b, vs) (nI y0) (nI y1) (nI y2) (nI y3) := by
  have g := ya_12 hB hY H0 H1 c 0 (by omega)
  rw [hB.2.2.2.1, Nat.add_zero] at g
  exact nm_r (e' := nI (sz 6)) rfl ⟨c + 1, g⟩
theorem ia_R {k' w0 w1 w2 w3 y0 y1 y2 y3 : Nat} (I : iv_X t c L bu ps n ft K A B C bg b sg par lev ch sb en lf) (Y : iv_Y t c K A B C bg YK Y1 Y2 Y3 sz) (hV : sp_V w0 w1 w2 w3) (hS : w0 < 2 ^ 31 ∧ w1 < 2 ^ 31 ∧ w2 < 2 ^ 31 ∧ w3 < 2 ^ 31) (hR : ye_R y0 y1 y2 y3 w0 w1 w2 w3) (g1 : t - bg c < 6) (g2 : t < 30) :
    i_Rel k' (nI (t + 1), nI c, nI L, bu, nI n, ps, nI ft, ar_g (ar_u K t w0), ar_g (ar_u A t w1), ar_g (ar_u B t w2), ar_g (ar_u C t w3), ar_g bg, ar_g b, ar_g sg, ar_g par, ar_g lev, ar_g ch, ar_g sb, ar_g en, ar_g pl, va, lf) (nI c, nI L, pa, ar_g (ar_u YK (36 + sz 6) y0), ar_g (ar_u Y1 (36 + sz 6) y1), ar_g (ar_u Y2 (36 + sz 6) y2), ar_g (ar_u Y3 (36 + sz 6) y3), ar_g (ar_u sz 6 (sz 6 + 1)), ar_g b, vs) := by
  obtain ⟨⟨h1, h2, h3, h4, h5, h6, h7, h8, h9, h10⟩, hZ, hF⟩ := I
  obtain ⟨z1, z2, z3, z4⟩ := Y
  have ag : ∀ i, i < bg c → ar_u K t w0 i = K i ∧ ar_u A t w1 i = A i ∧ ar_u B t w2 i = B i ∧ ar_u C t w3 i = C i := fun i hi => ⟨ar_un (by omega), ar_un (by omega), ar_un (by omega), ar_un (by omega)⟩
  refine zz_in ⟨⟨h1, by omega, h3, h4, h5, by omega, by omega, fun i hi => ?_, h9, fun q => ?_⟩, fun hb => tr_Zcg (hZ hb) h5 ag, fun hb hp => wk_Fcg (hF hb hp) h5 ag⟩ ⟨fun k hk => ?_, ?_, fun k hk i hi => ?_, fun i hi => ?_⟩
  · by_cases e : i = t
    · subst e
      rw [ar_us, ar_us, ar_us, ar_us]
      exact hV
    · rw [ar_un e, ar_un e, ar_un e, ar_un e]
      exact h8 i (by omega)
  · by_cases e : q = t
    · subst e
      rw [ar_us, ar_us, ar_us, ar_us]
      exact hS
    · rw [ar_un e, ar_un e, ar_un e, ar_un e]
      exact h10 q
  · rw [ar_un (by omega)]
    exact z1 k hk
  · rw [ar_us]
    omega
  · have hm := iv_mono h5 (k + 1) (by omega)
    have h51 := h5 k hk
    rw [ar_un (f := YK) (by omega), ar_un (f := Y1) (by omega), ar_un (f := Y2) (by omega), ar_un (f := Y3) (by omega), ar_un (f := K) (by omega), ar_un (f := A) (by omega), ar_un (f := B) (by omega), ar_un (f := C) (by omega)]
    exact z3 k hk i hi
  · by_cases e : i = sz 6
    · subst e
      have et : bg c + sz 6 = t := by omega
      rw [et, ar_us, ar_us, ar_us, ar_us, ar_us, ar_us, ar_us, ar_us]
      exact hR
    · rw [ar_un (f := YK) (by omega), ar_un (f := Y1) (by omega), ar_un (f := Y2) (by omega), ar_un (f := Y3) (by omega), ar_un (f := K) (by omega), ar_un (f := A) (by omega), ar_un (f := B) (by omega), ar_un (f := C) (by omega)]
      exact z4 i (by omega)
theorem ia_x {post : Int32 → SX → Prop} (k' w0 w1 w2 w3 y0 y1 y2 y3 : Nat) (I : iv_X t c L bu ps n ft K A B C bg b sg par lev ch sb en lf) (Y : iv_Y t c K A B C bg YK Y1 Y2 Y3 sz) (hV : sp_V w0 w1 w2 w3) (hS : w0 < 2 ^ 31 ∧ w1 < 2 ^ 31 ∧ w2 < 2 ^ 31 ∧ w3 < 2 ^ 31) (hR : ye_R y0 y1 y2 y3 w0 w1 w2 w3)
    (H : ∀ (r : Int32) (t' : Nat) (K' A' B' C' : Nat → Nat), (∀ q : Int32 → SY → Prop, (∀ (YK' Y1' Y2' Y3' sz' : Nat → Nat), i_Rel k' (nI t', nI c, nI L, bu, nI n, ps, nI ft, ar_g K', ar_g A', ar_g B', ar_g C', ar_g bg, ar_g b, ar_g sg, ar_g par, ar_g lev, ar_g ch, ar_g sb, ar_g en, ar_g pl, va, lf) (nI c, nI L, pa, ar_g YK', ar_g Y1', ar_g Y2', ar_g Y3', ar_g sz', ar_g b, vs) → q r (nI c, nI L, pa, ar_g YK', ar_g Y1', ar_g Y2', ar_g Y3', ar_g sz', ar_g b, vs)) → wpY_append q (nI c, nI L, pa, ar_g YK, ar_g Y1, ar_g Y2, ar_g Y3, ar_g sz, ar_g b, vs) (nI y0) (nI y1) (nI y2) (nI y3)) → post r (nI t', nI c, nI L, bu, nI n, ps, nI ft, ar_g K', ar_g A', ar_g B', ar_g C', ar_g bg, ar_g b, ar_g sg, ar_g par, ar_g lev, ar_g ch, ar_g sb, ar_g en, ar_g pl, va, lf)) :
    wpX_append post (nI t, nI c, nI L, bu, nI n, ps, nI ft, ar_g K, ar_g A, ar_g B, ar_g C, ar_g bg, ar_g b, ar_g sg, ar_g par, ar_g lev, ar_g ch, ar_g sb, ar_g en, ar_g pl, va, lf) (nI w0) (nI w1) (nI w2) (nI w3) := by
  have hB := I.1
  obtain ⟨h1, h2, h3, h4, h5, h6, h7, h8, h9, h10⟩ := hB
  have hz := Y.2.1
  have ii : vp_in (nI t) 32 := pk_in t 32 (by omega)
  have full : (t - bg c = 6 ∨ t = 30) → post (-2) (nI t, nI c, nI L, bu, nI n, ps, nI ft, ar_g K, ar_g A, ar_g B, ar_g C, ar_g bg, ar_g b, ar_g sg, ar_g par, ar_g lev, ar_g ch, ar_g sb, ar_g en, ar_g pl, va, lf) := by
    intro hf
    refine H (-2) t K A B C (fun q hq => ya_app I.1 Y (fun _ => hq YK Y1 Y2 Y3 sz (zz_in I Y)) (fun a1 a2 => ?_))
    exact absurd hf (by omega)
  refine And.intro (pk_in c 7 (by omega)) (nm_r (e' := nI (t - bg c)) ?_ (pk_eq (t - bg c) 6 (fun e => full (Or.inl e)) (fun e => pk_eq t 30 (fun e' => full (Or.inr e')) (fun e' => ⟨ii, nm_r (e' := ar_g (ar_u K t w0)) (ar_set (by omega)) ⟨ii, nm_r (e' := ar_g (ar_u A t w1)) (ar_set (by omega)) ⟨ii, nm_r (e' := ar_g (ar_u B t w2)) (ar_set (by omega)) ⟨ii, nm_r (e' := ar_g (ar_u C t w3)) (ar_set (by omega)) (nm_r (e' := nI (t + 1)) (nI_1 t) (H _ (t + 1) _ _ _ _ (fun q hq => ya_app I.1 Y (fun hf => absurd hf (by omega)) (fun a1 a2 => ?_))))⟩⟩⟩⟩))))
  · rw [ar_get (by omega), pk_sub h6]
  · have e2 : nI (sz 6 + 1) = nI (t - bg c) + 1 := by rw [nI_1, hz]
    exact ek_v (P := fun r => q r _) e2 (hq _ _ _ _ _ (ia_R I Y hV hS hR (by omega) (by omega)))
end
end
section
section
variable {t c L n ft : Nat} {bu ps pa : Int32} {K A B C bg b sg par lev ch sb en pl YK Y1 Y2 Y3 sz : Nat → Nat} {va lf vs : Nat → Int32}
/-- Y's end copies the rule being made -/
def ve_C (c i : Nat) (f f' : Nat → Nat) : Prop := (∀ q, (q < 6 * c ∨ 6 * c + 6 ≤ q) → f' q = f q) ∧ ∀ j, j < i → f' (6 * c + j) = f (36 + j)
theorem ve_s {c i : Nat} {f f' : Nat → Nat} (hc : c < 6) (hi : i < 6) (h : ve_C c i f f') : ve_C c (i + 1) f (ar_u f' (6 * c + i) (f (36 + i))) := by
  refine ⟨fun q hq => ?_, fun j hj => ?_⟩
  · rw [ar_un (by omega)]
    exact h.1 q hq
  · by_cases e : j = i
    · subst e
      exact ar_us
    · rw [ar_un (by omega)]
      exact h.2 j (by omega)
theorem ve_14 {post : Int32 → SY → Prop} (hc : c < 6) (hm : sz 6 ≤ 6)
    (H : ∀ YK' Y1' Y2' Y3', ve_C c (sz 6) YK YK' → ve_C c (sz 6) Y1 Y1' → ve_C c (sz 6) Y2 Y2' → ve_C c (sz 6) Y3 Y3' → post (nI (c + 1) - 1) (nI (c + 1), nI L, pa, ar_g YK', ar_g Y1', ar_g Y2', ar_g Y3', ar_g (ar_u (ar_u sz c (sz 6)) 6 0), ar_g b, vs)) :
    ∀ e i, i + e = sz 6 → ∀ YK' Y1' Y2' Y3', ve_C c i YK YK' → ve_C c i Y1 Y1' → ve_C c i Y2 Y2' → ve_C c i Y3 Y3' → wY_end_14 post (nI c) (nI L) pa (e + 1) (nI i) (ar_g YK') (ar_g Y1') (ar_g Y2') (ar_g Y3') (ar_g sz) (ar_g b) vs := by
  intro e
  induction e with
  | zero =>
    intro i hi YK' Y1' Y2' Y3' c1 c2 c3 c4
    have ei : i = sz 6 := by omega
    subst ei
    exact pk_le (sz 6) (sz 6) (fun _ => ⟨pk_in c 7 (by omega), nm_r (e' := ar_g (ar_u sz c (sz 6))) (ar_set (by omega)) (nm_r (e' := ar_g (ar_u (ar_u sz c (sz 6)) 6 0)) (ar_set0 _ 6 0) (nm_r (e' := nI (c + 1)) (nI_1 c) (H YK' Y1' Y2' Y3' c1 c2 c3 c4)))⟩) (fun z => absurd z (by omega))
  | succ e ih =>
    intro i hi YK' Y1' Y2' Y3' c1 c2 c3 c4
    have e1 : (36 : Int32) + nI i = nI (36 + i) := nI_add 36 i
    have e2 : 6 * nI c + nI i = nI (6 * c + i) := by
      show nI 6 * nI c + nI i = _
      rw [pk_mul, nI_add]
    refine pk_le (sz 6) i (fun z => absurd z (by omega)) (fun _ => ?_)
    rw [e1, e2]
    have i1 : vp_in (nI (36 + i)) 42 := pk_in (36 + i) 42 (by omega)
    have i2 : vp_in (nI (6 * c + i)) 42 := pk_in (6 * c + i) 42 (by omega)
    have cp : ∀ f f' : Nat → Nat, ve_C c i f f' → upd (ar_g f') (nI (6 * c + i)).toNatClampNeg (ar_g f' (nI (36 + i)).toNatClampNeg) = ar_g (ar_u f' (6 * c + i) (f (36 + i))) := by
      intro f f' h
      rw [ar_get (by omega), ar_set (by omega), h.1 (36 + i) (by omega)]
    exact ⟨i1, i2, nm_r (cp YK YK' c1) ⟨i1, i2, nm_r (cp Y1 Y1' c2) ⟨i1, i2, nm_r (cp Y2 Y2' c3) ⟨i1, i2, nm_r (cp Y3 Y3' c4) (nm_r (e' := nI (i + 1)) (nI_1 i) (ih (i + 1) (by omega) _ _ _ _ (ve_s hc (by omega) c1) (ve_s hc (by omega) c2) (ve_s hc (by omega) c3) (ve_s hc (by omega) c4)))⟩⟩⟩⟩
theorem ve_0 {c : Nat} {f : Nat → Nat} : ve_C c 0 f f := ⟨fun _ _ => rfl, fun j hj => absurd hj (by omega)⟩
theorem ve_end {post : Int32 → SY → Prop} (hc : c < 6) (hm : sz 6 ≤ 6)
    (H : ∀ YK' Y1' Y2' Y3', ve_C c (sz 6) YK YK' → ve_C c (sz 6) Y1 Y1' → ve_C c (sz 6) Y2 Y2' → ve_C c (sz 6) Y3 Y3' → post (nI (c + 1) - 1) (nI (c + 1), nI L, pa, ar_g YK', ar_g Y1', ar_g Y2', ar_g Y3', ar_g (ar_u (ar_u sz c (sz 6)) 6 0), ar_g b, vs)) : wpY_end post (nI c, nI L, pa, ar_g YK, ar_g Y1, ar_g Y2, ar_g Y3, ar_g sz, ar_g b, vs) :=
  pk_eq c 6 (fun z => absurd z (by omega)) (fun _ => ⟨sz 6 + 1, ve_14 hc hm H (sz 6) 0 (by omega) YK Y1 Y2 Y3 ve_0 ve_0 ve_0 ve_0⟩)
theorem ve_R {k' : Nat} {YK' Y1' Y2' Y3' : Nat → Nat} (hc : c < 6) (I : iv_X t c L bu ps n ft K A B C bg b sg par lev ch sb en lf) (Y : iv_Y t c K A B C bg YK Y1 Y2 Y3 sz) (c1 : ve_C c (sz 6) YK YK') (c2 : ve_C c (sz 6) Y1 Y1') (c3 : ve_C c (sz 6) Y2 Y2') (c4 : ve_C c (sz 6) Y3 Y3') :
    i_Rel k' (nI t, nI (c + 1), nI L, 0, nI n, ps, nI ft, ar_g K, ar_g A, ar_g B, ar_g C, ar_g (ar_u bg (c + 1) t), ar_g b, ar_g sg, ar_g par, ar_g lev, ar_g ch, ar_g sb, ar_g en, ar_g pl, va, lf) (nI (c + 1), nI L, pa, ar_g YK', ar_g Y1', ar_g Y2', ar_g Y3', ar_g (ar_u (ar_u sz c (sz 6)) 6 0), ar_g b, vs) := by
  obtain ⟨⟨h1, h2, h3, h4, h5, h6, h7, h8, h9, h10⟩, hZ, hF⟩ := I
  obtain ⟨z1, z2, z3, z4⟩ := Y
  refine zz_in ⟨⟨by omega, h2, h3, ?_, fun k hk => ?_, ?_, ?_, h8, h9, h10⟩, fun hb => absurd rfl hb, fun hb => absurd rfl hb⟩ ⟨fun k hk => ?_, ?_, fun k hk i hi => ?_, fun i hi => ?_⟩
  · rw [ar_un (by omega)]
    exact h4
  · by_cases e : k = c
    · subst e
      rw [ar_us, ar_un (by omega)]
      exact ⟨h6, h7⟩
    · rw [ar_un (by omega), ar_un (by omega)]
      exact h5 k (by omega)
  · rw [ar_us]
    exact Nat.le_refl t
  · rw [ar_us]
    omega
  · rw [ar_un (by omega)]
    by_cases e : k = c
    · subst e
      rw [ar_us, ar_us, ar_un (by omega)]
      exact z2
    · rw [ar_un e, ar_un (by omega), ar_un (by omega)]
      exact z1 k (by omega)
  · rw [ar_us, ar_us]
    omega
  · by_cases e : k = c
    · subst e
      rw [ar_us, ar_un (by omega)] at hi
      rw [c1.2 i (by omega), c2.2 i (by omega), c3.2 i (by omega), c4.2 i (by omega), ar_un (by omega)]
      exact z4 i hi
    · rw [ar_un (by omega), ar_un (by omega)] at hi
      have h51 := h5 k (by omega)
      rw [c1.1 _ (by omega), c2.1 _ (by omega), c3.1 _ (by omega), c4.1 _ (by omega), ar_un (by omega)]
      exact z3 k (by omega) i hi
  · rw [ar_us] at hi
    exact absurd hi (by omega)
/-- X's unend shifts what lies behind down -/
def vu_C (fr g i : Nat) (f f' : Nat → Nat) : Prop := (∀ q, (q < fr ∨ i ≤ q) → f' q = f q) ∧ ∀ q, fr ≤ q → q < i → f' q = f (q + g)
theorem vu_0 {fr g : Nat} {f : Nat → Nat} : vu_C fr g fr f f := ⟨fun _ _ => rfl, fun q h1 h2 => absurd h2 (by omega)⟩
theorem vu_s {fr g i : Nat} {f f' : Nat → Nat} (hi : fr ≤ i) (h : vu_C fr g i f f') : vu_C fr g (i + 1) f (ar_u f' i (f (i + g))) := by
  refine ⟨fun q hq => ?_, fun q h1 h2 => ?_⟩
  · rw [ar_un (by omega)]
    exact h.1 q (by omega)
  · by_cases e : q = i
    · subst e
      exact ar_us
    · rw [ar_un e]
      exact h.2 q h1 (by omega)
theorem vu_36 {post : Int32 → SX → Prop} {fr g : Nat} (ht : t ≤ 30) (hg : fr + g ≤ t)
    (H : ∀ K' A' B' C', vu_C fr g (t - g) K K' → vu_C fr g (t - g) A A' → vu_C fr g (t - g) B B' → vu_C fr g (t - g) C C' → post (nI c - 1) (nI (t - g), nI c - 1, nI L, 0, nI n, ps, nI ft, ar_g K', ar_g A', ar_g B', ar_g C', ar_g bg, ar_g b, ar_g sg, ar_g par, ar_g lev, ar_g ch, ar_g sb, ar_g en, ar_g pl, va, lf)) :
    ∀ e i, fr ≤ i → i + g + e = t → ∀ K' A' B' C', vu_C fr g i K K' → vu_C fr g i A A' → vu_C fr g i B B' → vu_C fr g i C C' → wX_unend_36 post (nI g) (nI t) (nI c) (nI L) bu (nI n) ps (nI ft) (e + 1) (nI i) (ar_g K') (ar_g A') (ar_g B') (ar_g C') (ar_g bg) (ar_g b) (ar_g sg) (ar_g par) (ar_g lev) (ar_g ch) (ar_g sb) (ar_g en) (ar_g pl) va lf := by
  intro e
  induction e with
  | zero =>
    intro i hfi hi K' A' B' C' c1 c2 c3 c4
    have ei : i = t - g := by omega
    subst ei
    exact pk_le t (t - g + g) (fun _ => nm_r (e' := nI (t - g)) (pk_sub (by omega)) (nm_r (e' := nI c - 1) rfl (H K' A' B' C' c1 c2 c3 c4))) (fun z => absurd z (by omega)) rfl (nI_add _ _)
  | succ e ih =>
    intro i hfi hi K' A' B' C' c1 c2 c3 c4
    have e1 : nI i + nI g = nI (i + g) := nI_add i g
    refine pk_le t (i + g) (fun z => absurd z (by omega)) (fun _ => ?_) rfl e1
    rw [e1]
    have i1 : vp_in (nI (i + g)) 32 := pk_in (i + g) 32 (by omega)
    have i2 : vp_in (nI i) 32 := pk_in i 32 (by omega)
    have cp : ∀ f f' : Nat → Nat, vu_C fr g i f f' → upd (ar_g f') (nI i).toNatClampNeg (ar_g f' (nI (i + g)).toNatClampNeg) = ar_g (ar_u f' i (f (i + g))) := by
      intro f f' h
      rw [ar_get (by omega), ar_set (by omega), h.1 (i + g) (by omega)]
    exact ⟨i1, i2, nm_r (cp K K' c1) ⟨i1, i2, nm_r (cp A A' c2) ⟨i1, i2, nm_r (cp B B' c3) ⟨i1, i2, nm_r (cp C C' c4) (nm_r (e' := nI (i + 1)) (nI_1 i) (ih (i + 1) (by omega) (by omega) _ _ _ _ (vu_s hfi c1) (vu_s hfi c2) (vu_s hfi c3) (vu_s hfi c4)))⟩⟩⟩⟩
theorem vu_unend {post : Int32 → SX → Prop} {d : Nat} (hc : c = d + 1) (hB : iv_B t c L K A B C bg b)
    (H : ∀ K' A' B' C', vu_C (bg d) (bg (d + 1) - bg d) (t - (bg (d + 1) - bg d)) K K' → vu_C (bg d) (bg (d + 1) - bg d) (t - (bg (d + 1) - bg d)) A A' → vu_C (bg d) (bg (d + 1) - bg d) (t - (bg (d + 1) - bg d)) B B' → vu_C (bg d) (bg (d + 1) - bg d) (t - (bg (d + 1) - bg d)) C C' → post (nI d) (nI (t - (bg (d + 1) - bg d)), nI d, nI L, 0, nI n, ps, nI ft, ar_g K', ar_g A', ar_g B', ar_g C', ar_g bg, ar_g b, ar_g sg, ar_g par, ar_g lev, ar_g ch, ar_g sb, ar_g en, ar_g pl, va, lf)) : wpX_unend post (nI t, nI c, nI L, bu, nI n, ps, nI ft, ar_g K, ar_g A, ar_g B, ar_g C, ar_g bg, ar_g b, ar_g sg, ar_g par, ar_g lev, ar_g ch, ar_g sb, ar_g en, ar_g pl, va, lf) := by
  obtain ⟨h1, h2, h3, h4, h5, h6, h7, h8, h9, h10⟩ := hB
  subst hc
  have hm := h5 d (by omega)
  have ed : nI (d + 1) - 1 = nI d := nI_pred d
  have ex : nI (bg (d + 1)) - nI (bg d) = nI (bg (d + 1) - bg d) := pk_sub hm.1
  refine br_f (nI_ne0 (by omega) (by omega)) ⟨pk_in d 7 (by omega) ed, nm_r (e' := nI (bg d)) ?_ ⟨pk_in (d + 1) 7 (by omega), nm_r (e' := nI (bg (d + 1) - bg d)) ?_ ⟨t - bg (d + 1) + 1, ?_⟩⟩⟩
  · rw [ed, ar_get (by omega)]
  · rw [ar_get (by omega), ex]
  · refine vu_36 (by omega) (by omega) (fun K' A' B' C' c1 c2 c3 c4 => ?_) (t - bg (d + 1)) (bg d) (Nat.le_refl _) (by omega) K A B C vu_0 vu_0 vu_0 vu_0
    rw [ed]
    exact H K' A' B' C' c1 c2 c3 c4
theorem vu_R {k' d : Nat} {K' A' B' C' : Nat → Nat} (hc : c = d + 1) (I : iv_X t c L bu ps n ft K A B C bg b sg par lev ch sb en lf) (Y : iv_Y t c K A B C bg YK Y1 Y2 Y3 sz) (c1 : vu_C (bg d) (bg (d + 1) - bg d) (t - (bg (d + 1) - bg d)) K K') (c2 : vu_C (bg d) (bg (d + 1) - bg d) (t - (bg (d + 1) - bg d)) A A') (c3 : vu_C (bg d) (bg (d + 1) - bg d) (t - (bg (d + 1) - bg d)) B B') (c4 : vu_C (bg d) (bg (d + 1) - bg d) (t - (bg (d + 1) - bg d)) C C') :
    i_Rel k' (nI (t - (bg (d + 1) - bg d)), nI d, nI L, 0, nI n, ps, nI ft, ar_g K', ar_g A', ar_g B', ar_g C', ar_g bg, ar_g b, ar_g sg, ar_g par, ar_g lev, ar_g ch, ar_g sb, ar_g en, ar_g pl, va, lf) (nI d, nI L, pa, ar_g YK, ar_g Y1, ar_g Y2, ar_g Y3, ar_g sz, ar_g b, vs) := by
  subst hc
  obtain ⟨⟨h1, h2, h3, h4, h5, h6, h7, h8, h9, h10⟩, hZ, hF⟩ := I
  obtain ⟨z1, z2, z3, z4⟩ := Y
  have hm := h5 d (by omega)
  refine zz_in ⟨⟨by omega, by omega, h3, h4, fun k hk => h5 k (by omega), by omega, by omega, fun i hi => ?_, h9, fun q => ?_⟩, fun hb => absurd rfl hb, fun hb => absurd rfl hb⟩ ⟨fun k hk => z1 k (by omega), by omega, fun k hk i hi => ?_, fun i hi => ?_⟩
  · by_cases e : i < bg d
    · rw [c1.1 i (by omega), c2.1 i (by omega), c3.1 i (by omega), c4.1 i (by omega)]
      exact h8 i (by omega)
    · rw [c1.2 i (by omega) hi, c2.2 i (by omega) hi, c3.2 i (by omega) hi, c4.2 i (by omega) hi]
      exact h8 _ (by omega)
  · by_cases e : q < bg d ∨ t - (bg (d + 1) - bg d) ≤ q
    · rw [c1.1 q e, c2.1 q e, c3.1 q e, c4.1 q e]
      exact h10 q
    · rw [c1.2 q (by omega) (by omega), c2.2 q (by omega) (by omega), c3.2 q (by omega) (by omega), c4.2 q (by omega) (by omega)]
      exact h10 _
  · have h51 := h5 k (by omega)
    have hmo := iv_mono (c := d) (bg := bg) (fun k hk => h5 k (by omega)) (k + 1) (by omega)
    rw [c1.1 _ (by omega), c2.1 _ (by omega), c3.1 _ (by omega), c4.1 _ (by omega)]
    exact z3 k (by omega) i hi
  · rw [c1.2 _ (by omega) (by omega), c2.2 _ (by omega) (by omega), c3.2 _ (by omega) (by omega), c4.2 _ (by omega) (by omega), show bg d + i + (bg (d + 1) - bg d) = bg (d + 1) + i by omega]
    exact z4 i (by omega)
end
end
section
theorem i_up {k : Nat} {u : SX} {v : SY} (h : i_Rel k u v) : i_Rel (k + 4) u v := h
theorem i_vc0 : wpX_init (fun u => wpY_init (fun v => i_Rel 0 u v)) := by
  have h : i_Rel 0 (nI 0, nI 0, nI 0, 0, nI 0, 0, nI 0, ar_g (fun _ => 0), ar_g (fun _ => 0), ar_g (fun _ => 0), ar_g (fun _ => 0), ar_g (fun _ => 0), ar_g (fun _ => 0), ar_g (fun _ => 0), ar_g (fun _ => 0), ar_g (fun _ => 0), ar_g (fun _ => 0), ar_g (fun _ => 0), ar_g (fun _ => 0), ar_g (fun _ => 0), fun _ => 0, fun _ => 0) (nI 0, nI 0, 0, ar_g (fun _ => 0), ar_g (fun _ => 0), ar_g (fun _ => 0), ar_g (fun _ => 0), ar_g (fun _ => 0), ar_g (fun _ => 0), fun _ => 0) :=
    zz_in ⟨⟨by omega, by omega, by omega, rfl, fun k hk => absurd hk (by omega), Nat.le_refl 0, Nat.zero_le _, fun i hi => absurd hi (by omega), fun i => by show (0 : Nat) < 256; omega, fun q => ⟨by show (0 : Nat) < 2 ^ 31; omega, by show (0 : Nat) < 2 ^ 31; omega, by show (0 : Nat) < 2 ^ 31; omega, by show (0 : Nat) < 2 ^ 31; omega⟩⟩, fun hb => absurd rfl hb, fun hb => absurd rfl hb⟩ ⟨fun k hk => absurd hk (by omega), rfl, fun k hk => absurd hk (by omega), fun i hi => absurd hi (by show ¬ i < 0 - 0; omega)⟩
  exact h
theorem iv_one {p : Int32} (h : ¬ p < 1) : ¬ p < 0 := fun z => h (Int32.lt_trans z (by decide))
theorem i_vc_literal {k : Nat} {u : SX} {v : SY} (I : i_Rel k u v) (hk : k + 4 ≤ 2048) (v1 : Int32) (v2 : Int32) : wpX_literal (fun r u' => wpY_literal (fun r' v' => r' = r ∧ i_Rel (k + 4) u' v') v v1 v2) u v1 v2 := by
  refine zz_el (P := fun u v => wpX_literal (fun r u' => wpY_literal (fun r' v' => r' = r ∧ i_Rel (k + 4) u' v') v v1 v2) u v1 v2) I ?_
  intro t c L n ft bu ps pa K A B C bg b sg par lev ch sb en pl YK Y1 Y2 Y3 sz va lf vs hX hY
  have R : i_Rel (k + 4) (nI t, nI c, nI L, bu, nI n, ps, nI ft, ar_g K, ar_g A, ar_g B, ar_g C, ar_g bg, ar_g b, ar_g sg, ar_g par, ar_g lev, ar_g ch, ar_g sb, ar_g en, ar_g pl, va, lf) (nI c, nI L, pa, ar_g YK, ar_g Y1, ar_g Y2, ar_g Y3, ar_g sz, ar_g b, vs) := zz_in hX hY
  by_cases h1 : v1 < 0
  · exact br_t h1 (br_t h1 ⟨rfl, R⟩)
  by_cases h2 : 16 < v1
  · exact br_f h1 (br_t h2 (br_f h1 (br_t h2 ⟨rfl, R⟩)))
  by_cases h3 : v2 < 0
  · exact br_f h1 (br_f h2 (br_t h3 (br_f h1 (br_f h2 (br_t h3 ⟨rfl, R⟩)))))
  by_cases h4 : v2 < ((1 : Int32) <<< (v1 &&& 31))
  · obtain ⟨w, hw, rfl⟩ := nI_of2 (n := 16) (M := 16) (by decide) h1 (Int32.not_lt.mp h2)
    obtain ⟨x, hx, rfl⟩ := nI_of h3
    refine br_f h1 (br_f h2 (br_f h3 (br_t h4 ?_)))
    exact ia_x (k + 4) 0 w x 0 0 w x 0 hX hY ⟨by omega, fun _ => ⟨hw, hx⟩, fun z => absurd z (by omega), fun z => absurd z (by omega), fun z => absurd z (by omega), fun z => absurd z (by omega), fun z => absurd z (by omega)⟩ ⟨by omega, by omega, hx, by omega⟩ ⟨rfl, fun z => absurd z (by omega), fun _ => ⟨rfl, rfl, rfl⟩⟩ (fun r t' K' A' B' C' h => br_f h1 (br_f h2 (br_f h3 (br_t h4 (h _ (fun _ _ _ _ _ g => ⟨rfl, g⟩))))))
  · exact br_f h1 (br_f h2 (br_f h3 (br_f h4 (br_f h1 (br_f h2 (br_f h3 (br_f h4 ⟨rfl, R⟩)))))))
theorem i_vc_field {k : Nat} {u : SX} {v : SY} (I : i_Rel k u v) (hk : k + 4 ≤ 2048) (v1 : Int32) (v2 : Int32) (v3 : Int32) : wpX_field (fun r u' => wpY_field (fun r' v' => r' = r ∧ i_Rel (k + 4) u' v') v v1 v2 v3) u v1 v2 v3 := by
  refine zz_el (P := fun u v => wpX_field (fun r u' => wpY_field (fun r' v' => r' = r ∧ i_Rel (k + 4) u' v') v v1 v2 v3) u v1 v2 v3) I ?_
  intro t c L n ft bu ps pa K A B C bg b sg par lev ch sb en pl YK Y1 Y2 Y3 sz va lf vs hX hY
  have R : i_Rel (k + 4) (nI t, nI c, nI L, bu, nI n, ps, nI ft, ar_g K, ar_g A, ar_g B, ar_g C, ar_g bg, ar_g b, ar_g sg, ar_g par, ar_g lev, ar_g ch, ar_g sb, ar_g en, ar_g pl, va, lf) (nI c, nI L, pa, ar_g YK, ar_g Y1, ar_g Y2, ar_g Y3, ar_g sz, ar_g b, vs) := zz_in hX hY
  unfold wpX_field wpY_field
  dsimp only
  rcases iv_var v1 with h0 | ⟨x, hx, rfl⟩
  · exact xa_bad h0 (br_f (by decide) (ya_bad h0 (br_t rfl ⟨rfl, R⟩)))
  refine xa_good hx (br_t rfl ?_)
  by_cases h1 : v2 < 0
  · exact br_t h1 (ya_good hx (br_f (by decide) (br_t h1 ⟨rfl, R⟩)))
  by_cases h2 : 32 < v2
  · exact br_f h1 (br_t h2 (ya_good hx (br_f (by decide) (br_f h1 (br_t h2 ⟨rfl, R⟩)))))
  by_cases h3 : v3 < 0
  · exact br_f h1 (br_f h2 (br_t h3 (ya_good hx (br_f (by decide) (br_f h1 (br_f h2 (br_t h3 ⟨rfl, R⟩)))))))
  by_cases h4 : ¬ v3 ≤ 3
  · exact br_f h1 (br_f h2 (br_f h3 (br_f h4 (ya_good hx (br_f (by decide) (br_f h1 (br_f h2 (br_f h3 (br_f h4 ⟨rfl, R⟩)))))))))
  have h4 : v3 ≤ 3 := Decidable.not_not.mp h4
  obtain ⟨w, hw, rfl⟩ := nI_of2 (n := 32) (M := 32) (by decide) h1 (Int32.not_lt.mp h2)
  obtain ⟨z, hz, rfl⟩ := nI_of2 (n := 3) (M := 3) (by decide) h3 h4
  refine br_f h1 (br_f h2 (br_f h3 (br_t h4 ?_)))
  by_cases h5 : nI z ≤ 1
  · have h5' : z ≤ 1 := (nI_leI (b := 1) (by omega) (by decide)).mp h5
    refine br_t h5 ?_
    exact ia_x (k + 4) 1 x w z 1 x w z hX hY ⟨by omega, fun z => absurd z (by omega), fun _ => ⟨hx, hw, hz, fun z => absurd z (by omega)⟩, fun z => absurd z (by omega), fun z => absurd z (by omega), fun z => absurd z (by omega), fun z => absurd z (by omega)⟩ ⟨by omega, by omega, by omega, by omega⟩ ⟨rfl, fun z => absurd z (by omega), fun _ => ⟨rfl, rfl, rfl⟩⟩ (fun r t' K' A' B' C' h => ya_good hx (br_f (by decide) (br_f h1 (br_f h2 (br_f h3 (br_t h4 (br_t h5 (h _ (fun _ _ _ _ _ g => ⟨rfl, g⟩)))))))))
  by_cases h6 : nI w = 0
  · exact br_f h5 (br_t h6 (ya_good hx (br_f (by decide) (br_f h1 (br_f h2 (br_f h3 (br_t h4 (br_f h5 (br_t h6 ⟨rfl, R⟩)))))))))
  have e7 : nI w &&& 7 = nI (w % 8) := pk_andN (by omega) 3 (by decide)
  have e8 : nI w - nI w / 8 * 8 = nI (w % 8) := pk_rem (d := 8) (by omega) (by decide) (by decide)
  by_cases h7 : w % 8 = 0
  · have h7X : nI w &&& 7 = 0 := by rw [e7, h7]; rfl
    have h7Y : nI w - nI w / 8 * 8 = 0 := by rw [e8, h7]; rfl
    refine br_f h5 (br_f h6 (br_t h7X ?_))
    exact ia_x (k + 4) 1 x w z 1 x w z hX hY ⟨by omega, fun z => absurd z (by omega), fun _ => ⟨hx, hw, hz, fun _ => h7⟩, fun z => absurd z (by omega), fun z => absurd z (by omega), fun z => absurd z (by omega), fun z => absurd z (by omega)⟩ ⟨by omega, by omega, by omega, by omega⟩ ⟨rfl, fun z => absurd z (by omega), fun _ => ⟨rfl, rfl, rfl⟩⟩ (fun r t' K' A' B' C' h => ya_good hx (br_f (by decide) (br_f h1 (br_f h2 (br_f h3 (br_t h4 (br_f h5 (br_f h6 ⟨by decide, br_t h7Y (h _ (fun _ _ _ _ _ g => ⟨rfl, g⟩))⟩)))))))) 
  · have h7X : ¬ nI w &&& 7 = 0 := by rw [e7]; exact nI_ne0 (by omega) (by omega)
    have h7Y : ¬ nI w - nI w / 8 * 8 = 0 := by rw [e8]; exact nI_ne0 (by omega) (by omega)
    exact br_f h5 (br_f h6 (br_f h7X (ya_good hx (br_f (by decide) (br_f h1 (br_f h2 (br_f h3 (br_t h4 (br_f h5 (br_f h6 ⟨by decide, br_f h7Y ⟨rfl, R⟩⟩)))))))))) 
theorem i_vc_sized {k : Nat} {u : SX} {v : SY} (I : i_Rel k u v) (hk : k + 4 ≤ 2048) (v1 : Int32) (v2 : Int32) (v3 : Int32) : wpX_sized (fun r u' => wpY_sized (fun r' v' => r' = r ∧ i_Rel (k + 4) u' v') v v1 v2 v3) u v1 v2 v3 := by
  refine zz_el (P := fun u v => wpX_sized (fun r u' => wpY_sized (fun r' v' => r' = r ∧ i_Rel (k + 4) u' v') v v1 v2 v3) u v1 v2 v3) I ?_
  intro t c L n ft bu ps pa K A B C bg b sg par lev ch sb en pl YK Y1 Y2 Y3 sz va lf vs hX hY
  have R : i_Rel (k + 4) (nI t, nI c, nI L, bu, nI n, ps, nI ft, ar_g K, ar_g A, ar_g B, ar_g C, ar_g bg, ar_g b, ar_g sg, ar_g par, ar_g lev, ar_g ch, ar_g sb, ar_g en, ar_g pl, va, lf) (nI c, nI L, pa, ar_g YK, ar_g Y1, ar_g Y2, ar_g Y3, ar_g sz, ar_g b, vs) := zz_in hX hY
  unfold wpX_sized wpY_sized
  dsimp only
  rcases iv_var v1 with h0 | ⟨x, hx, rfl⟩
  · exact xa_bad h0 (br_f (by decide) (ya_bad h0 (br_t rfl ⟨rfl, R⟩)))
  refine xa_good hx (br_t rfl ?_)
  rcases iv_var v2 with h0 | ⟨y, hy, rfl⟩
  · exact xa_bad h0 (br_f (by decide) (ya_good hx (br_f (by decide) (ya_bad h0 (br_t rfl ⟨rfl, R⟩)))))
  refine xa_good hy (br_t rfl ?_)
  by_cases h1 : v3 < 1
  · exact br_t h1 (ya_good hx (br_f (by decide) (ya_good hy (br_f (by decide) (br_t h1 ⟨rfl, R⟩)))))
  by_cases h2 : v3 ≤ 8
  · obtain ⟨z, hz, rfl⟩ := nI_of2 (n := 8) (M := 8) (by decide) (iv_one h1) h2
    refine br_f h1 (br_t h2 ?_)
    exact ia_x (k + 4) 2 x y z 2 x y z hX hY ⟨by omega, fun z => absurd z (by omega), fun z => absurd z (by omega), fun _ => ⟨hx, hy, hz⟩, fun z => absurd z (by omega), fun z => absurd z (by omega), fun z => absurd z (by omega)⟩ ⟨by omega, by omega, by omega, by omega⟩ ⟨rfl, fun z => absurd z (by omega), fun _ => ⟨rfl, rfl, rfl⟩⟩ (fun r t' K' A' B' C' h => ya_good hx (br_f (by decide) (ya_good hy (br_f (by decide) (br_f h1 (br_t h2 (h _ (fun _ _ _ _ _ g => ⟨rfl, g⟩))))))))
  · exact br_f h1 (br_f h2 (ya_good hx (br_f (by decide) (ya_good hy (br_f (by decide) (br_f h1 (br_f h2 ⟨rfl, R⟩)))))))
theorem i_vc_skip {k : Nat} {u : SX} {v : SY} (I : i_Rel k u v) (hk : k + 4 ≤ 2048) (v1 : Int32) (v2 : Int32) : wpX_skip (fun r u' => wpY_skip (fun r' v' => r' = r ∧ i_Rel (k + 4) u' v') v v1 v2) u v1 v2 := by
  refine zz_el (P := fun u v => wpX_skip (fun r u' => wpY_skip (fun r' v' => r' = r ∧ i_Rel (k + 4) u' v') v v1 v2) u v1 v2) I ?_
  intro t c L n ft bu ps pa K A B C bg b sg par lev ch sb en pl YK Y1 Y2 Y3 sz va lf vs hX hY
  have R : i_Rel (k + 4) (nI t, nI c, nI L, bu, nI n, ps, nI ft, ar_g K, ar_g A, ar_g B, ar_g C, ar_g bg, ar_g b, ar_g sg, ar_g par, ar_g lev, ar_g ch, ar_g sb, ar_g en, ar_g pl, va, lf) (nI c, nI L, pa, ar_g YK, ar_g Y1, ar_g Y2, ar_g Y3, ar_g sz, ar_g b, vs) := zz_in hX hY
  unfold wpX_skip wpY_skip
  dsimp only
  rcases iv_var v1 with h0 | ⟨y, hy, rfl⟩
  · exact xa_bad h0 (br_f (by decide) (ya_bad h0 (br_t rfl ⟨rfl, R⟩)))
  refine xa_good hy (br_t rfl ?_)
  by_cases h1 : v2 < 1
  · exact br_t h1 (ya_good hy (br_f (by decide) (br_t h1 ⟨rfl, R⟩)))
  by_cases h2 : v2 ≤ 8
  · obtain ⟨z, hz, rfl⟩ := nI_of2 (n := 8) (M := 8) (by decide) (iv_one h1) h2
    refine br_f h1 (br_t h2 ?_)
    exact ia_x (k + 4) 3 0 y z 3 y z 0 hX hY ⟨by omega, fun z => absurd z (by omega), fun z => absurd z (by omega), fun z => absurd z (by omega), fun _ => ⟨hy, hz⟩, fun z => absurd z (by omega), fun z => absurd z (by omega)⟩ ⟨by omega, by omega, by omega, by omega⟩ ⟨rfl, fun _ => ⟨rfl, rfl⟩, fun z => absurd rfl z⟩ (fun r t' K' A' B' C' h => ya_good hy (br_f (by decide) (br_f h1 (br_t h2 (h _ (fun _ _ _ _ _ g => ⟨rfl, g⟩))))))
  · exact br_f h1 (br_f h2 (ya_good hy (br_f (by decide) (br_f h1 (br_f h2 ⟨rfl, R⟩)))))
theorem i_vc_same {k : Nat} {u : SX} {v : SY} (I : i_Rel k u v) (hk : k + 4 ≤ 2048) (v1 : Int32) (v2 : Int32) : wpX_same (fun r u' => wpY_same (fun r' v' => r' = r ∧ i_Rel (k + 4) u' v') v v1 v2) u v1 v2 := by
  refine zz_el (P := fun u v => wpX_same (fun r u' => wpY_same (fun r' v' => r' = r ∧ i_Rel (k + 4) u' v') v v1 v2) u v1 v2) I ?_
  intro t c L n ft bu ps pa K A B C bg b sg par lev ch sb en pl YK Y1 Y2 Y3 sz va lf vs hX hY
  have R : i_Rel (k + 4) (nI t, nI c, nI L, bu, nI n, ps, nI ft, ar_g K, ar_g A, ar_g B, ar_g C, ar_g bg, ar_g b, ar_g sg, ar_g par, ar_g lev, ar_g ch, ar_g sb, ar_g en, ar_g pl, va, lf) (nI c, nI L, pa, ar_g YK, ar_g Y1, ar_g Y2, ar_g Y3, ar_g sz, ar_g b, vs) := zz_in hX hY
  unfold wpX_same wpY_same
  dsimp only
  rcases iv_var v1 with h0 | ⟨x, hx, rfl⟩
  · exact xa_bad h0 (br_f (by decide) (ya_bad h0 (br_t rfl ⟨rfl, R⟩)))
  refine xa_good hx (br_t rfl ?_)
  rcases iv_var v2 with h0 | ⟨y, hy, rfl⟩
  · exact xa_bad h0 (br_f (by decide) (ya_good hx (br_f (by decide) (ya_bad h0 (br_t rfl ⟨rfl, R⟩)))))
  refine xa_good hy (br_t rfl ?_)
  exact ia_x (k + 4) 4 x y 0 4 x y 0 hX hY ⟨by omega, fun z => absurd z (by omega), fun z => absurd z (by omega), fun z => absurd z (by omega), fun z => absurd z (by omega), fun _ => ⟨hx, hy⟩, fun z => absurd z (by omega)⟩ ⟨by omega, by omega, by omega, by omega⟩ ⟨rfl, fun z => absurd z (by omega), fun _ => ⟨rfl, rfl, rfl⟩⟩ (fun r t' K' A' B' C' h => ya_good hx (br_f (by decide) (ya_good hy (br_f (by decide) (h _ (fun _ _ _ _ _ g => ⟨rfl, g⟩))))))
theorem i_vc_rest {k : Nat} {u : SX} {v : SY} (I : i_Rel k u v) (hk : k + 4 ≤ 2048) (v1 : Int32) : wpX_rest (fun r u' => wpY_rest (fun r' v' => r' = r ∧ i_Rel (k + 4) u' v') v v1) u v1 := by
  refine zz_el (P := fun u v => wpX_rest (fun r u' => wpY_rest (fun r' v' => r' = r ∧ i_Rel (k + 4) u' v') v v1) u v1) I ?_
  intro t c L n ft bu ps pa K A B C bg b sg par lev ch sb en pl YK Y1 Y2 Y3 sz va lf vs hX hY
  have R : i_Rel (k + 4) (nI t, nI c, nI L, bu, nI n, ps, nI ft, ar_g K, ar_g A, ar_g B, ar_g C, ar_g bg, ar_g b, ar_g sg, ar_g par, ar_g lev, ar_g ch, ar_g sb, ar_g en, ar_g pl, va, lf) (nI c, nI L, pa, ar_g YK, ar_g Y1, ar_g Y2, ar_g Y3, ar_g sz, ar_g b, vs) := zz_in hX hY
  unfold wpX_rest wpY_rest
  dsimp only
  rcases iv_var v1 with h0 | ⟨x, hx, rfl⟩
  · exact xa_bad h0 (br_f (by decide) (ya_bad h0 (br_t rfl ⟨rfl, R⟩)))
  refine xa_good hx (br_t rfl ?_)
  exact ia_x (k + 4) 5 x 0 0 5 x 0 0 hX hY ⟨by omega, fun z => absurd z (by omega), fun z => absurd z (by omega), fun z => absurd z (by omega), fun z => absurd z (by omega), fun z => absurd z (by omega), fun _ => hx⟩ ⟨by omega, by omega, by omega, by omega⟩ ⟨rfl, fun z => absurd z (by omega), fun _ => ⟨rfl, rfl, rfl⟩⟩ (fun r t' K' A' B' C' h => ya_good hx (br_f (by decide) (h _ (fun _ _ _ _ _ g => ⟨rfl, g⟩))))
end
section
theorem i_vc_segments {k : Nat} {u : SX} {v : SY} (I : i_Rel k u v) (hk : k + 4 ≤ 2048) : wpX_segments (fun r => wpY_segments (fun r' => r' = r ∧ i_Rel (k + 4) u v) v) u := by
  refine zz_el (P := fun u v => wpX_segments (fun r => wpY_segments (fun r' => r' = r ∧ i_Rel (k + 4) u v) v) u) I ?_
  intro t c L n ft bu ps pa K A B C bg b sg par lev ch sb en pl YK Y1 Y2 Y3 sz va lf vs hX hY
  have R : i_Rel (k + 4) (nI t, nI c, nI L, bu, nI n, ps, nI ft, ar_g K, ar_g A, ar_g B, ar_g C, ar_g bg, ar_g b, ar_g sg, ar_g par, ar_g lev, ar_g ch, ar_g sb, ar_g en, ar_g pl, va, lf) (nI c, nI L, pa, ar_g YK, ar_g Y1, ar_g Y2, ar_g Y3, ar_g sz, ar_g b, vs) := zz_in hX hY
  obtain ⟨⟨h1, h2, h3, h4, h5, h6, h7, h8, h9, h10⟩, hZ, hF⟩ := hX
  refine And.intro (pk_in c 7 (by omega)) ⟨?_, R⟩
  rw [ar_get (by omega), pk_sub h6]
  exact congrArg nI hY.2.1
theorem i_vc_scrap {k : Nat} {u : SX} {v : SY} (I : i_Rel k u v) (hk : k + 4 ≤ 2048) : wpX_scrap (fun u' => wpY_scrap (fun v' => i_Rel (k + 4) u' v') v) u := by
  refine zz_el (P := fun u v => wpX_scrap (fun u' => wpY_scrap (fun v' => i_Rel (k + 4) u' v') v) u) I ?_
  intro t c L n ft bu ps pa K A B C bg b sg par lev ch sb en pl YK Y1 Y2 Y3 sz va lf vs hX hY
  obtain ⟨⟨h1, h2, h3, h4, h5, h6, h7, h8, h9, h10⟩, hZ, hF⟩ := hX
  obtain ⟨z1, z2, z3, z4⟩ := hY
  refine And.intro (pk_in c 7 (by omega)) (nm_r (e' := nI (bg c)) (ar_get (by omega)) (nm_r (e' := ar_g (ar_u sz 6 0)) (ar_set0 sz 6 0) (zz_in ⟨⟨h1, by omega, h3, h4, h5, Nat.le_refl _, by omega, fun i hi => h8 i (by omega), h9, h10⟩, hZ, hF⟩ ⟨fun k hk => ?_, ?_, z3, fun i hi => absurd hi (by omega)⟩)))
  · rw [ar_un (by omega)]
    exact z1 k hk
  · rw [ar_us]
    omega
theorem i_vc_end {k : Nat} {u : SX} {v : SY} (I : i_Rel k u v) (hk : k + 4 ≤ 2048) : wpX_end (fun r u' => wpY_end (fun r' v' => r' = r ∧ i_Rel (k + 4) u' v') v) u := by
  refine zz_el (P := fun u v => wpX_end (fun r u' => wpY_end (fun r' v' => r' = r ∧ i_Rel (k + 4) u' v') v) u) I ?_
  intro t c L n ft bu ps pa K A B C bg b sg par lev ch sb en pl YK Y1 Y2 Y3 sz va lf vs hX hY
  have R : i_Rel (k + 4) (nI t, nI c, nI L, bu, nI n, ps, nI ft, ar_g K, ar_g A, ar_g B, ar_g C, ar_g bg, ar_g b, ar_g sg, ar_g par, ar_g lev, ar_g ch, ar_g sb, ar_g en, ar_g pl, va, lf) (nI c, nI L, pa, ar_g YK, ar_g Y1, ar_g Y2, ar_g Y3, ar_g sz, ar_g b, vs) := zz_in hX hY
  have hB := hX.1
  obtain ⟨h1, h2, h3, h4, h5, h6, h7, h8, h9, h10⟩ := hB
  have hz := hY.2.1
  refine pk_eq c 6 (fun e => ?_) (fun e => nm_r (e' := nI (c + 1)) (nI_1 c) ⟨pk_in (c + 1) 7 (by omega), nm_r (e' := ar_g (ar_u bg (c + 1) t)) (ar_set (by omega)) ?_⟩)
  · subst e
    exact br_t rfl ⟨rfl, R⟩
  · exact ve_end (by omega) (by omega) (fun YK' Y1' Y2' Y3' c1 c2 c3 c4 => ⟨rfl, ve_R (by omega) hX hY c1 c2 c3 c4⟩)
theorem i_vc_unend {k : Nat} {u : SX} {v : SY} (I : i_Rel k u v) (hk : k + 4 ≤ 2048) : wpX_unend (fun r u' => wpY_unend (fun r' v' => r' = r ∧ i_Rel (k + 4) u' v') v) u := by
  refine zz_el (P := fun u v => wpX_unend (fun r u' => wpY_unend (fun r' v' => r' = r ∧ i_Rel (k + 4) u' v') v) u) I ?_
  intro t c L n ft bu ps pa K A B C bg b sg par lev ch sb en pl YK Y1 Y2 Y3 sz va lf vs hX hY
  have R : i_Rel (k + 4) (nI t, nI c, nI L, bu, nI n, ps, nI ft, ar_g K, ar_g A, ar_g B, ar_g C, ar_g bg, ar_g b, ar_g sg, ar_g par, ar_g lev, ar_g ch, ar_g sb, ar_g en, ar_g pl, va, lf) (nI c, nI L, pa, ar_g YK, ar_g Y1, ar_g Y2, ar_g Y3, ar_g sz, ar_g b, vs) := zz_in hX hY
  have hc := hX.1.1
  by_cases e : c = 0
  · subst e
    exact br_t rfl (br_t rfl ⟨rfl, R⟩)
  · have ed : c = (c - 1) + 1 := by omega
    refine vu_unend ed hX.1 (fun K' A' B' C' c1 c2 c3 c4 => br_f (nI_ne0 (by omega) (by omega)) (nm_r (e' := nI (c - 1)) (pk_sub (b := 1) (by omega)) ⟨rfl, vu_R ed hX hY c1 c2 c3 c4⟩))
theorem i_vc_rules {k : Nat} {u : SX} {v : SY} (I : i_Rel k u v) (hk : k + 4 ≤ 2048) : wpX_rules (fun r => wpY_rules (fun r' => r' = r ∧ i_Rel (k + 4) u v) v) u := by
  refine zz_el (P := fun u v => wpX_rules (fun r => wpY_rules (fun r' => r' = r ∧ i_Rel (k + 4) u v) v) u) I ?_
  intro t c L n ft bu ps pa K A B C bg b sg par lev ch sb en pl YK Y1 Y2 Y3 sz va lf vs hX hY
  exact And.intro rfl (zz_in hX hY)
theorem i_vc_feed {k : Nat} {u : SX} {v : SY} (I : i_Rel k u v) (hk : k + 4 ≤ 2048) (v1 : Int32) : wpX_feed (fun r u' => wpY_feed (fun r' v' => r' = r ∧ i_Rel (k + 4) u' v') v v1) u v1 := by
  refine zz_el (P := fun u v => wpX_feed (fun r u' => wpY_feed (fun r' v' => r' = r ∧ i_Rel (k + 4) u' v') v v1) u v1) I ?_
  intro t c L n ft bu ps pa K A B C bg b sg par lev ch sb en pl YK Y1 Y2 Y3 sz va lf vs hX hY
  have R : i_Rel (k + 4) (nI t, nI c, nI L, bu, nI n, ps, nI ft, ar_g K, ar_g A, ar_g B, ar_g C, ar_g bg, ar_g b, ar_g sg, ar_g par, ar_g lev, ar_g ch, ar_g sb, ar_g en, ar_g pl, va, lf) (nI c, nI L, pa, ar_g YK, ar_g Y1, ar_g Y2, ar_g Y3, ar_g sz, ar_g b, vs) := zz_in hX hY
  obtain ⟨⟨g1, g2, g3, g4, g5, g6, g7, g8, g9, g10⟩, hZ, hF⟩ := hX
  by_cases h1 : v1 < 0
  · exact br_t h1 (br_t h1 ⟨rfl, R⟩)
  by_cases h2 : v1 ≤ 255
  · obtain ⟨x, hx, rfl⟩ := nI_of2 (n := 255) (M := 255) (by decide) h1 h2
    by_cases h3 : L = 8
    · subst h3
      exact br_f h1 (br_t h2 (br_t rfl (br_f h1 (br_t h2 (br_t rfl ⟨rfl, R⟩)))))
    · have n3 : ¬ nI L = 8 := fun z => h3 ((nI_eq (b := 8) (by omega) (by decide)).mp z)
      have iL : vp_in (nI L) 8 := pk_in L 8 (by omega)
      refine br_f h1 (br_t h2 (br_f n3 ⟨iL, nm_r (e' := ar_g (ar_u b L x)) (ar_set (by omega)) (nm_r (e' := nI (L + 1)) (nI_1 L) (br_f h1 (br_t h2 (br_f n3 ⟨iL, nm_r (e' := ar_g (ar_u b L x)) (ar_set (by omega)) (nm_r (e' := nI (L + 1)) (nI_1 L) ⟨rfl, ?_⟩)⟩))))⟩))
      refine zz_in ⟨⟨g1, g2, by omega, g4, g5, g6, g7, g8, fun i => ?_, g10⟩, hZ, fun _ z => absurd rfl z⟩ hY
      by_cases e : i = L
      · subst e
        rw [ar_us]
        omega
      · rw [ar_un e]
        exact g9 i
  · exact br_f h1 (br_f h2 (br_f h1 (br_f h2 ⟨rfl, R⟩)))
theorem i_vc_put {k : Nat} {u : SX} {v : SY} (I : i_Rel k u v) (hk : k + 4 ≤ 2048) (v1 : Int32) (v2 : Int32) : wpX_put (fun r u' => wpY_put (fun r' v' => r' = r ∧ i_Rel (k + 4) u' v') v v1 v2) u v1 v2 := by
  refine zz_el (P := fun u v => wpX_put (fun r u' => wpY_put (fun r' v' => r' = r ∧ i_Rel (k + 4) u' v') v v1 v2) u v1 v2) I ?_
  intro t c L n ft bu ps pa K A B C bg b sg par lev ch sb en pl YK Y1 Y2 Y3 sz va lf vs hX hY
  have R : i_Rel (k + 4) (nI t, nI c, nI L, bu, nI n, ps, nI ft, ar_g K, ar_g A, ar_g B, ar_g C, ar_g bg, ar_g b, ar_g sg, ar_g par, ar_g lev, ar_g ch, ar_g sb, ar_g en, ar_g pl, va, lf) (nI c, nI L, pa, ar_g YK, ar_g Y1, ar_g Y2, ar_g Y3, ar_g sz, ar_g b, vs) := zz_in hX hY
  obtain ⟨⟨g1, g2, g3, g4, g5, g6, g7, g8, g9, g10⟩, hZ, hF⟩ := hX
  by_cases h1 : v1 < 0
  · exact br_t h1 (br_t h1 ⟨rfl, R⟩)
  by_cases h2 : nI L ≤ v1
  · exact br_f h1 (br_t h2 (br_f h1 (br_t h2 ⟨rfl, R⟩)))
  by_cases h3 : v2 < 0
  · exact br_f h1 (br_f h2 (br_t h3 (br_f h1 (br_f h2 (br_t h3 ⟨rfl, R⟩)))))
  by_cases h4 : v2 ≤ 255
  · obtain ⟨x, hx, rfl⟩ := nI_of2 (n := 255) (M := 255) (by decide) h3 h4
    obtain ⟨i, hi, rfl⟩ := nI_of h1
    have h2' : i < L := by
      have := h2
      rw [nI_leI (by omega) hi] at this
      omega
    have iL : vp_in (nI i) 8 := pk_in i 8 (by omega)
    refine br_f h1 (br_f h2 (br_f h3 (br_t h4 ⟨iL, nm_r (e' := nI (b i)) (ar_get (by omega)) ⟨iL, nm_r (e' := ar_g (ar_u b i x)) (ar_set (by omega)) (br_f h1 (br_f h2 (br_f h3 (br_t h4 ⟨iL, nm_r (e' := nI (b i)) (ar_get (by omega)) ⟨iL, nm_r (e' := ar_g (ar_u b i x)) (ar_set (by omega)) ⟨rfl, ?_⟩⟩⟩))))⟩⟩)))
    refine zz_in ⟨⟨g1, g2, g3, g4, g5, g6, g7, g8, fun j => ?_, g10⟩, hZ, fun _ z => absurd rfl z⟩ hY
    by_cases e : j = i
    · subst e
      rw [ar_us]
      omega
    · rw [ar_un e]
      exact g9 j
  · exact br_f h1 (br_f h2 (br_f h3 (br_f h4 (br_f h1 (br_f h2 (br_f h3 (br_f h4 ⟨rfl, R⟩)))))))
theorem i_vc_empty {k : Nat} {u : SX} {v : SY} (I : i_Rel k u v) (hk : k + 4 ≤ 2048) : wpX_empty (fun u' => wpY_empty (fun v' => i_Rel (k + 4) u' v') v) u := by
  refine zz_el (P := fun u v => wpX_empty (fun u' => wpY_empty (fun v' => i_Rel (k + 4) u' v') v) u) I ?_
  intro t c L n ft bu ps pa K A B C bg b sg par lev ch sb en pl YK Y1 Y2 Y3 sz va lf vs hX hY
  obtain ⟨⟨g1, g2, g3, g4, g5, g6, g7, g8, g9, g10⟩, hZ, hF⟩ := hX
  have R : i_Rel (k + 4) (nI t, nI c, nI 0, bu, nI n, 0, nI ft, ar_g K, ar_g A, ar_g B, ar_g C, ar_g bg, ar_g b, ar_g sg, ar_g par, ar_g lev, ar_g ch, ar_g sb, ar_g en, ar_g pl, va, lf) (nI c, nI 0, pa, ar_g YK, ar_g Y1, ar_g Y2, ar_g Y3, ar_g sz, ar_g b, vs) := zz_in ⟨⟨g1, g2, by omega, g4, g5, g6, g7, g8, g9, g10⟩, hZ, fun _ z => absurd rfl z⟩ hY
  exact R
theorem i_vc_matchFrom {k : Nat} {u : SX} {v : SY} (I : i_Rel k u v) (hk : k + 4 ≤ 2048) (v1 : Int32) : wpX_matchFrom (fun r u' => wpY_matchFrom (fun r' v' => r' = r ∧ i_Rel (k + 4) u' v') v v1) u v1 := by
  refine zz_el (P := fun u v => wpX_matchFrom (fun r u' => wpY_matchFrom (fun r' v' => r' = r ∧ i_Rel (k + 4) u' v') v v1) u v1) I ?_
  intro t c L n ft bu ps pa K A B C bg b sg par lev ch sb en pl YK Y1 Y2 Y3 sz va lf vs hX hY
  have R : i_Rel (k + 4) (nI t, nI c, nI L, bu, nI n, ps, nI ft, ar_g K, ar_g A, ar_g B, ar_g C, ar_g bg, ar_g b, ar_g sg, ar_g par, ar_g lev, ar_g ch, ar_g sb, ar_g en, ar_g pl, va, lf) (nI c, nI L, pa, ar_g YK, ar_g Y1, ar_g Y2, ar_g Y3, ar_g sz, ar_g b, vs) := zz_in hX hY
  by_cases h : v1 < 0
  · have h' : ¬ 0 ≤ v1 := Int32.not_le.mpr h
    exact br_f h' (br_f h' ⟨rfl, R⟩)
  · obtain ⟨j, hj, rfl⟩ := nI_of h
    exact xq_mf hj hX (fun r n ft bu ps sg par lev ch sb en pl va lf hX' hr => yq_mf hj hX.1 hY (fun r' pa vs hr' => ⟨mf_u hr hr', zz_in hX' hY⟩))
theorem i_vc_match {k : Nat} {u : SX} {v : SY} (I : i_Rel k u v) (hk : k + 4 ≤ 2048) : wpX_match (fun r u' => wpY_match (fun r' v' => r' = r ∧ i_Rel (k + 4) u' v') v) u := by
  refine zz_el (P := fun u v => wpX_match (fun r u' => wpY_match (fun r' v' => r' = r ∧ i_Rel (k + 4) u' v') v) u) I ?_
  intro t c L n ft bu ps pa K A B C bg b sg par lev ch sb en pl YK Y1 Y2 Y3 sz va lf vs hX hY
  exact xq_match hX (fun r n ft bu ps sg par lev ch sb en pl va lf hX' hr => yq_match hX.1 hY (fun r' pa vs hr' => ⟨mf_u hr hr', zz_in hX' hY⟩))
theorem i_vc_boundBy {k : Nat} {u : SX} {v : SY} (I : i_Rel k u v) (hk : k + 4 ≤ 2048) (v1 : Int32) (v2 : Int32) : wpX_boundBy (fun r u' => wpY_boundBy (fun r' v' => r' = r ∧ i_Rel (k + 4) u' v') v v1 v2) u v1 v2 := by
  refine zz_el (P := fun u v => wpX_boundBy (fun r u' => wpY_boundBy (fun r' v' => r' = r ∧ i_Rel (k + 4) u' v') v v1 v2) u v1 v2) I ?_
  intro t c L n ft bu ps pa K A B C bg b sg par lev ch sb en pl YK Y1 Y2 Y3 sz va lf vs hX hY
  exact xq_bb v1 v2 hX (fun r n ft bu ps sg par lev ch sb en pl va lf hX' hr => yq_bb v1 v2 hX.1 hY (fun r' pa vs hr' => ⟨bq_u hX.1.1 hr hr', zz_in hX' hY⟩))
theorem i_vc_bound {k : Nat} {u : SX} {v : SY} (I : i_Rel k u v) (hk : k + 4 ≤ 2048) (v1 : Int32) : wpX_bound (fun r u' => wpY_bound (fun r' v' => r' = r ∧ i_Rel (k + 4) u' v') v v1) u v1 := by
  refine zz_el (P := fun u v => wpX_bound (fun r u' => wpY_bound (fun r' v' => r' = r ∧ i_Rel (k + 4) u' v') v v1) u v1) I ?_
  intro t c L n ft bu ps pa K A B C bg b sg par lev ch sb en pl YK Y1 Y2 Y3 sz va lf vs hX hY
  unfold wpX_bound wpY_bound
  dsimp only
  refine xq_match hX (fun r n ft bu ps sg par lev ch sb en pl va lf hX1 hr => ?_)
  refine xq_bb r v1 hX1 (fun r1 n ft bu ps sg par lev ch sb en pl va lf hX2 hr1 => ?_)
  refine yq_match hX.1 hY (fun r' pa vs hr' => ?_)
  have e := mf_u hr hr'
  subst e
  exact yq_bb r' v1 hX.1 hY (fun r2 pa vs hr2 => ⟨bq_u hX.1.1 hr1 hr2, zz_in hX2 hY⟩)
theorem i_vc_fitting {k : Nat} {u : SX} {v : SY} (I : i_Rel k u v) (hk : k + 4 ≤ 2048) : wpX_fitting (fun r u' => wpY_fitting (fun r' v' => r' = r ∧ i_Rel (k + 4) u' v') v) u := by
  refine zz_el (P := fun u v => wpX_fitting (fun r u' => wpY_fitting (fun r' v' => r' = r ∧ i_Rel (k + 4) u' v') v) u) I ?_
  intro t c L n ft bu ps pa K A B C bg b sg par lev ch sb en pl YK Y1 Y2 Y3 sz va lf vs hX hY
  unfold wpX_fitting
  dsimp only
  exact xq_walk hX (fun n ft bu ps sg par lev ch sb en pl va lf hX' hF' => yq_fit hX.1 hY hF' (fun pa vs => ⟨rfl, zz_in hX' hY⟩))
end
