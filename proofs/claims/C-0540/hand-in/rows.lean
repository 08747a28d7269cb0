section
theorem pk_us {f : Nat → Int32} {k : Nat} {x : Int32} : upd f k x k = x := if_pos rfl
theorem pk_un {f : Nat → Int32} {k j : Nat} {x : Int32} (h : j ≠ k) : upd f k x j = f j := if_neg h
theorem pk_uLs {f : Nat → Int64} {k : Nat} {x : Int64} : vp_updL f k x k = x := if_pos rfl
theorem pk_uLn {f : Nat → Int64} {k j : Nat} {x : Int64} (h : j ≠ k) : vp_updL f k x j = f j := if_neg h
theorem pk_sub {a b : Nat} (h : b ≤ a) : nI a - nI b = nI (a - b) := by
  obtain ⟨c, rfl⟩ : ∃ c, a = c + b := ⟨a - b, by omega⟩
  rw [← nI_add, Int32.add_sub_cancel, Nat.add_sub_cancel]
theorem pk_m1 (n : Nat) : nI (n + 1) + (-1) = nI n := by
  rw [← nI_1, Int32.add_assoc, show (1 : Int32) + (-1) = 0 from rfl, Int32.add_zero]
theorem pk_mul (a b : Nat) : nI a * nI b = nI (a * b) := (Int32.ofNat_mul a b).symm
theorem pk_div {a d : Nat} (ha : a < 2 ^ 31) (h0 : 0 < d) (hd : d < 2 ^ 31) : nI a / nI d = nI (a / d) := by
  apply Int32.toInt_inj.mp
  rw [lg_idiv_nonneg (by rw [nI_toInt ha]; omega) (by rw [nI_toInt hd]; omega), nI_toInt ha, nI_toInt hd, nI_toInt (Nat.lt_of_le_of_lt (Nat.div_le_self a d) ha)]
  first | rfl | exact (Int.natCast_ediv _ _).symm
theorem pk_rem {a d : Nat} (ha : a < 2 ^ 31) (h0 : 0 < d) (hd : d < 2 ^ 31) : nI a - nI a / nI d * nI d = nI (a % d) := by
  rw [pk_div ha h0 hd, pk_mul, pk_sub (Nat.div_mul_le_self a d)]
  exact congrArg nI (by have := Nat.div_add_mod' a d; omega)
theorem pk_sub_toInt {a b : Nat} (ha : a < 2 ^ 30) (hb : b < 2 ^ 30) : (nI a - nI b).toInt = (a : Int) - b := by
  rw [Int32.toInt_sub, nI_toInt (by omega), nI_toInt (by omega)]
  exact Int.bmod_eq_of_le (by omega) (by omega)
theorem pk_sneg {a b : Nat} (hb : b < 2 ^ 30) (h : a < b) : nI a - nI b < 0 := by
  rw [Int32.lt_iff_toInt_lt, pk_sub_toInt (by omega) hb, show (0 : Int32).toInt = 0 from by decide]
  omega
theorem pk_ix (x : Int32) {n : Nat} (hn : n < 2 ^ 31) : x < 0 ∨ nI n ≤ x ∨ ∃ j : Nat, j < n ∧ x = nI j := by
  by_cases h : x < 0
  · exact Or.inl h
  · obtain ⟨j, hj, rfl⟩ := nI_of h
    by_cases h2 : j < n
    · exact Or.inr (Or.inr ⟨j, h2, rfl⟩)
    · exact Or.inr (Or.inl (nI_le (by omega) hj))
theorem pk_le {x y : Int32} {A B : Prop} (a b : Nat) (f : a ≤ b → A) (g : b < a → B) (hx : x = nI a := by rfl) (hy : y = nI b := by rfl) (ha : a < 2 ^ 31 := by omega) (hb : b < 2 ^ 31 := by omega) : (x ≤ y → A) ∧ (¬ x ≤ y → B) := by
  subst hx hy
  rw [nI_leI ha hb]
  exact ⟨f, fun z => g (by omega)⟩
theorem pk_lt {x y : Int32} {A B : Prop} (a b : Nat) (f : a < b → A) (g : b ≤ a → B) (hx : x = nI a := by rfl) (hy : y = nI b := by rfl) (ha : a < 2 ^ 31 := by omega) (hb : b < 2 ^ 31 := by omega) : (x < y → A) ∧ (¬ x < y → B) := by
  subst hx hy
  rw [nI_ltI ha hb]
  exact ⟨f, fun z => g (by omega)⟩
theorem pk_eq {x y : Int32} {A B : Prop} (a b : Nat) (f : a = b → A) (g : a ≠ b → B) (hx : x = nI a := by rfl) (hy : y = nI b := by rfl) (ha : a < 2 ^ 31 := by omega) (hb : b < 2 ^ 31 := by omega) : (x = y → A) ∧ (¬ x = y → B) := by
  subst hx hy
  rw [nI_eq ha hb]
  exact ⟨f, g⟩
theorem pk_in {x : Int32} (n N : Nat) (h : n < N) (hx : x = nI n := by rfl) (hN : N < 2 ^ 31 := by omega) : vp_in x N := by
  subst hx
  exact vp_in_nI h hN
theorem pk_cl {x : Int32} (n : Nat) (hx : x = nI n := by rfl) (h : n < 2 ^ 31 := by omega) : x.toNatClampNeg = n := by
  subst hx
  exact nI_clamp h
theorem pk_tn {n : Nat} (h : n < 2 ^ 32) : (nI n).toBitVec.toNat = n := Nat.mod_eq_of_lt h
theorem pk_and (x : Int32) {m : Int32} (k : Nat) (hm : m.toBitVec.toNat = 2 ^ k - 1) : x &&& m = nI (x.toBitVec.toNat % 2 ^ k) := by
  apply Int32.toBitVec_inj.mp
  apply BitVec.eq_of_toNat_eq
  rw [Int32.toBitVec_and, BitVec.toNat_and, hm, Nat.and_two_pow_sub_one_eq_mod]
  show _ = (BitVec.ofNat 32 _).toNat
  rw [BitVec.toNat_ofNat]
  exact (Nat.mod_eq_of_lt (Nat.lt_of_le_of_lt (Nat.mod_le _ _) x.toBitVec.isLt)).symm
theorem pk_andN {n : Nat} (h : n < 2 ^ 32) {m : Int32} (k : Nat) (hm : m.toBitVec.toNat = 2 ^ k - 1) : nI n &&& m = nI (n % 2 ^ k) := by
  rw [pk_and _ k hm, pk_tn h]
theorem pk_andE (x : Int32) {m : Int32} (k : Nat) (hm : m.toBitVec.toNat = 2 ^ k - 1) : ∃ j : Nat, j < 2 ^ k ∧ x &&& m = nI j := ⟨_, Nat.mod_lt _ (Nat.two_pow_pos k), pk_and x k hm⟩
theorem pk_andIn (x : Int32) {m : Int32} (k : Nat) (hm : m.toBitVec.toNat = 2 ^ k - 1) (hk : k ≤ 30) : vp_in (x &&& m) (2 ^ k) := by
  obtain ⟨j, hj, e⟩ := pk_andE x k hm
  rw [e]
  exact vp_in_nI hj (Nat.lt_of_le_of_lt (Nat.pow_le_pow_right (by decide) hk) (by decide))
theorem pk_shl (a s : Int32) (k : Nat) (hs : (s.toBitVec.smod 32).toNat = k) : (a <<< s).toBitVec.toNat = a.toBitVec.toNat * 2 ^ k % 2 ^ 32 := by
  show (a.toBitVec <<< (s.toBitVec.smod 32).toNat).toNat = _
  rw [hs, BitVec.toNat_shiftLeft, Nat.shiftLeft_eq]
theorem pk_shlN {n : Nat} (s : Int32) (k : Nat) (hs : (s.toBitVec.smod 32).toNat = k) (h : n * 2 ^ k < 2 ^ 32) : nI n <<< s = nI (n * 2 ^ k) := by
  apply Int32.toBitVec_inj.mp
  apply BitVec.eq_of_toNat_eq
  have hn : n < 2 ^ 32 := Nat.lt_of_le_of_lt (Nat.le_mul_of_pos_right n (Nat.two_pow_pos k)) h
  rw [pk_shl _ _ k hs, pk_tn hn, pk_tn h, Nat.mod_eq_of_lt h]
theorem pk_shr (a s : Int32) (k : Nat) (hs : (s.toBitVec.smod 32).toNat = k) : (a >>> s).toInt = a.toInt >>> k := by
  show (a.toBitVec.sshiftRight (s.toBitVec.smod 32).toNat).toInt = _
  rw [hs, BitVec.toInt_sshiftRight]
  rfl
theorem pk_shrN {n : Nat} (h : n < 2 ^ 31) (s : Int32) (k : Nat) (hs : (s.toBitVec.smod 32).toNat = k) : nI n >>> s = nI (n / 2 ^ k) := by
  apply Int32.toInt_inj.mp
  have h2 : n / 2 ^ k ≤ n := Nat.div_le_self _ _
  rw [pk_shr _ _ k hs, nI_toInt h, nI_toInt (by omega), Int.shiftRight_eq_div_pow]
  rfl
theorem pk_ushr (x s : Int32) (k : Nat) (hs : ((s.toUInt32 &&& Int32.toUInt32 31).toBitVec % 32).toNat = k) : (x.toUInt32 >>> (s.toUInt32 &&& Int32.toUInt32 31)).toInt32.toBitVec.toNat = x.toBitVec.toNat / 2 ^ k := by
  have e : (x.toUInt32 >>> (s.toUInt32 &&& Int32.toUInt32 31)).toInt32.toBitVec = x.toBitVec >>> k := by
    rw [← hs]
    exact UInt32.toBitVec_shiftRight _ _
  rw [e, BitVec.toNat_ushiftRight, Nat.shiftRight_eq_div_pow]
theorem pk_ushrN {n : Nat} (hn : n < 2 ^ 32) (s : Int32) (k : Nat) (hs : ((s.toUInt32 &&& Int32.toUInt32 31).toBitVec % 32).toNat = k) : ((nI n).toUInt32 >>> (s.toUInt32 &&& Int32.toUInt32 31)).toInt32 = nI (n / 2 ^ k) := by
  apply Int32.toBitVec_inj.mp
  apply BitVec.eq_of_toNat_eq
  rw [pk_ushr _ s k hs, pk_tn hn, pk_tn (Nat.lt_of_le_of_lt (Nat.div_le_self _ _) hn)]
theorem pk_nb (z : Int32) : narrow .byte (.int z.toInt8.toInt32) = .int z.toInt8.toInt32 := congrArg Value.int (by simp)
theorem pk_ns (z : Int32) : narrow .short (.int z.toInt16.toInt32) = .int z.toInt16.toInt32 := congrArg Value.int (by simp)
theorem pk_fb (r : Int32) : fits .byte (.int r.toInt8.toInt32) = true := by
  have ⟨a, b⟩ := lg_i2b_range r
  have h1 : (-128 : Int32).toInt = -128 := by decide
  have h2 : (127 : Int32).toInt = 127 := by decide
  simp only [fits, Bool.and_eq_true, decide_eq_true_eq, Int32.le_iff_toInt_le, h1, h2]
  omega
theorem pk_fs (r : Int32) : fits .short (.int r.toInt16.toInt32) = true := by
  have ⟨a, b⟩ := lg_i2s_range r
  have h1 : (-32768 : Int32).toInt = -32768 := by decide
  have h2 : (32767 : Int32).toInt = 32767 := by decide
  simp only [fits, Bool.and_eq_true, decide_eq_true_eq, Int32.le_iff_toInt_le, h1, h2]
  omega
theorem pk_charN {q : Nat} (hq : q < 65536) : narrow .char (.int (nI q)) = .int (nI q) ∧ fits .char (.int (nI q)) = true := by
  constructor
  · have e : (nI q).toUInt32.toUInt16.toUInt32.toInt32 = nI q := by
      apply Int32.toBitVec_inj.mp
      apply BitVec.eq_of_toNat_eq
      show (nI q).toUInt32.toUInt16.toUInt32.toNat = q % 2 ^ 32
      rw [UInt16.toNat_toUInt32, UInt32.toNat_toUInt16, show (nI q).toUInt32.toNat = q % 2 ^ 32 from rfl]
      omega
    exact congrArg Value.int e
  · have a : (0 : Int32) ≤ nI q := nI_pos' (by omega)
    have b : nI q ≤ 65535 := nI_le (b := 65535) (by omega) (by decide)
    show (decide ((0 : Int32) ≤ nI q) && decide (nI q ≤ 65535)) = true
    rw [decide_eq_true a, decide_eq_true b]
    rfl
theorem pk_char (x : Int32) : (x.toUInt32 % 65536).toInt32 = nI (x.toBitVec.toNat % 65536) := by
  apply Int32.toBitVec_inj.mp
  apply BitVec.eq_of_toNat_eq
  rw [pk_tn (by omega)]
  show (x.toUInt32 % 65536).toNat = _
  rw [UInt32.toNat_mod]
  rfl
theorem pk_nc (x : Int32) : narrow .char (.int (x.toUInt32 % 65536).toInt32) = .int (x.toUInt32 % 65536).toInt32 := by
  rw [pk_char]
  exact (pk_charN (Nat.mod_lt _ (by decide))).1
theorem pk_fc (x : Int32) : fits .char (.int (x.toUInt32 % 65536).toInt32) = true := by
  rw [pk_char]
  exact (pk_charN (Nat.mod_lt _ (by decide))).2
theorem pk_vb (z : Int32) : vp_nar .byte z.toInt8.toInt32 = z.toInt8.toInt32 := by rw [vp_nar_byte]; simp
theorem pk_vs (z : Int32) : vp_nar .short z.toInt16.toInt32 = z.toInt16.toInt32 := by rw [vp_nar_short]; simp
theorem pk_vc (z : Int32) : vp_nar .char (z.toUInt32 % 65536).toInt32 = (z.toUInt32 % 65536).toInt32 := Value.int.inj (pk_nc z)
theorem pk_lT {n : Nat} (h : n < 2 ^ 63) : (lN n).toInt = (n : Int) := lg_ofNat_toInt h
theorem pk_lLT {a b : Nat} (ha : a < 2 ^ 63) (hb : b < 2 ^ 63) : lN a < lN b ↔ a < b := by
  rw [Int64.lt_iff_toInt_lt, pk_lT ha, pk_lT hb]; omega
theorem pk_lLE {a b : Nat} (ha : a < 2 ^ 63) (hb : b < 2 ^ 63) : lN a ≤ lN b ↔ a ≤ b := by
  rw [Int64.le_iff_toInt_le, pk_lT ha, pk_lT hb]; omega
theorem pk_lEQ {a b : Nat} (ha : a < 2 ^ 63) (hb : b < 2 ^ 63) : lN a = lN b ↔ a = b := by
  rw [← Int64.toInt_inj, pk_lT ha, pk_lT hb]; omega
theorem pk_lOf {x : Int64} (h : ¬ x < 0) : ∃ k : Nat, k < 2 ^ 63 ∧ x = lN k := by
  rw [Int64.lt_iff_toInt_lt] at h
  have h0 : (0 : Int64).toInt = 0 := by decide
  have hx := Int64.toInt_lt x
  refine ⟨x.toInt.toNat, by omega, Int64.toInt_inj.mp ?_⟩
  rw [pk_lT (by omega)]
  omega
theorem pk_lDiv {a b : Nat} (ha : a < 2 ^ 63) (h0 : 0 < b) (hb : b < 2 ^ 63) : lN a / lN b = lN (a / b) := by
  apply Int64.toInt_inj.mp
  rw [lg_ldiv_nonneg (by rw [pk_lT ha]; omega) (by rw [pk_lT hb]; omega), pk_lT ha, pk_lT hb, pk_lT (Nat.lt_of_le_of_lt (Nat.div_le_self a b) ha)]
  rfl
theorem pk_lRem {a b : Nat} (ha : a < 2 ^ 63) (h0 : 0 < b) (hb : b < 2 ^ 63) : lN a - lN a / lN b * lN b = lN (a % b) := by
  rw [pk_lDiv ha h0 hb, lN_mul, lN_sub (Nat.div_mul_le_self a b)]
  exact congrArg lN (by have := Nat.div_add_mod' a b; omega)
theorem pk_loop {σ : Type} (W : Nat → Nat → σ → Prop) (I : Nat → σ → Prop) (e i0 : Nat) (s : σ) (hi : i0 ≤ e) (h0 : I i0 s) (hx : ∀ n s, I e s → W (n + 1) e s)
    (hs : ∀ n i s, i < e → I i s → (∀ s', I (i + 1) s' → W n (i + 1) s') → W (n + 1) i s) : ∃ n, W n i0 s :=
  ⟨e + 1, loop_i W I e hx hs (e + 1) i0 s hi (by omega) h0⟩
theorem pk_loopD {σ : Type} (W : Nat → Nat → σ → Prop) (I : Nat → σ → Prop) (hx : ∀ n s, I 0 s → W (n + 1) 0 s)
    (hs : ∀ n i s, I (i + 1) s → (∀ s', I i s' → W n i s') → W (n + 1) (i + 1) s) : ∀ (e : Nat) (s : σ), I e s → W (e + 1) e s := by
  intro e
  induction e with
  | zero => exact fun s h => hx 0 s h
  | succ e ih => exact fun s h => hs (e + 1) e s h (fun s' h' => ih s' h')
theorem pk_least (P : Nat → Prop) (h : ∃ k, P k) : ∃ k, P k ∧ ∀ j, j < k → ¬ P j := by
  obtain ⟨k, hk⟩ := h
  induction k using Nat.strongRecOn with
  | ind k ih =>
    by_cases e : ∃ j, j < k ∧ P j
    · obtain ⟨j, hj, pj⟩ := e
      exact ih j hj pj
    · exact ⟨k, hk, fun j hj pj => e ⟨j, hj, pj⟩⟩
theorem wb_tb (n : Nat) : (lN n).toBitVec = BitVec.ofNat 64 n := rfl
theorem wb_inj {a b : Int64} (h : a.toBitVec = b.toBitVec) : a = b := Int64.toBitVec_inj.mp h
theorem wb_tn {n : Nat} (h : n < 2 ^ 64) : (lN n).toBitVec.toNat = n := by rw [wb_tb, BitVec.toNat_ofNat, Nat.mod_eq_of_lt h]
theorem wb_of (x : Int64) : ∃ n, n < 2 ^ 64 ∧ x = lN n := ⟨x.toBitVec.toNat, x.toBitVec.isLt, wb_inj (by rw [wb_tb]; simp)⟩
theorem wb_of32 (x : Int32) : ∃ n, n < 2 ^ 32 ∧ x = nI n := ⟨x.toBitVec.toNat, x.toBitVec.isLt, Int32.toBitVec_inj.mp (by show _ = BitVec.ofNat 32 _; simp)⟩
theorem wb_c : ∀ k, k < 64 → ((nI k).toInt64 &&& 63) = lN k := by decide +kernel
theorem wb_cu : ∀ k, k < 64 → ((nI k).toInt64.toUInt64 &&& Int64.toUInt64 63) = UInt64.ofNat k := by decide +kernel
theorem wb_sm : ∀ k, k < 64 → (BitVec.ofNat 64 k).smod 64 = BitVec.ofNat 64 k := by decide +kernel
theorem wb_pw {a b : Nat} (h : a ≤ b) : 2 ^ b = 2 ^ a * 2 ^ (b - a) := by rw [← Nat.pow_add]; congr 1; omega
theorem wb_lt2 {a b : Nat} (h : a < b) : 2 ^ a < 2 ^ b := Nat.pow_lt_pow_right (by decide) h
theorem wb_mod (n : Nat) : lN n = lN (n % 2 ^ 64) := wb_inj (by rw [wb_tb, wb_tb]; apply BitVec.eq_of_toNat_eq; rw [BitVec.toNat_ofNat, BitVec.toNat_ofNat, Nat.mod_mod])
theorem wb_shr {n k : Nat} (hn : n < 2 ^ 64) (hk : k < 64) : ((lN n).toUInt64 >>> ((nI k).toInt64.toUInt64 &&& Int64.toUInt64 63)).toInt64 = lN (n / 2 ^ k) := by
  rw [wb_cu k hk]
  apply wb_inj
  apply BitVec.eq_of_toNat_eq
  show ((lN n).toUInt64 >>> UInt64.ofNat k).toNat = (BitVec.ofNat 64 _).toNat
  have h1 : (UInt64.ofNat k).toNat = k := by
    show (BitVec.ofNat 64 k).toNat = k
    rw [BitVec.toNat_ofNat, Nat.mod_eq_of_lt (by omega)]
  have h2 : (lN n).toUInt64.toNat = n := wb_tn hn
  rw [UInt64.toNat_shiftRight, h1, h2, Nat.mod_eq_of_lt hk, Nat.shiftRight_eq_div_pow, BitVec.toNat_ofNat, Nat.mod_eq_of_lt (Nat.lt_of_le_of_lt (Nat.div_le_self _ _) hn)]
theorem wb_shl (n : Nat) {k : Nat} (hk : k < 64) : lN n <<< ((nI k).toInt64 &&& 63) = lN (n * 2 ^ k) := by
  rw [wb_c k hk]
  apply wb_inj
  rw [Int64.toBitVec_shiftLeft, wb_tb, wb_tb, wb_tb, wb_sm k hk]
  apply BitVec.eq_of_toNat_eq
  rw [BitVec.shiftLeft_eq', BitVec.toNat_shiftLeft, BitVec.toNat_ofNat, BitVec.toNat_ofNat, BitVec.toNat_ofNat, Nat.mod_eq_of_lt (show k < 2 ^ 64 by omega), Nat.shiftLeft_eq, Nat.mul_mod, Nat.mod_mod, ← Nat.mul_mod]
theorem wb_and {a b : Nat} (ha : a < 2 ^ 64) (hb : b < 2 ^ 64) : lN a &&& lN b = lN (a &&& b) := by
  apply wb_inj
  rw [Int64.toBitVec_and, wb_tb, wb_tb, wb_tb]
  apply BitVec.eq_of_toNat_eq
  rw [BitVec.toNat_and, BitVec.toNat_ofNat, BitVec.toNat_ofNat, BitVec.toNat_ofNat, Nat.mod_eq_of_lt ha, Nat.mod_eq_of_lt hb, Nat.mod_eq_of_lt (Nat.and_lt_two_pow _ hb)]
theorem wb_or {a b : Nat} (ha : a < 2 ^ 64) (hb : b < 2 ^ 64) : lN a ||| lN b = lN (a ||| b) := by
  apply wb_inj
  rw [Int64.toBitVec_or, wb_tb, wb_tb, wb_tb]
  apply BitVec.eq_of_toNat_eq
  rw [BitVec.toNat_or, BitVec.toNat_ofNat, BitVec.toNat_ofNat, BitVec.toNat_ofNat, Nat.mod_eq_of_lt ha, Nat.mod_eq_of_lt hb, Nat.mod_eq_of_lt (Nat.or_lt_two_pow ha hb)]
theorem wb_mask {n k : Nat} (hn : n < 2 ^ 64) (hk : k < 64) : lN n &&& lN (2 ^ k - 1) = lN (n % 2 ^ k) := by
  rw [wb_and hn (by have := wb_lt2 hk; omega), Nat.and_two_pow_sub_one_eq_mod]
theorem wb_a1 {n : Nat} (hn : n < 2 ^ 64) : lN n &&& 1 = lN (n % 2) := wb_mask (k := 1) hn (by decide)
theorem wb_bit {n k : Nat} (hn : n < 2 ^ 64) (hk : k < 64) : ((lN n).toUInt64 >>> ((nI k).toInt64.toUInt64 &&& Int64.toUInt64 63)).toInt64 &&& 1 = lN (n / 2 ^ k % 2) := by
  rw [wb_shr hn hk, wb_a1 (Nat.lt_of_le_of_lt (Nat.div_le_self _ _) hn)]
end
section
/-! own rows: sums or greatest ones, over lists -/
def ch_op : Bool → Nat → Nat → Nat
  | false, a, b => a + b
  | true, a, b => max a b
theorem ch_op_c (g : Bool) (a b : Nat) : ch_op g a b = ch_op g b a := by
  cases g
  · exact Nat.add_comm a b
  · exact Nat.max_comm a b
theorem ch_op_a (g : Bool) (a b c : Nat) : ch_op g (ch_op g a b) c = ch_op g a (ch_op g b c) := by
  cases g
  · exact Nat.add_assoc a b c
  · exact Nat.max_assoc a b c
theorem ch_op_0 (g : Bool) (a : Nat) : ch_op g a 0 = a := by
  cases g
  · exact Nat.add_zero a
  · exact Nat.max_zero a
theorem ch_0_op (g : Bool) (a : Nat) : ch_op g 0 a = a := by rw [ch_op_c, ch_op_0]
theorem ch_op_m (g : Bool) (a b c d : Nat) : ch_op g (ch_op g a b) (ch_op g c d) = ch_op g (ch_op g a c) (ch_op g b d) := by
  rw [ch_op_a, ch_op_a, ← ch_op_a g b c d, ← ch_op_a g c b d, ch_op_c g b c]
theorem ch_op_x (g : Bool) (a b c : Nat) : ch_op g (a * c) (b * c) = ch_op g a b * c := by
  cases g
  · exact (Nat.add_mul a b c).symm
  · exact Nat.mul_max_mul_right a b c
theorem ch_op_le {g : Bool} {a b : Nat} : a ≤ ch_op g a b := by
  cases g
  · exact Nat.le_add_right a b
  · exact Nat.le_max_left a b
theorem ch_op_lub {a b c : Nat} (h : a ≤ c) (h2 : b ≤ c) : ch_op true a b ≤ c := Nat.max_le.mpr ⟨h, h2⟩
def ch_bg {α : Type} (g : Bool) : List α → (α → Nat) → Nat
  | [], _ => 0
  | a :: l, F => ch_op g (F a) (ch_bg g l F)
theorem ch_bg_op {α : Type} (g : Bool) (l : List α) (F G : α → Nat) : ch_bg g l (fun a => ch_op g (F a) (G a)) = ch_op g (ch_bg g l F) (ch_bg g l G) := by
  induction l with
  | nil => exact (ch_op_0 g 0).symm
  | cons a l ih =>
    show ch_op g (ch_op g (F a) (G a)) (ch_bg g l (fun a => ch_op g (F a) (G a))) = ch_op g (ch_op g (F a) (ch_bg g l F)) (ch_op g (G a) (ch_bg g l G))
    rw [ih, ch_op_m]
theorem ch_bg_0 {α : Type} (g : Bool) (l : List α) : ch_bg g l (fun _ => 0) = 0 := by
  induction l with
  | nil => rfl
  | cons a l ih =>
    show ch_op g 0 (ch_bg g l (fun _ => 0)) = 0
    rw [ih, ch_op_0]
theorem ch_bg_cg {α : Type} (g : Bool) {l : List α} {F G : α → Nat} (h : ∀ a, a ∈ l → F a = G a) : ch_bg g l F = ch_bg g l G := by
  induction l with
  | nil => rfl
  | cons a l ih =>
    show ch_op g (F a) (ch_bg g l F) = ch_op g (G a) (ch_bg g l G)
    rw [h a (List.mem_cons_self), ih (fun b hb => h b (List.mem_cons_of_mem a hb))]
theorem ch_bg_z {α : Type} (g : Bool) {l : List α} {F : α → Nat} (h : ∀ a, a ∈ l → F a = 0) : ch_bg g l F = 0 := by
  rw [ch_bg_cg g (G := fun _ => 0) h, ch_bg_0]
theorem ch_bg_app {α : Type} (g : Bool) (l l' : List α) (F : α → Nat) : ch_bg g (l ++ l') F = ch_op g (ch_bg g l F) (ch_bg g l' F) := by
  induction l with
  | nil => exact (ch_0_op g _).symm
  | cons a l ih =>
    show ch_op g (F a) (ch_bg g (l ++ l') F) = ch_op g (ch_op g (F a) (ch_bg g l F)) (ch_bg g l' F)
    rw [ih, ch_op_a]
theorem ch_bg_1 {α : Type} (g : Bool) (a : α) (F : α → Nat) : ch_bg g [a] F = F a := ch_op_0 g (F a)
theorem ch_bg_fm {α β : Type} (g : Bool) (l : List α) (f : α → List β) (F : β → Nat) : ch_bg g (l.flatMap f) F = ch_bg g l (fun a => ch_bg g (f a) F) := by
  induction l with
  | nil => rfl
  | cons a l ih =>
    rw [List.flatMap_cons, ch_bg_app, ih]
    rfl
theorem ch_bg_map {α β : Type} (g : Bool) (l : List α) (f : α → β) (F : β → Nat) : ch_bg g (l.map f) F = ch_bg g l (fun a => F (f a)) := by
  induction l with
  | nil => rfl
  | cons a l ih =>
    show ch_op g (F (f a)) (ch_bg g (l.map f) F) = ch_op g (F (f a)) (ch_bg g l (fun a => F (f a)))
    rw [ih]
theorem ch_bg_ex {α β : Type} (g : Bool) (l : List α) (l' : List β) (F : α → β → Nat) : ch_bg g l (fun a => ch_bg g l' (fun b => F a b)) = ch_bg g l' (fun b => ch_bg g l (fun a => F a b)) := by
  induction l with
  | nil => exact (ch_bg_0 g l').symm
  | cons a l ih =>
    show ch_op g (ch_bg g l' (fun b => F a b)) (ch_bg g l (fun a => ch_bg g l' (fun b => F a b))) = _
    rw [ih, ← ch_bg_op]
    rfl
theorem ch_bg_x {α : Type} (g : Bool) (l : List α) (F : α → Nat) (c : Nat) : ch_bg g l (fun a => F a * c) = ch_bg g l F * c := by
  induction l with
  | nil => exact (Nat.zero_mul c).symm
  | cons a l ih =>
    show ch_op g (F a * c) (ch_bg g l (fun a => F a * c)) = ch_op g (F a) (ch_bg g l F) * c
    rw [ih, ch_op_x]
theorem ch_bg_s (g : Bool) (N : Nat) (F : Nat → Nat) : ch_bg g (List.range (N + 1)) F = ch_op g (ch_bg g (List.range N) F) (F N) := by
  rw [List.range_succ, ch_bg_app, ch_bg_1]
theorem ch_bg_one (g : Bool) (N i x : Nat) : ch_bg g (List.range N) (fun j => if j = i then x else 0) = if i < N then x else 0 := by
  induction N with
  | zero => rw [if_neg (by omega)]; rfl
  | succ N ih =>
    rw [ch_bg_s, ih]
    by_cases h : i < N
    · rw [if_pos h, if_neg (by omega), if_pos (by omega), ch_op_0]
    · rw [if_neg h, ch_0_op]
      by_cases h2 : N = i
      · rw [if_pos h2, if_pos (by omega)]
      · rw [if_neg h2, if_neg (by omega)]
theorem ch_bg_le {α : Type} {l : List α} {F : α → Nat} {a : α} (g : Bool) (h : a ∈ l) : F a ≤ ch_bg g l F := by
  induction l with
  | nil => cases h
  | cons b l ih =>
    show F a ≤ ch_op g (F b) (ch_bg g l F)
    cases h with
    | head => exact ch_op_le
    | tail _ h2 =>
      rw [ch_op_c]
      exact Nat.le_trans (ih h2) ch_op_le
theorem ch_bg_lub {α : Type} {l : List α} {F : α → Nat} {c : Nat} (h : ∀ a, a ∈ l → F a ≤ c) : ch_bg true l F ≤ c := by
  induction l with
  | nil => exact Nat.zero_le c
  | cons b l ih => exact ch_op_lub (h b List.mem_cons_self) (ih (fun a ha => h a (List.mem_cons_of_mem b ha)))
theorem ch_bg_mem {α : Type} {l : List α} {F : α → Nat} (h : 0 < ch_bg true l F) : ∃ a, a ∈ l ∧ F a = ch_bg true l F := by
  induction l with
  | nil => exact absurd h (Nat.lt_irrefl 0)
  | cons b l ih =>
    have e : ch_bg true (b :: l) F = max (F b) (ch_bg true l F) := rfl
    rcases Nat.le_total (F b) (ch_bg true l F) with h2 | h2
    · rw [e, Nat.max_eq_right h2] at h ⊢
      obtain ⟨a, ha, ea⟩ := ih h
      exact ⟨a, List.mem_cons_of_mem b ha, ea⟩
    · rw [e, Nat.max_eq_left h2]
      exact ⟨b, List.mem_cons_self, rfl⟩
theorem ch_bg_leS {α : Type} {l : List α} {F G : α → Nat} (h : ∀ a, a ∈ l → F a ≤ G a) : ch_bg false l F ≤ ch_bg false l G := by
  induction l with
  | nil => exact Nat.le_refl 0
  | cons b l ih => exact Nat.add_le_add (h b List.mem_cons_self) (ih (fun a ha => h a (List.mem_cons_of_mem b ha)))
/-- a store at one place -/
def ch_u (A : Nat → Nat) (k x : Nat) : Nat → Nat := fun j => if j = k then x else A j
def ch_w (A : Nat → Nat) : Nat → Int64 := fun i => lN (A i)
theorem ch_w_u (A : Nat → Nat) (k x : Nat) : vp_updL (ch_w A) k (lN x) = ch_w (ch_u A k x) := by
  funext j
  show (if j = k then lN x else lN (A j)) = lN (if j = k then x else A j)
  by_cases h : j = k
  · rw [if_pos h, if_pos h]
  · rw [if_neg h, if_neg h]
theorem ch_w_of (a : Nat → Int64) : ∃ A : Nat → Nat, a = ch_w A := by
  refine ⟨fun i => (a i).toBitVec.toNat, funext fun i => ?_⟩
  apply wb_inj
  show (a i).toBitVec = BitVec.ofNat 64 (a i).toBitVec.toNat
  simp
theorem ch_us {A : Nat → Nat} {k x : Nat} : ch_u A k x k = x := if_pos rfl
theorem ch_un {A : Nat → Nat} {k x j : Nat} (h : j ≠ k) : ch_u A k x j = A j := if_neg h
/-- scattering: N values added (or the greater one kept) at their targets -/
def ch_sct (g : Bool) (A : Nat → Nat) (tg wt : Nat → Nat) (N : Nat) : Nat → Nat := fun j => ch_op g (A j) (ch_bg g (List.range N) (fun t => if tg t = j then wt t else 0))
theorem ch_sct_0 (g : Bool) (A tg wt : Nat → Nat) : ch_sct g A tg wt 0 = A := funext fun j => ch_op_0 g (A j)
theorem ch_sct_s (g : Bool) (A tg wt : Nat → Nat) (N : Nat) : ch_u (ch_sct g A tg wt N) (tg N) (ch_op g (ch_sct g A tg wt N (tg N)) (wt N)) = ch_sct g A tg wt (N + 1) := by
  funext j
  show (if j = tg N then ch_op g (ch_op g (A (tg N)) (ch_bg g (List.range N) (fun t => if tg t = tg N then wt t else 0))) (wt N) else ch_op g (A j) (ch_bg g (List.range N) (fun t => if tg t = j then wt t else 0))) = ch_op g (A j) (ch_bg g (List.range (N + 1)) (fun t => if tg t = j then wt t else 0))
  rw [ch_bg_s]
  by_cases h : j = tg N
  · rw [if_pos h, if_pos h.symm, ch_op_a, h]
  · rw [if_neg h, if_neg (fun z => h z.symm), ch_op_0]
end
section
/-! own rows: a program and its static shape -/
abbrev ch_P : Type := Nat × (Nat → Nat) × (Nat → Nat) × (Nat → Nat) × (Nat → Nat → Nat)
def ch_n (P : ch_P) : Nat := P.1
def ch_K (P : ch_P) : Nat → Nat := P.2.1
def ch_V (P : ch_P) : Nat → Nat := P.2.2.1
def ch_S (P : ch_P) : Nat → Nat := P.2.2.2.1
def ch_E (P : ch_P) : Nat → Nat → Nat := P.2.2.2.2
def ch_nx (P : ch_P) (k i : Nat) : Nat := if ch_K P k = 4 ∨ ch_K P k = 6 then i + 1 else if ch_K P k = 8 then i - 1 else i
/-- the scan of the reference's find -/
def ch_sc (P : ch_P) (oe : Bool) : Nat → Nat → Nat → Nat
  | 0, _, k => k
  | f + 1, i, k => if i = 0 ∧ (ch_K P k = 8 ∨ (oe = true ∧ ch_K P k = 5)) then k else ch_sc P oe f (ch_nx P k i) (k + 1)
def ch_fd (P : ch_P) (oe : Bool) (b : Nat) : Nat := ch_sc P oe (ch_n P - (b + 1)) 0 (b + 1)
theorem ch_sc_y {P : ch_P} {oe : Bool} {f k : Nat} (h : ch_K P k = 8 ∨ (oe = true ∧ ch_K P k = 5)) : ch_sc P oe (f + 1) 0 k = k := if_pos ⟨rfl, h⟩
theorem ch_sc_n {P : ch_P} {oe : Bool} {f i k : Nat} (h : ¬ (i = 0 ∧ (ch_K P k = 8 ∨ (oe = true ∧ ch_K P k = 5)))) : ch_sc P oe (f + 1) i k = ch_sc P oe f (ch_nx P k i) (k + 1) := if_neg h
theorem ch_nx_u {P : ch_P} {k i : Nat} (h : ch_K P k = 4 ∨ ch_K P k = 6) : ch_nx P k i = i + 1 := if_pos h
theorem ch_nx_d {P : ch_P} {k i : Nat} (h : ch_K P k = 8) : ch_nx P k i = i - 1 := by
  unfold ch_nx
  rw [if_neg (by omega), if_pos h]
theorem ch_nx_s {P : ch_P} {k i : Nat} (h : ch_K P k ≠ 4) (h2 : ch_K P k ≠ 6) (h3 : ch_K P k ≠ 8) : ch_nx P k i = i := by
  unfold ch_nx
  rw [if_neg (by omega), if_neg h3]
theorem ch_sc_ge (P : ch_P) (oe : Bool) : ∀ f i k : Nat, k ≤ ch_sc P oe f i k := by
  intro f
  induction f with
  | zero => intro i k; exact Nat.le_refl k
  | succ f ih =>
    intro i k
    by_cases h : i = 0 ∧ (ch_K P k = 8 ∨ (oe = true ∧ ch_K P k = 5))
    · have e : ch_sc P oe (f + 1) i k = k := if_pos h
      omega
    · rw [ch_sc_n h]
      have := ih (ch_nx P k i) (k + 1)
      omega
theorem ch_sc_le (P : ch_P) (oe : Bool) : ∀ f i k : Nat, ch_sc P oe f i k ≤ k + f := by
  intro f
  induction f with
  | zero => intro i k; exact Nat.le_refl k
  | succ f ih =>
    intro i k
    by_cases h : i = 0 ∧ (ch_K P k = 8 ∨ (oe = true ∧ ch_K P k = 5))
    · have e : ch_sc P oe (f + 1) i k = k := if_pos h
      omega
    · rw [ch_sc_n h]
      have := ih (ch_nx P k i) (k + 1)
      omega
theorem ch_sc_lt (P : ch_P) : ∀ f i k : Nat, ch_sc P false f i k < ch_sc P false f (i + 1) k ∨ (ch_sc P false f i k = k + f ∧ ch_sc P false f (i + 1) k = k + f) := by
  intro f
  induction f with
  | zero => intro i k; exact Or.inr ⟨rfl, rfl⟩
  | succ f ih =>
    intro i k
    have hn : ¬ (i + 1 = 0 ∧ (ch_K P k = 8 ∨ (false = true ∧ ch_K P k = 5))) := fun z => absurd z.1 (by omega)
    rw [ch_sc_n hn]
    by_cases h8 : ch_K P k = 8
    · rw [ch_nx_d h8, Nat.add_sub_cancel]
      cases i with
      | zero =>
        rw [ch_sc_y (Or.inl h8)]
        have := ch_sc_ge P false f 0 (k + 1)
        exact Or.inl (by omega)
      | succ j =>
        have hn2 : ¬ (j + 1 = 0 ∧ (ch_K P k = 8 ∨ (false = true ∧ ch_K P k = 5))) := fun z => absurd z.1 (by omega)
        rw [ch_sc_n hn2, ch_nx_d h8, Nat.add_sub_cancel]
        have := ih j (k + 1)
        omega
    · have hn2 : ¬ (i = 0 ∧ (ch_K P k = 8 ∨ (false = true ∧ ch_K P k = 5))) := fun z => z.2.elim h8 (fun w => absurd w.1 (by decide))
      rw [ch_sc_n hn2]
      have e : ch_nx P k (i + 1) = ch_nx P k i + 1 := by
        by_cases h4 : ch_K P k = 4 ∨ ch_K P k = 6
        · rw [ch_nx_u h4, ch_nx_u h4]
        · rw [ch_nx_s (by omega) (by omega) h8, ch_nx_s (by omega) (by omega) h8]
      rw [e]
      have := ih (ch_nx P k i) (k + 1)
      omega
theorem ch_fd_le {P : ch_P} {oe : Bool} {b : Nat} (h : b < ch_n P) : ch_fd P oe b ≤ ch_n P := by
  have := ch_sc_le P oe (ch_n P - (b + 1)) 0 (b + 1)
  unfold ch_fd
  omega
theorem ch_fd_gt (P : ch_P) (oe : Bool) (b : Nat) : b < ch_fd P oe b := ch_sc_ge P oe (ch_n P - (b + 1)) 0 (b + 1)
def ch_mk : List (Nat × Nat) → List (Nat × Nat)
  | [] => []
  | e :: t => (e.1, 1) :: t
def ch_st1 (P : ch_P) (q : Nat) (l : List (Nat × Nat)) : List (Nat × Nat) :=
  if ch_K P q = 4 ∨ ch_K P q = 6 then (q, 0) :: l else if ch_K P q = 5 then ch_mk l else if ch_K P q = 8 then l.tail else l
/-- the blocks open at a place: where each begins, and 1 if its ELSE has been -/
def ch_st (P : ch_P) : Nat → List (Nat × Nat)
  | 0 => []
  | q + 1 => ch_st1 P q (ch_st P q)
theorem ch_st_u {P : ch_P} {q : Nat} (h : ch_K P q = 4 ∨ ch_K P q = 6) : ch_st P (q + 1) = (q, 0) :: ch_st P q := if_pos h
theorem ch_st_5 {P : ch_P} {q : Nat} (h : ch_K P q = 5) : ch_st P (q + 1) = ch_mk (ch_st P q) := by
  show ch_st1 P q _ = _
  unfold ch_st1
  rw [if_neg (by omega), if_pos h]
theorem ch_st_8 {P : ch_P} {q : Nat} (h : ch_K P q = 8) : ch_st P (q + 1) = (ch_st P q).tail := by
  show ch_st1 P q _ = _
  unfold ch_st1
  rw [if_neg (by omega), if_neg (by omega), if_pos h]
theorem ch_st_s {P : ch_P} {q : Nat} (h4 : ch_K P q ≠ 4) (h6 : ch_K P q ≠ 6) (h5 : ch_K P q ≠ 5) (h8 : ch_K P q ≠ 8) : ch_st P (q + 1) = ch_st P q := by
  show ch_st1 P q _ = _
  unfold ch_st1
  rw [if_neg (by omega), if_neg h5, if_neg h8]
/-- what lies under a block is what was open where it begins -/
theorem ch_suf (P : ch_P) : ∀ (q : Nat) (up : List (Nat × Nat)) (b f : Nat) (low : List (Nat × Nat)), ch_st P q = up ++ (b, f) :: low → b < q ∧ (ch_K P b = 4 ∨ ch_K P b = 6) ∧ ch_st P b = low := by
  intro q
  induction q with
  | zero =>
    intro up b f low h
    exact absurd h (by cases up <;> exact fun z => nomatch z)
  | succ q ih =>
    intro up b f low h
    by_cases hu : ch_K P q = 4 ∨ ch_K P q = 6
    · rw [ch_st_u hu] at h
      cases up with
      | nil =>
        injection h with h1 h2
        injection h1 with h3 h4
        subst h3
        exact ⟨Nat.lt_succ_self _, hu, h2⟩
      | cons u up =>
        injection h with h1 h2
        have := ih up b f low h2
        exact ⟨by omega, this.2⟩
    · by_cases h5 : ch_K P q = 5
      · rw [ch_st_5 h5] at h
        cases hs : ch_st P q with
        | nil =>
          rw [hs] at h
          exact absurd h (by cases up <;> exact fun z => nomatch z)
        | cons e t =>
          rw [hs] at h
          cases up with
          | nil =>
            injection h with h1 h2
            injection h1 with h3 h4
            have := ih [] e.1 e.2 t hs
            subst h3 h2
            exact ⟨by omega, this.2⟩
          | cons u up =>
            injection h with h1 h2
            have := ih (e :: up) b f low (by rw [hs, h2]; rfl)
            exact ⟨by omega, this.2⟩
      · by_cases h8 : ch_K P q = 8
        · rw [ch_st_8 h8] at h
          cases hs : ch_st P q with
          | nil =>
            rw [hs] at h
            exact absurd h (by cases up <;> exact fun z => nomatch z)
          | cons e t =>
            rw [hs] at h
            have := ih (e :: up) b f low (by rw [hs]; exact congrArg (List.cons e) h)
            exact ⟨by omega, this.2⟩
        · rw [ch_st_s (by omega) (by omega) h5 h8] at h
          have := ih up b f low h
          exact ⟨by omega, this.2⟩
/-- while a block is open, the scan from its beginning goes on -/
theorem ch_scan (P : ch_P) (oe : Bool) (b : Nat) : ∀ (q : Nat) (up : List (Nat × Nat)) (f : Nat) (low : List (Nat × Nat)), b < q → q ≤ ch_n P → ch_st P q = up ++ (b, f) :: low → (oe = true → f = 0) → ch_fd P oe b = ch_sc P oe (ch_n P - q) up.length q := by
  intro q
  induction q with
  | zero => intro up f low h; omega
  | succ q ih =>
    intro up f low hb hq h hf
    have hK := (ch_suf P _ _ _ _ _ h).2.1
    by_cases hbq : b = q
    · subst hbq
      rw [ch_st_u hK] at h
      cases up with
      | nil => rfl
      | cons u up =>
        injection h with h1 h2
        have := (ch_suf P _ _ _ _ _ h2).1
        omega
    · have hlt : b < q := by omega
      have ef : ch_n P - q = (ch_n P - (q + 1)) + 1 := by omega
      by_cases hu : ch_K P q = 4 ∨ ch_K P q = 6
      · rw [ch_st_u hu] at h
        cases up with
        | nil =>
          injection h with h1 h2
          injection h1 with h3 h4
          omega
        | cons u up =>
          injection h with h1 h2
          rw [ih up f low hlt (by omega) h2 hf, ef, ch_sc_n (fun z => z.2.elim (by omega) (fun w => absurd w.2 (by omega))), ch_nx_u hu]
          rfl
      · by_cases h5 : ch_K P q = 5
        · rw [ch_st_5 h5] at h
          cases hs : ch_st P q with
          | nil =>
            rw [hs] at h
            exact absurd h (by cases up <;> exact fun z => nomatch z)
          | cons e t =>
            rw [hs] at h
            cases up with
            | nil =>
              injection h with h1 h2
              injection h1 with h3 h4
              have hoe : ¬ oe = true := fun z => absurd (hf z) (by omega)
              have h6 : ch_st P q = [] ++ (b, e.2) :: low := by
                rw [hs, ← h2, ← h3]
                rfl
              rw [ih [] e.2 low hlt (by omega) h6 (fun z => absurd z hoe), ef]
              show ch_sc P oe (ch_n P - (q + 1) + 1) 0 q = _
              rw [ch_sc_n (fun z => z.2.elim (by omega) (fun w => hoe w.1)), ch_nx_s (by omega) (by omega) (by omega)]
              rfl
            | cons u up =>
              injection h with h1 h2
              rw [ih (e :: up) f low hlt (by omega) (by rw [hs, h2]; rfl) hf, ef]
              show ch_sc P oe (ch_n P - (q + 1) + 1) (up.length + 1) q = _
              rw [ch_sc_n (fun z => absurd z.1 (by omega)), ch_nx_s (by omega) (by omega) (by omega)]
              rfl
        · by_cases h8 : ch_K P q = 8
          · rw [ch_st_8 h8] at h
            cases hs : ch_st P q with
            | nil =>
              rw [hs] at h
              exact absurd h (by cases up <;> exact fun z => nomatch z)
            | cons e t =>
              rw [hs] at h
              rw [ih (e :: up) f low hlt (by omega) (by rw [hs]; exact congrArg (List.cons e) h) hf, ef]
              show ch_sc P oe (ch_n P - (q + 1) + 1) (up.length + 1) q = _
              rw [ch_sc_n (fun z => absurd z.1 (by omega)), ch_nx_d h8]
              rfl
          · rw [ch_st_s (by omega) (by omega) h5 h8] at h
            rw [ih up f low hlt (by omega) h hf, ef, ch_sc_n (fun z => z.2.elim h8 (fun w => h5 w.2)), ch_nx_s (by omega) (by omega) h8]
theorem ch_f1 {P : ch_P} {q b f : Nat} {low : List (Nat × Nat)} (hq : q < ch_n P) (h : ch_st P q = (b, f) :: low) (h8 : ch_K P q = 8) : ch_fd P false b = q := by
  have hb := (ch_suf P q [] b f low h).1
  rw [ch_scan P false b q [] f low hb (by omega) h (fun z => absurd z (by decide)), show ch_n P - q = (ch_n P - (q + 1)) + 1 by omega]
  exact ch_sc_y (Or.inl h8)
theorem ch_f1e {P : ch_P} {q b : Nat} {low : List (Nat × Nat)} (hq : q < ch_n P) (h : ch_st P q = (b, 0) :: low) (h8 : ch_K P q = 8 ∨ ch_K P q = 5) : ch_fd P true b = q := by
  have hb := (ch_suf P q [] b 0 low h).1
  rw [ch_scan P true b q [] 0 low hb (by omega) h (fun _ => rfl), show ch_n P - q = (ch_n P - (q + 1)) + 1 by omega]
  exact ch_sc_y (h8.elim Or.inl (fun z => Or.inr ⟨rfl, z⟩))
theorem ch_f3 {P : ch_P} {b f : Nat} {up low : List (Nat × Nat)} (h : ch_st P (ch_n P) = up ++ (b, f) :: low) : ch_fd P false b = ch_n P := by
  have hb := (ch_suf P _ up b f low h).1
  rw [ch_scan P false b _ up f low hb (Nat.le_refl _) h (fun z => absurd z (by decide)), Nat.sub_self]
  rfl
theorem ch_f3e {P : ch_P} {b : Nat} {up low : List (Nat × Nat)} (h : ch_st P (ch_n P) = up ++ (b, 0) :: low) : ch_fd P true b = ch_n P := by
  have hb := (ch_suf P _ up b 0 low h).1
  rw [ch_scan P true b _ up 0 low hb (Nat.le_refl _) h (fun _ => rfl), Nat.sub_self]
  rfl
theorem ch_f2 {P : ch_P} {q b f : Nat} {low : List (Nat × Nat)} (hq : q < ch_n P) (h : ch_st P q = (b, f) :: low) (h5 : ch_K P q = 5) : ch_fd P false q = ch_fd P false b := by
  have hb := (ch_suf P q [] b f low h).1
  rw [ch_scan P false b q [] f low hb (by omega) h (fun z => absurd z (by decide)), show ch_n P - q = (ch_n P - (q + 1)) + 1 by omega]
  show _ = ch_sc P false (ch_n P - (q + 1) + 1) 0 q
  rw [ch_sc_n (fun z => z.2.elim (by omega) (fun w => absurd w.1 (by decide))), ch_nx_s (by omega) (by omega) (by omega)]
  rfl
theorem ch_f8 {P : ch_P} {q b f : Nat} {up low : List (Nat × Nat)} (hq : q ≤ ch_n P) (h : ch_st P q = up ++ (b, f) :: low) : q ≤ ch_fd P false b := by
  have hb := (ch_suf P q up b f low h).1
  rw [ch_scan P false b q up f low hb hq h (fun z => absurd z (by decide))]
  exact ch_sc_ge _ _ _ _ _
theorem ch_f7 {P : ch_P} {q b f : Nat} {low : List (Nat × Nat)} (hq : q < ch_n P) (h : ch_st P q = (b, f) :: low) (hK : ch_K P q = 4 ∨ ch_K P q = 6) : ch_fd P false q < ch_fd P false b ∨ (ch_fd P false q = ch_n P ∧ ch_fd P false b = ch_n P) := by
  have hb := (ch_suf P q [] b f low h).1
  rw [ch_scan P false b q [] f low hb (by omega) h (fun z => absurd z (by decide)), show ch_n P - q = (ch_n P - (q + 1)) + 1 by omega]
  show _ < ch_sc P false (ch_n P - (q + 1) + 1) 0 q ∨ (_ ∧ ch_sc P false (ch_n P - (q + 1) + 1) 0 q = _)
  rw [ch_sc_n (fun z => z.2.elim (by omega) (fun w => absurd w.1 (by decide))), ch_nx_u hK]
  have := ch_sc_lt P (ch_n P - (q + 1)) 0 (q + 1)
  unfold ch_fd
  have e : q + 1 + (ch_n P - (q + 1)) = ch_n P := by omega
  rw [e] at this
  exact this
/-- may a statement of kind k stand behind the open blocks l -/
def ch_may (P : ch_P) (l : List (Nat × Nat)) (k : Nat) : Prop :=
  ((k = 4 ∨ k = 6) → l.length < 3) ∧ (k = 5 → ∃ b t, l = (b, 0) :: t ∧ ch_K P b = 4) ∧ (k = 7 → ∃ e, e ∈ l ∧ ch_K P e.1 = 6) ∧ (k = 8 → l ≠ [])
def ch_dat (P : ch_P) (q : Nat) : Prop :=
  ch_K P q ≤ 8 ∧ (ch_K P q ≤ 2 → ch_V P q ≤ 2) ∧ (ch_K P q = 1 → ch_S P q ≤ 16) ∧ (ch_K P q = 6 → 1 ≤ ch_S P q ∧ ch_S P q ≤ 3) ∧ (∀ s, ch_E P q s ≤ 3)
def ch_wf (P : ch_P) : Prop := ch_n P ≤ 24 ∧ ∀ q, q < ch_n P → ch_dat P q ∧ ch_may P (ch_st P q) (ch_K P q)
theorem ch_st_len {P : ch_P} (h : ch_wf P) : ∀ q, q ≤ ch_n P → (ch_st P q).length ≤ 3 := by
  intro q
  induction q with
  | zero => intro _; exact Nat.zero_le 3
  | succ q ih =>
    intro hq
    have h1 := ih (by omega)
    have h2 := (h.2 q (by omega)).2
    by_cases hu : ch_K P q = 4 ∨ ch_K P q = 6
    · rw [ch_st_u hu]
      have := h2.1 hu
      show (ch_st P q).length + 1 ≤ 3
      omega
    · by_cases h5 : ch_K P q = 5
      · rw [ch_st_5 h5]
        cases hs : ch_st P q with
        | nil => exact Nat.zero_le 3
        | cons e t =>
          rw [hs] at h1
          exact h1
      · by_cases h8 : ch_K P q = 8
        · rw [ch_st_8 h8, List.length_tail]
          omega
        · rw [ch_st_s (by omega) (by omega) h5 h8]
          exact h1
end
section
/-! own rows: the control of the component's carrying out, and its measure -/
def ch_beh (P : ch_P) (k : Nat) : Nat := if k < ch_n P then k + 1 else ch_n P
theorem ch_beh_lt {P : ch_P} {k : Nat} (h : k < ch_n P) : ch_beh P k = k + 1 := if_pos h
theorem ch_beh_ge {P : ch_P} {k : Nat} (h : ¬ k < ch_n P) : ch_beh P k = ch_n P := if_neg h
theorem ch_beh_le (P : ch_P) (k : Nat) : ch_beh P k ≤ ch_n P := by
  unfold ch_beh
  split <;> omega
def ch_eb (P : ch_P) (q : Nat) : List (Nat × Nat) → Nat × List (Nat × Nat)
  | [] => (q, [])
  | e :: l => if ch_K P e.1 = 6 ∧ 1 < e.2 then (e.1 + 1, (e.1, e.2 - 1) :: l) else (ch_beh P q, l)
theorem ch_eb_l {P : ch_P} {q : Nat} {e : Nat × Nat} {l : List (Nat × Nat)} (h : ch_K P e.1 = 6 ∧ 1 < e.2) : ch_eb P q (e :: l) = (e.1 + 1, (e.1, e.2 - 1) :: l) := if_pos h
theorem ch_eb_x {P : ch_P} {q : Nat} {e : Nat × Nat} {l : List (Nat × Nat)} (h : ¬ (ch_K P e.1 = 6 ∧ 1 < e.2)) : ch_eb P q (e :: l) = (ch_beh P q, l) := if_neg h
def ch_ct (P : ch_P) (q : Nat) (st : List (Nat × Nat)) : Nat × List (Nat × Nat) :=
  if q < ch_n P then
    (if ch_K P q = 4 then (q + 1, (q, 0) :: st)
    else if ch_K P q = 5 then (q + 1, ch_mk st)
    else if ch_K P q = 6 then (q + 1, (q, ch_S P q) :: st)
    else if ch_K P q = 8 then ch_eb P q st
    else (q + 1, st))
  else ch_eb P q st
theorem ch_ct_4 {P : ch_P} {q : Nat} {st : List (Nat × Nat)} (hq : q < ch_n P) (h : ch_K P q = 4) : ch_ct P q st = (q + 1, (q, 0) :: st) := by
  unfold ch_ct
  rw [if_pos hq, if_pos h]
theorem ch_ct_5 {P : ch_P} {q : Nat} {st : List (Nat × Nat)} (hq : q < ch_n P) (h : ch_K P q = 5) : ch_ct P q st = (q + 1, ch_mk st) := by
  unfold ch_ct
  rw [if_pos hq, if_neg (by omega), if_pos h]
theorem ch_ct_6 {P : ch_P} {q : Nat} {st : List (Nat × Nat)} (hq : q < ch_n P) (h : ch_K P q = 6) : ch_ct P q st = (q + 1, (q, ch_S P q) :: st) := by
  unfold ch_ct
  rw [if_pos hq, if_neg (by omega), if_neg (by omega), if_pos h]
theorem ch_ct_8 {P : ch_P} {q : Nat} {st : List (Nat × Nat)} (hq : q < ch_n P) (h : ch_K P q = 8) : ch_ct P q st = ch_eb P q st := by
  unfold ch_ct
  rw [if_pos hq, if_neg (by omega), if_neg (by omega), if_neg (by omega), if_pos h]
theorem ch_ct_s {P : ch_P} {q : Nat} {st : List (Nat × Nat)} (hq : q < ch_n P) (h4 : ch_K P q ≠ 4) (h5 : ch_K P q ≠ 5) (h6 : ch_K P q ≠ 6) (h8 : ch_K P q ≠ 8) : ch_ct P q st = (q + 1, st) := by
  unfold ch_ct
  rw [if_pos hq, if_neg h4, if_neg h5, if_neg h6, if_neg h8]
theorem ch_ct_e {P : ch_P} {q : Nat} {st : List (Nat × Nat)} (hq : ¬ q < ch_n P) : ch_ct P q st = ch_eb P q st := if_neg hq
/-- the blocks under way against the static ones -/
def ch_rt (P : ch_P) : List (Nat × Nat) → List (Nat × Nat) → Prop
  | [], [] => True
  | e :: l, e' :: l' => e.1 = e'.1 ∧ (ch_K P e.1 = 6 → 1 ≤ e.2 ∧ e.2 ≤ 3) ∧ (ch_K P e.1 ≠ 6 → e.2 = e'.2) ∧ ch_rt P l l'
  | [], _ :: _ => False
  | _ :: _, [] => False
theorem ch_rt_c {P : ch_P} {e : Nat × Nat} {l l2 : List (Nat × Nat)} (h : ch_rt P (e :: l) l2) : ∃ f l', l2 = (e.1, f) :: l' ∧ (ch_K P e.1 = 6 → 1 ≤ e.2 ∧ e.2 ≤ 3) ∧ (ch_K P e.1 ≠ 6 → e.2 = f) ∧ ch_rt P l l' := by
  cases l2 with
  | nil => exact False.elim h
  | cons e' l' =>
    refine ⟨e'.2, l', ?_, h.2.1, h.2.2.1, h.2.2.2⟩
    rw [h.1]
theorem ch_rt_n {P : ch_P} {l2 : List (Nat × Nat)} (h : ch_rt P [] l2) : l2 = [] := by
  cases l2 with
  | nil => rfl
  | cons e' l' => exact False.elim h
theorem ch_rt_c2 {P : ch_P} {l : List (Nat × Nat)} {b f : Nat} {l' : List (Nat × Nat)} (h : ch_rt P l ((b, f) :: l')) : ∃ r t, l = (b, r) :: t ∧ (ch_K P b = 6 → 1 ≤ r ∧ r ≤ 3) ∧ (ch_K P b ≠ 6 → r = f) ∧ ch_rt P t l' := by
  cases l with
  | nil => exact False.elim h
  | cons e t =>
    have e1 : e.1 = b := h.1
    refine ⟨e.2, t, by rw [← e1], ?_, ?_, h.2.2.2⟩
    · rw [← e1]; exact h.2.1
    · rw [← e1]; exact h.2.2.1
theorem ch_rt_len {P : ch_P} : ∀ {l l2 : List (Nat × Nat)}, ch_rt P l l2 → l.length = l2.length := by
  intro l
  induction l with
  | nil => intro l2 h; rw [ch_rt_n h]
  | cons e l ih =>
    intro l2 h
    obtain ⟨f, l', rfl, _, _, h4⟩ := ch_rt_c h
    show l.length + 1 = l'.length + 1
    rw [ih h4]
def ch_iv (P : ch_P) (q : Nat) (st : List (Nat × Nat)) : Prop :=
  q ≤ ch_n P ∧ ∃ up l, ch_st P q = up ++ l ∧ (q < ch_n P → up = []) ∧ ch_rt P st l
theorem ch_iv_0 (P : ch_P) : ch_iv P 0 [] := ⟨Nat.zero_le _, [], [], rfl, fun _ => rfl, trivial⟩
theorem ch_iv_lt {P : ch_P} {q : Nat} {st : List (Nat × Nat)} (h : ch_iv P q st) (hq : q < ch_n P) : ch_rt P st (ch_st P q) := by
  obtain ⟨_, up, l, e, hu, hr⟩ := h
  rw [hu hq] at e
  rw [e]
  exact hr
theorem ch_iv_of {P : ch_P} {q : Nat} {st : List (Nat × Nat)} (hq : q ≤ ch_n P) (h : ch_rt P st (ch_st P q)) : ch_iv P q st := ⟨hq, [], _, rfl, fun _ => rfl, h⟩
theorem ch_iv_len {P : ch_P} (w : ch_wf P) {q : Nat} {st : List (Nat × Nat)} (h : ch_iv P q st) : st.length ≤ 3 := by
  obtain ⟨hq, up, l, e, hu, hr⟩ := h
  have := ch_st_len w q hq
  rw [e, List.length_append] at this
  rw [ch_rt_len hr]
  omega
theorem ch_iv_top {P : ch_P} {q : Nat} {e : Nat × Nat} {l : List (Nat × Nat)} (h : ch_iv P q (e :: l)) : e.1 < ch_n P ∧ e.1 < q ∧ (ch_K P e.1 = 4 ∨ ch_K P e.1 = 6) ∧ ch_rt P l (ch_st P e.1) ∧ q ≤ ch_fd P false e.1 ∧ (ch_K P e.1 = 6 → 1 ≤ e.2 ∧ e.2 ≤ 3) := by
  obtain ⟨hq, up, l2, e2, hu, hr⟩ := h
  obtain ⟨f, l', rfl, h6, h7, hr'⟩ := ch_rt_c hr
  have hs := ch_suf P q up e.1 f l' e2
  exact ⟨by omega, hs.1, hs.2.1, by rw [hs.2.2]; exact hr', ch_f8 hq e2, h6⟩
theorem ch_iv_low {P : ch_P} {q : Nat} {e : Nat × Nat} {l : List (Nat × Nat)} (h : ch_iv P q (e :: l)) : ch_iv P e.1 l := by
  have t := ch_iv_top h
  exact ch_iv_of (by omega) t.2.2.2.1
/-- where an END (or the end of the program) ends the innermost block -/
theorem ch_iv_end {P : ch_P} {q : Nat} {e : Nat × Nat} {l : List (Nat × Nat)} (h : ch_iv P q (e :: l)) (hq : q < ch_n P → ch_K P q = 8) : ch_fd P false e.1 = q := by
  obtain ⟨hqn, up, l2, e2, hu, hr⟩ := h
  obtain ⟨f, l', rfl, h6, h7, hr'⟩ := ch_rt_c hr
  by_cases hlt : q < ch_n P
  · have e3 : ch_st P q = (e.1, f) :: l' := by rw [e2, hu hlt]; rfl
    exact ch_f1 hlt e3 (hq hlt)
  · have e4 : q = ch_n P := by omega
    subst e4
    exact ch_f3 e2
theorem ch_iv_eb {P : ch_P} {q : Nat} {e : Nat × Nat} {l : List (Nat × Nat)} (h : ch_iv P q (e :: l)) (hq : q < ch_n P → ch_K P q = 8) : ch_iv P (ch_eb P q (e :: l)).1 (ch_eb P q (e :: l)).2 := by
  have t := ch_iv_top h
  by_cases hl : ch_K P e.1 = 6 ∧ 1 < e.2
  · rw [ch_eb_l hl]
    refine ch_iv_of (by show e.1 + 1 ≤ ch_n P; omega) ?_
    show ch_rt P ((e.1, e.2 - 1) :: l) (ch_st P (e.1 + 1))
    rw [ch_st_u t.2.2.1]
    refine ⟨rfl, fun _ => ?_, fun z => absurd hl.1 z, t.2.2.2.1⟩
    have := t.2.2.2.2.2 hl.1
    show 1 ≤ e.2 - 1 ∧ e.2 - 1 ≤ 3
    omega
  · rw [ch_eb_x hl]
    obtain ⟨hqn, up, l2, e2, hu, hr⟩ := h
    obtain ⟨f, l', rfl, h6, h7, hr'⟩ := ch_rt_c hr
    by_cases hlt : q < ch_n P
    · rw [ch_beh_lt hlt]
      refine ch_iv_of (by show q + 1 ≤ ch_n P; omega) ?_
      show ch_rt P l (ch_st P (q + 1))
      rw [ch_st_8 (hq hlt), e2, hu hlt]
      exact hr'
    · rw [ch_beh_ge hlt]
      have e4 : q = ch_n P := by omega
      subst e4
      refine ⟨Nat.le_refl _, up ++ [(e.1, f)], l', ?_, fun z => absurd z hlt, hr'⟩
      show ch_st P (ch_n P) = _
      rw [e2, List.append_assoc]
      rfl
theorem ch_iv_ct {P : ch_P} (w : ch_wf P) {q : Nat} {st : List (Nat × Nat)} (h : ch_iv P q st) (hd : q < ch_n P ∨ st ≠ []) : ch_iv P (ch_ct P q st).1 (ch_ct P q st).2 := by
  by_cases hq : q < ch_n P
  · have hr := ch_iv_lt h hq
    have hw := w.2 q hq
    by_cases h4 : ch_K P q = 4
    · rw [ch_ct_4 hq h4]
      refine ch_iv_of hq ?_
      show ch_rt P ((q, 0) :: st) (ch_st P (q + 1))
      rw [ch_st_u (Or.inl h4)]
      exact ⟨rfl, fun z => absurd (show ch_K P q = 6 from z) (by omega), fun _ => rfl, hr⟩
    · by_cases h5 : ch_K P q = 5
      · rw [ch_ct_5 hq h5]
        refine ch_iv_of hq ?_
        show ch_rt P (ch_mk st) (ch_st P (q + 1))
        obtain ⟨b, t, e1, e2⟩ := hw.2.2.1 h5
        rw [ch_st_5 h5, e1]
        rw [e1] at hr
        obtain ⟨r, t2, rfl, _, _, hr3⟩ := ch_rt_c2 hr
        exact ⟨rfl, fun z => absurd (show ch_K P b = 6 from z) (by omega), fun _ => rfl, hr3⟩
      · by_cases h6 : ch_K P q = 6
        · rw [ch_ct_6 hq h6]
          refine ch_iv_of hq ?_
          show ch_rt P ((q, ch_S P q) :: st) (ch_st P (q + 1))
          rw [ch_st_u (Or.inr h6)]
          exact ⟨rfl, fun _ => hw.1.2.2.2.1 h6, fun z => absurd h6 z, hr⟩
        · by_cases h8 : ch_K P q = 8
          · rw [ch_ct_8 hq h8]
            cases st with
            | nil => exact absurd (ch_rt_n hr) (hw.2.2.2.2 h8)
            | cons e l => exact ch_iv_eb h (fun _ => h8)
          · rw [ch_ct_s hq h4 h5 h6 h8]
            refine ch_iv_of hq ?_
            show ch_rt P st (ch_st P (q + 1))
            rw [ch_st_s h4 h6 h5 h8]
            exact hr
  · rw [ch_ct_e hq]
    cases st with
    | nil => exact absurd rfl (hd.resolve_left hq)
    | cons e l => exact ch_iv_eb h (fun z => absurd z hq)
def ch_ud (d : Nat) : Nat := if d = 0 then 36 else if d = 1 then 12 else if d = 2 then 4 else 1
def ch_ps (P : ch_P) (d b q : Nat) : Nat := if ch_fd P false b < ch_n P then ch_ud d * (ch_fd P false b + 1 - q) else ch_ud d * (ch_n P - q) + 1
def ch_mu (P : ch_P) : Nat → List (Nat × Nat) → Nat
  | q, [] => 36 * (ch_n P - q)
  | q, e :: l => ch_ps P (l.length + 1) e.1 q + (e.2 - 1) * ch_ps P (l.length + 1) e.1 (e.1 + 1) + ch_mu P (ch_beh P (ch_fd P false e.1)) l
theorem ch_ud_pos (d : Nat) : 1 ≤ ch_ud d := by
  unfold ch_ud
  split
  · decide
  · split
    · decide
    · split <;> decide
theorem ch_ps_pos {P : ch_P} {d b q : Nat} (h : q ≤ ch_fd P false b) : 1 ≤ ch_ps P d b q := by
  unfold ch_ps
  split
  · exact Nat.le_trans (ch_ud_pos d) (Nat.le_mul_of_pos_right _ (by omega))
  · omega
theorem ch_ps_lt {P : ch_P} {d b q : Nat} (h : q ≤ ch_fd P false b) (hq : q < ch_n P) : ch_ps P d b (q + 1) < ch_ps P d b q := by
  have hp := ch_ud_pos d
  unfold ch_ps
  split
  · exact Nat.mul_lt_mul_of_pos_left (by omega) hp
  · exact Nat.succ_lt_succ (Nat.mul_lt_mul_of_pos_left (by omega) hp)
theorem ch_mu_s {P : ch_P} {q : Nat} {st : List (Nat × Nat)} (h : ch_iv P q st) (hq : q < ch_n P) : ch_mu P (q + 1) st < ch_mu P q st := by
  cases st with
  | nil =>
    show 36 * (ch_n P - (q + 1)) < 36 * (ch_n P - q)
    omega
  | cons e l =>
    have := ch_ps_lt (d := l.length + 1) (ch_iv_top h).2.2.2.2.1 hq
    show ch_ps P (l.length + 1) e.1 (q + 1) + _ + _ < ch_ps P (l.length + 1) e.1 q + _ + _
    omega
theorem ch_mu_eb {P : ch_P} {q : Nat} {e : Nat × Nat} {l : List (Nat × Nat)} (h : ch_iv P q (e :: l)) (hq : q < ch_n P → ch_K P q = 8) : ch_mu P (ch_eb P q (e :: l)).1 (ch_eb P q (e :: l)).2 < ch_mu P q (e :: l) := by
  have t := ch_iv_top h
  have hp := ch_ps_pos (d := l.length + 1) t.2.2.2.2.1
  by_cases hl : ch_K P e.1 = 6 ∧ 1 < e.2
  · rw [ch_eb_l hl]
    show ch_ps P (l.length + 1) e.1 (e.1 + 1) + (e.2 - 1 - 1) * ch_ps P (l.length + 1) e.1 (e.1 + 1) + ch_mu P (ch_beh P (ch_fd P false e.1)) l < ch_ps P (l.length + 1) e.1 q + (e.2 - 1) * ch_ps P (l.length + 1) e.1 (e.1 + 1) + ch_mu P (ch_beh P (ch_fd P false e.1)) l
    obtain ⟨r, er⟩ : ∃ r, e.2 = r + 2 := ⟨e.2 - 2, by omega⟩
    rw [er, show r + 2 - 1 - 1 = r by omega, show r + 2 - 1 = r + 1 by omega, Nat.add_mul]
    omega
  · rw [ch_eb_x hl]
    show ch_mu P (ch_beh P q) l < ch_ps P (l.length + 1) e.1 q + _ + ch_mu P (ch_beh P (ch_fd P false e.1)) l
    rw [ch_iv_end h hq]
    omega
theorem ch_mu_in {P : ch_P} {q r : Nat} {st : List (Nat × Nat)} (h : ch_iv P q st) (hq : q < ch_n P) (hK : ch_K P q = 4 ∨ ch_K P q = 6) (hr : r ≤ 3) (hl : st.length < 3) : ch_mu P (q + 1) ((q, r) :: st) < ch_mu P q st := by
  show ch_ps P (st.length + 1) q (q + 1) + (r - 1) * ch_ps P (st.length + 1) q (q + 1) + ch_mu P (ch_beh P (ch_fd P false q)) st < ch_mu P q st
  have h3 : (r - 1) * ch_ps P (st.length + 1) q (q + 1) ≤ 2 * ch_ps P (st.length + 1) q (q + 1) := Nat.mul_le_mul_right _ (by omega)
  have hg := ch_fd_gt P false q
  have hle := ch_fd_le (oe := false) hq
  suffices hs : 3 * ch_ps P (st.length + 1) q (q + 1) + ch_mu P (ch_beh P (ch_fd P false q)) st < ch_mu P q st by omega
  cases st with
  | nil =>
    show 3 * ch_ps P 1 q (q + 1) + 36 * (ch_n P - ch_beh P (ch_fd P false q)) < 36 * (ch_n P - q)
    have e1 : ch_ps P 1 q (q + 1) = if ch_fd P false q < ch_n P then 12 * (ch_fd P false q + 1 - (q + 1)) else 12 * (ch_n P - (q + 1)) + 1 := rfl
    rw [e1]
    unfold ch_beh
    by_cases hf : ch_fd P false q < ch_n P
    · rw [if_pos hf, if_pos hf]; omega
    · rw [if_neg hf, if_neg hf]; omega
  | cons e l =>
    have hs := ch_iv_lt h hq
    obtain ⟨f, l', e2, _, _, _⟩ := ch_rt_c hs
    have h7 := ch_f7 hq e2 hK
    have t := ch_iv_top h
    have hle2 := ch_fd_le (oe := false) t.1
    suffices hs : 3 * ch_ps P (l.length + 1 + 1) q (q + 1) + ch_ps P (l.length + 1) e.1 (ch_beh P (ch_fd P false q)) < ch_ps P (l.length + 1) e.1 q by
      show 3 * ch_ps P (l.length + 1 + 1) q (q + 1) + (ch_ps P (l.length + 1) e.1 (ch_beh P (ch_fd P false q)) + _ + _) < ch_ps P (l.length + 1) e.1 q + _ + _
      omega
    have hll : l.length = 0 ∨ l.length = 1 := by
      have : l.length + 1 < 3 := hl
      omega
    unfold ch_ps ch_beh
    generalize ch_fd P false q = x at *
    generalize ch_fd P false e.1 = y at *
    generalize ch_n P = n at *
    rcases hll with hll | hll
    · rw [hll, show ch_ud (0 + 1 + 1) = 4 from rfl, show ch_ud (0 + 1) = 12 from rfl]
      by_cases hx : x < n
      · rw [if_pos hx, if_pos hx]
        by_cases hy : y < n
        · rw [if_pos hy, if_pos hy]; omega
        · rw [if_neg hy, if_neg hy]; omega
      · rw [if_neg hx, if_neg hx, if_neg (by omega), if_neg (by omega)]; omega
    · rw [hll, show ch_ud (1 + 1 + 1) = 1 from rfl, show ch_ud (1 + 1) = 4 from rfl]
      by_cases hx : x < n
      · rw [if_pos hx, if_pos hx]
        by_cases hy : y < n
        · rw [if_pos hy, if_pos hy]; omega
        · rw [if_neg hy, if_neg hy]; omega
      · rw [if_neg hx, if_neg hx, if_neg (by omega), if_neg (by omega)]; omega
theorem ch_mu_ct {P : ch_P} (w : ch_wf P) {q : Nat} {st : List (Nat × Nat)} (h : ch_iv P q st) (hd : q < ch_n P ∨ st ≠ []) : ch_mu P (ch_ct P q st).1 (ch_ct P q st).2 < ch_mu P q st := by
  by_cases hq : q < ch_n P
  · have hr := ch_iv_lt h hq
    have hw := w.2 q hq
    have hl : (ch_K P q = 4 ∨ ch_K P q = 6) → st.length < 3 := fun z => by
      rw [ch_rt_len hr]
      exact hw.2.1 z
    by_cases h4 : ch_K P q = 4
    · rw [ch_ct_4 hq h4]
      exact ch_mu_in h hq (Or.inl h4) (by omega) (hl (Or.inl h4))
    · by_cases h5 : ch_K P q = 5
      · rw [ch_ct_5 hq h5]
        obtain ⟨b, t, e1, e2⟩ := hw.2.2.1 h5
        rw [e1] at hr
        obtain ⟨r, t2, rfl, _, h7, hr3⟩ := ch_rt_c2 hr
        have hr0 : r = 0 := h7 (by omega)
        subst hr0
        have h2 := ch_mu_s h hq
        have e3 : ch_mu P (q + 1) ((b, 1) :: t2) = ch_mu P (q + 1) ((b, 0) :: t2) := rfl
        show ch_mu P (q + 1) ((b, 1) :: t2) < _
        rw [e3]
        exact h2
      · by_cases h6 : ch_K P q = 6
        · rw [ch_ct_6 hq h6]
          exact ch_mu_in h hq (Or.inr h6) (hw.1.2.2.2.1 h6).2 (hl (Or.inr h6))
        · by_cases h8 : ch_K P q = 8
          · rw [ch_ct_8 hq h8]
            cases st with
            | nil => exact absurd (ch_rt_n hr) (hw.2.2.2.2 h8)
            | cons e l => exact ch_mu_eb h (fun _ => h8)
          · rw [ch_ct_s hq h4 h5 h6 h8]
            exact ch_mu_s h hq
  · rw [ch_ct_e hq]
    cases st with
    | nil => exact absurd rfl (hd.resolve_left hq)
    | cons e l => exact ch_mu_eb h (fun z => absurd z hq)
theorem ch_mu_0 {P : ch_P} (w : ch_wf P) : ch_mu P 0 [] ≤ 864 := by
  have := w.1
  show 36 * (ch_n P - 0) ≤ 864
  omega
end
section
/-! own rows: one run (a particle) along the control, and all runs -/
abbrev ch_Q : Type := Nat × Nat × Nat × Nat × (Nat → Nat)
def ch_inc (m : Nat → Nat) (i : Nat) : Nat → Nat := fun j => if j = i then m j + 1 else m j
def ch_iq (P : ch_P) (i : Nat) (q : ch_Q) : ch_Q := if q.1 = 0 ∧ i < ch_n P then (q.1, q.2.1, q.2.2.1, q.2.2.2.1, ch_inc q.2.2.2.2 i) else q
def ch_chg (s v x : Nat) : Nat := s - s / 4 ^ v % 4 * 4 ^ v + x * 4 ^ v
def ch_sh (P : ch_P) (i o : Nat) : Nat := if ch_K P i = 2 then 4 else if o = 1 then ch_S P i else if o = 0 then 16 - ch_S P i else 0
def ch_ll (P : ch_P) : List (Nat × Nat) → Nat
  | [] => 0
  | e :: l => if ch_K P e.1 = 6 then l.length + 1 else ch_ll P l
def ch_e0 (P : ch_P) : List (Nat × Nat) → ch_Q → ch_Q
  | [], q => q
  | e :: l, q => if ch_K P e.1 = 6 ∧ 1 < e.2 then q else if q.1 = l.length + 1 then (0, q.2) else q
def ch_s0 (al : Nat → Nat → Bool) (P : ch_P) (i : Nat) (st : List (Nat × Nat)) (q : ch_Q) (o : Nat) : Except Nat ch_Q :=
  if i < ch_n P then
    (if ch_K P i = 0 then .ok (if q.1 = 0 then (0, q.2.1, ch_chg q.2.2.1 (ch_V P i) (ch_E P i q.2.2.1), q.2.2.2) else q)
    else if ch_K P i = 1 ∨ ch_K P i = 2 then
      (if q.1 = 0 then
        (if 6 ≤ q.2.1 then .error 3 else if ch_sh P i o = 0 then .error 4 else if al q.2.1 o = true then .ok (0, q.2.1 + 1, ch_chg q.2.2.1 (ch_V P i) o, q.2.2.2.1 * ch_sh P i o, q.2.2.2.2) else .error 5)
      else .ok q)
    else if ch_K P i = 3 then (if q.1 = 0 ∧ ch_E P i q.2.2.1 = 0 then .error 2 else .ok q)
    else if ch_K P i = 4 then .ok (if q.1 = 0 ∧ ch_E P i q.2.2.1 = 0 then (st.length + 1, q.2) else q)
    else if ch_K P i = 5 then .ok (if q.1 = 0 then (st.length, q.2) else if q.1 = st.length then (0, q.2) else q)
    else if ch_K P i = 6 then .ok q
    else if ch_K P i = 7 then .ok (if q.1 = 0 then (ch_ll P st, q.2) else q)
    else .ok (ch_e0 P st q))
  else .ok (ch_e0 P st q)
section
variable {al : Nat → Nat → Bool} {P : ch_P} {i : Nat} {st : List (Nat × Nat)} {q : ch_Q} {o : Nat}
theorem ch_s0_0 (hi : i < ch_n P) (h : ch_K P i = 0) : ch_s0 al P i st q o = .ok (if q.1 = 0 then (0, q.2.1, ch_chg q.2.2.1 (ch_V P i) (ch_E P i q.2.2.1), q.2.2.2) else q) := by
  unfold ch_s0
  rw [if_pos hi, if_pos h]
theorem ch_s0_r (hi : i < ch_n P) (h : ch_K P i = 1 ∨ ch_K P i = 2) : ch_s0 al P i st q o = (if q.1 = 0 then
        (if 6 ≤ q.2.1 then .error 3 else if ch_sh P i o = 0 then .error 4 else if al q.2.1 o = true then .ok (0, q.2.1 + 1, ch_chg q.2.2.1 (ch_V P i) o, q.2.2.2.1 * ch_sh P i o, q.2.2.2.2) else .error 5)
      else .ok q) := by
  unfold ch_s0
  rw [if_pos hi, if_neg (by omega), if_pos h]
theorem ch_s0_3 (hi : i < ch_n P) (h : ch_K P i = 3) : ch_s0 al P i st q o = (if q.1 = 0 ∧ ch_E P i q.2.2.1 = 0 then .error 2 else .ok q) := by
  unfold ch_s0
  rw [if_pos hi, if_neg (by omega), if_neg (by omega), if_pos h]
theorem ch_s0_4 (hi : i < ch_n P) (h : ch_K P i = 4) : ch_s0 al P i st q o = .ok (if q.1 = 0 ∧ ch_E P i q.2.2.1 = 0 then (st.length + 1, q.2) else q) := by
  unfold ch_s0
  rw [if_pos hi, if_neg (by omega), if_neg (by omega), if_neg (by omega), if_pos h]
theorem ch_s0_5 (hi : i < ch_n P) (h : ch_K P i = 5) : ch_s0 al P i st q o = .ok (if q.1 = 0 then (st.length, q.2) else if q.1 = st.length then (0, q.2) else q) := by
  unfold ch_s0
  rw [if_pos hi, if_neg (by omega), if_neg (by omega), if_neg (by omega), if_neg (by omega), if_pos h]
theorem ch_s0_6 (hi : i < ch_n P) (h : ch_K P i = 6) : ch_s0 al P i st q o = .ok q := by
  unfold ch_s0
  rw [if_pos hi, if_neg (by omega), if_neg (by omega), if_neg (by omega), if_neg (by omega), if_neg (by omega), if_pos h]
theorem ch_s0_7 (hi : i < ch_n P) (h : ch_K P i = 7) : ch_s0 al P i st q o = .ok (if q.1 = 0 then (ch_ll P st, q.2) else q) := by
  unfold ch_s0
  rw [if_pos hi, if_neg (by omega), if_neg (by omega), if_neg (by omega), if_neg (by omega), if_neg (by omega), if_neg (by omega), if_pos h]
theorem ch_s0_8 (hi : i < ch_n P → 7 < ch_K P i) : ch_s0 al P i st q o = .ok (ch_e0 P st q) := by
  unfold ch_s0
  by_cases h : i < ch_n P
  · have := hi h
    rw [if_pos h, if_neg (by omega), if_neg (by omega), if_neg (by omega), if_neg (by omega), if_neg (by omega), if_neg (by omega), if_neg (by omega)]
  · rw [if_neg h]
/-- a step that isn't random doesn't look at the outcome -/
theorem ch_s0_o (h : ¬ (i < ch_n P ∧ (ch_K P i = 1 ∨ ch_K P i = 2) ∧ q.1 = 0)) (o' : Nat) : ch_s0 al P i st q o = ch_s0 al P i st q o' := by
  by_cases hi : i < ch_n P
  · by_cases hr : ch_K P i = 1 ∨ ch_K P i = 2
    · have hq : ¬ q.1 = 0 := fun z => h ⟨hi, hr, z⟩
      rw [ch_s0_r hi hr, ch_s0_r hi hr, if_neg hq, if_neg hq]
    · unfold ch_s0
      rw [if_pos hi, if_pos hi, if_neg hr, if_neg hr]
  · unfold ch_s0
    rw [if_neg hi, if_neg hi]
end
/-- the two shapes of what a step leaves -/
theorem ch_s0_k {al : Nat → Nat → Bool} {P : ch_P} {i : Nat} {st : List (Nat × Nat)} {q q' : ch_Q} {o : Nat} (h : ch_s0 al P i st q o = .ok q') :
    (¬ (i < ch_n P ∧ (ch_K P i = 1 ∨ ch_K P i = 2) ∧ q.1 = 0) ∧ q'.2.1 = q.2.1 ∧ q'.2.2.2 = q.2.2.2) ∨ ((i < ch_n P ∧ (ch_K P i = 1 ∨ ch_K P i = 2) ∧ q.1 = 0) ∧ q.2.1 < 6 ∧ q'.2.1 = q.2.1 + 1 ∧ ch_sh P i o ≠ 0 ∧ al q.2.1 o = true ∧ q' = (0, q.2.1 + 1, ch_chg q.2.2.1 (ch_V P i) o, q.2.2.2.1 * ch_sh P i o, q.2.2.2.2)) := by
  by_cases hr : i < ch_n P ∧ (ch_K P i = 1 ∨ ch_K P i = 2) ∧ q.1 = 0
  · refine Or.inr ⟨hr, ?_⟩
    rw [ch_s0_r hr.1 hr.2.1, if_pos hr.2.2] at h
    by_cases h6 : 6 ≤ q.2.1
    · rw [if_pos h6] at h; cases h
    · rw [if_neg h6] at h
      by_cases h0 : ch_sh P i o = 0
      · rw [if_pos h0] at h; cases h
      · rw [if_neg h0] at h
        by_cases ha : al q.2.1 o = true
        · rw [if_pos ha] at h
          injection h with h
          subst h
          exact ⟨by omega, rfl, h0, ha, rfl⟩
        · rw [if_neg ha] at h; cases h
  · refine Or.inl ⟨hr, ?_⟩
    by_cases hi : i < ch_n P
    · by_cases h0 : ch_K P i = 0
      · rw [ch_s0_0 hi h0] at h
        injection h with h
        subst h
        split <;> exact ⟨rfl, rfl⟩
      · by_cases h12 : ch_K P i = 1 ∨ ch_K P i = 2
        · rw [ch_s0_r hi h12, if_neg (fun z => hr ⟨hi, h12, z⟩)] at h
          injection h with h
          rw [h]
          exact ⟨rfl, rfl⟩
        · by_cases h3 : ch_K P i = 3
          · rw [ch_s0_3 hi h3] at h
            split at h
            · cases h
            · injection h with h
              rw [h]
              exact ⟨rfl, rfl⟩
          · by_cases h4 : ch_K P i = 4
            · rw [ch_s0_4 hi h4] at h
              injection h with h
              subst h
              split <;> exact ⟨rfl, rfl⟩
            · by_cases h5 : ch_K P i = 5
              · rw [ch_s0_5 hi h5] at h
                injection h with h
                subst h
                split
                · exact ⟨rfl, rfl⟩
                · split <;> exact ⟨rfl, rfl⟩
              · by_cases h6 : ch_K P i = 6
                · rw [ch_s0_6 hi h6] at h
                  injection h with h
                  rw [h]
                  exact ⟨rfl, rfl⟩
                · by_cases h7 : ch_K P i = 7
                  · rw [ch_s0_7 hi h7] at h
                    injection h with h
                    subst h
                    split <;> exact ⟨rfl, rfl⟩
                  · rw [ch_s0_8 (fun _ => by omega)] at h
                    injection h with h
                    subst h
                    unfold ch_e0
                    split
                    · exact ⟨rfl, rfl⟩
                    · split
                      · exact ⟨rfl, rfl⟩
                      · split <;> exact ⟨rfl, rfl⟩
    · rw [ch_s0_8 (fun z => absurd z hi)] at h
      injection h with h
      subst h
      unfold ch_e0
      split
      · exact ⟨rfl, rfl⟩
      · split
        · exact ⟨rfl, rfl⟩
        · split <;> exact ⟨rfl, rfl⟩
theorem ch_iq_1 (P : ch_P) (i : Nat) (q : ch_Q) : (ch_iq P i q).1 = q.1 := by
  unfold ch_iq
  split <;> rfl
theorem ch_iq_k (P : ch_P) (i : Nat) (q : ch_Q) : (ch_iq P i q).2.1 = q.2.1 := by
  unfold ch_iq
  split <;> rfl
theorem ch_iq_s (P : ch_P) (i : Nat) (q : ch_Q) : (ch_iq P i q).2.2.1 = q.2.2.1 := by
  unfold ch_iq
  split <;> rfl
theorem ch_iq_w (P : ch_P) (i : Nat) (q : ch_Q) : (ch_iq P i q).2.2.2.1 = q.2.2.2.1 := by
  unfold ch_iq
  split <;> rfl
def ch_rn (al : Nat → Nat → Bool) (P : ch_P) : Nat → Nat → List (Nat × Nat) → ch_Q → (Nat → Nat) → Except Nat ch_Q
  | 0, _, _, q, _ => .ok q
  | T + 1, i, st, q, o => if ch_n P ≤ i ∧ st.length = 0 then .ok q else
      match ch_s0 al P i st (ch_iq P i q) (o q.2.1) with
      | .error e => .error e
      | .ok q' => ch_rn al P T (ch_ct P i st).1 (ch_ct P i st).2 q' o
section
variable {al : Nat → Nat → Bool} {P : ch_P} {T i : Nat} {st : List (Nat × Nat)} {q : ch_Q} {o : Nat → Nat}
theorem ch_rn_d (h : ch_n P ≤ i ∧ st.length = 0) : ch_rn al P T i st q o = .ok q := by
  cases T with
  | zero => rfl
  | succ T => exact if_pos h
theorem ch_rn_e (h : ¬ (ch_n P ≤ i ∧ st.length = 0)) {e : Nat} (hs : ch_s0 al P i st (ch_iq P i q) (o q.2.1) = .error e) : ch_rn al P (T + 1) i st q o = .error e := by
  show (if ch_n P ≤ i ∧ st.length = 0 then _ else _) = _
  rw [if_neg h, hs]
theorem ch_rn_o (h : ¬ (ch_n P ≤ i ∧ st.length = 0)) {q' : ch_Q} (hs : ch_s0 al P i st (ch_iq P i q) (o q.2.1) = .ok q') : ch_rn al P (T + 1) i st q o = ch_rn al P T (ch_ct P i st).1 (ch_ct P i st).2 q' o := by
  show (if ch_n P ≤ i ∧ st.length = 0 then _ else _) = _
  rw [if_neg h, hs]
end
theorem ch_rn_mono {al : Nat → Nat → Bool} {P : ch_P} : ∀ (T i : Nat) (st : List (Nat × Nat)) (q q' : ch_Q) (o : Nat → Nat), ch_rn al P T i st q o = .ok q' → q.2.1 ≤ q'.2.1 := by
  intro T
  induction T with
  | zero =>
    intro i st q q' o h
    injection h with h
    rw [h]
    exact Nat.le_refl _
  | succ T ih =>
    intro i st q q' o h
    by_cases hd : ch_n P ≤ i ∧ st.length = 0
    · rw [ch_rn_d hd] at h
      injection h with h
      rw [h]
      exact Nat.le_refl _
    · cases hs : ch_s0 al P i st (ch_iq P i q) (o q.2.1) with
      | error e => rw [ch_rn_e hd hs] at h; cases h
      | ok q1 =>
        rw [ch_rn_o hd hs] at h
        have h1 := ih _ _ _ _ _ h
        have h2 := ch_s0_k hs
        rw [ch_iq_k] at h2
        omega
/-- a run looks only at the outcomes that it uses -/
theorem ch_rn_ext {al : Nat → Nat → Bool} {P : ch_P} : ∀ (T i : Nat) (st : List (Nat × Nat)) (q : ch_Q) (o o' : Nat → Nat), (∀ j, q.2.1 ≤ j → j < 6 → o j = o' j) → ch_rn al P T i st q o = ch_rn al P T i st q o' := by
  intro T
  induction T with
  | zero => intro i st q o o' _; rfl
  | succ T ih =>
    intro i st q o o' ho
    by_cases hd : ch_n P ≤ i ∧ st.length = 0
    · rw [ch_rn_d hd, ch_rn_d hd]
    · have e : ch_s0 al P i st (ch_iq P i q) (o q.2.1) = ch_s0 al P i st (ch_iq P i q) (o' q.2.1) := by
        by_cases hr : i < ch_n P ∧ (ch_K P i = 1 ∨ ch_K P i = 2) ∧ (ch_iq P i q).1 = 0
        · by_cases h6 : 6 ≤ q.2.1
          · rw [ch_s0_r hr.1 hr.2.1, ch_s0_r hr.1 hr.2.1, if_pos hr.2.2, if_pos hr.2.2, ch_iq_k, if_pos h6, if_pos h6]
          · rw [ho _ (Nat.le_refl _) (by omega)]
        · exact ch_s0_o hr _
      cases hs : ch_s0 al P i st (ch_iq P i q) (o q.2.1) with
      | error x => rw [ch_rn_e hd hs, ch_rn_e hd (e.symm.trans hs)]
      | ok q1 =>
        rw [ch_rn_o hd hs, ch_rn_o hd (e.symm.trans hs)]
        refine ih _ _ _ _ _ (fun j hj => ho j ?_)
        have h2 := ch_s0_k hs
        rw [ch_iq_k] at h2
        omega
/-- a run that ends looks only at its first outcomes, as many as it has random steps -/
theorem ch_rn_pre {al : Nat → Nat → Bool} {P : ch_P} : ∀ (T i : Nat) (st : List (Nat × Nat)) (q q' : ch_Q) (o o' : Nat → Nat), ch_rn al P T i st q o = .ok q' → (∀ j, j < q'.2.1 → o j = o' j) → ch_rn al P T i st q o' = .ok q' := by
  intro T
  induction T with
  | zero => intro i st q q' o o' h _; exact h
  | succ T ih =>
    intro i st q q' o o' h ho
    by_cases hd : ch_n P ≤ i ∧ st.length = 0
    · rw [ch_rn_d hd] at h
      rw [ch_rn_d hd]
      exact h
    · cases hs : ch_s0 al P i st (ch_iq P i q) (o q.2.1) with
      | error x => rw [ch_rn_e hd hs] at h; cases h
      | ok q1 =>
        rw [ch_rn_o hd hs] at h
        have hm := ch_rn_mono _ _ _ _ _ _ h
        have e : ch_s0 al P i st (ch_iq P i q) (o' q.2.1) = .ok q1 := by
          have h2 := ch_s0_k hs
          rcases h2 with h2 | h2
          · rw [← hs]
            exact ch_s0_o h2.1 _
          · rw [ch_iq_k] at h2
            rw [← ho q.2.1 (by omega)]
            exact hs
        rw [ch_rn_o hd e]
        exact ih _ _ _ _ _ _ h ho
def ch_tl : Except Nat ch_Q → List ch_Q
  | .ok q => [q]
  | .error _ => []
def ch_cd (al : Nat → Nat → Bool) (P : ch_P) (i : Nat) (st : List (Nat × Nat)) (q : ch_Q) : List ch_Q :=
  if i < ch_n P ∧ (ch_K P i = 1 ∨ ch_K P i = 2) ∧ q.1 = 0 then [0, 1, 2, 3].flatMap (fun o => ch_tl (ch_s0 al P i st q o)) else ch_tl (ch_s0 al P i st q 0)
def ch_rs (al : Nat → Nat → Bool) (P : ch_P) : Nat → Nat → List (Nat × Nat) → List ch_Q → List ch_Q
  | 0, _, _, L => L
  | T + 1, i, st, L => if ch_n P ≤ i ∧ st.length = 0 then L else ch_rs al P T (ch_ct P i st).1 (ch_ct P i st).2 (L.flatMap (fun q => ch_cd al P i st (ch_iq P i q)))
theorem ch_rs_d {al : Nat → Nat → Bool} {P : ch_P} {T i : Nat} {st : List (Nat × Nat)} {L : List ch_Q} (h : ch_n P ≤ i ∧ st.length = 0) : ch_rs al P T i st L = L := by
  cases T with
  | zero => rfl
  | succ T => exact if_pos h
theorem ch_rs_o {al : Nat → Nat → Bool} {P : ch_P} {T i : Nat} {st : List (Nat × Nat)} {L : List ch_Q} (h : ¬ (ch_n P ≤ i ∧ st.length = 0)) : ch_rs al P (T + 1) i st L = ch_rs al P T (ch_ct P i st).1 (ch_ct P i st).2 (L.flatMap (fun q => ch_cd al P i st (ch_iq P i q))) := if_neg h
theorem ch_rs_fm {al : Nat → Nat → Bool} {P : ch_P} : ∀ (T i : Nat) (st : List (Nat × Nat)) (L : List ch_Q), ch_rs al P T i st L = L.flatMap (fun q => ch_rs al P T i st [q]) := by
  intro T
  induction T with
  | zero =>
    intro i st L
    exact (List.flatMap_singleton' L).symm
  | succ T ih =>
    intro i st L
    by_cases hd : ch_n P ≤ i ∧ st.length = 0
    · rw [ch_rs_d hd]
      have e : (fun q => ch_rs al P (T + 1) i st [q]) = fun q => [q] := funext fun q => ch_rs_d hd
      rw [e]
      exact (List.flatMap_singleton' L).symm
    · rw [ch_rs_o hd, ih, List.flatMap_assoc]
      have e : (fun q => ch_rs al P (T + 1) i st [q]) = fun q => (ch_cd al P i st (ch_iq P i q)).flatMap (fun q => ch_rs al P T (ch_ct P i st).1 (ch_ct P i st).2 [q]) := by
        funext q
        rw [ch_rs_o hd, List.flatMap_singleton, ih]
      rw [e]
theorem ch_rs_nil {al : Nat → Nat → Bool} {P : ch_P} {T i : Nat} {st : List (Nat × Nat)} : ch_rs al P T i st [] = [] := by
  rw [ch_rs_fm]
  rfl
theorem ch_fm_cg {α β : Type} {l : List α} {f g : α → List β} (h : ∀ a, a ∈ l → f a = g a) : l.flatMap f = l.flatMap g := by
  induction l with
  | nil => rfl
  | cons a l ih => rw [List.flatMap_cons, List.flatMap_cons, h a List.mem_cons_self, ih (fun b hb => h b (List.mem_cons_of_mem a hb))]
theorem ch_fm_nil {α β : Type} {l : List α} {f : α → List β} (h : ∀ a, a ∈ l → f a = []) : l.flatMap f = [] := by
  induction l with
  | nil => rfl
  | cons a l ih => rw [List.flatMap_cons, h a List.mem_cons_self, ih (fun b hb => h b (List.mem_cons_of_mem a hb))]; rfl
theorem ch_fm_one {β : Type} {N : Nat} (hN : 0 < N) (x : β) : (List.range N).flatMap (fun r => if r % N = 0 then [x] else []) = [x] := by
  obtain ⟨M, rfl⟩ : ∃ M, N = M + 1 := ⟨N - 1, by omega⟩
  rw [List.range_succ_eq_map, List.flatMap_cons, if_pos (Nat.zero_mod _), ch_fm_nil]
  · rfl
  · intro a ha
    obtain ⟨b, hb, rfl⟩ := List.mem_map.mp ha
    have := List.mem_range.mp hb
    rw [if_neg]
    rw [Nat.mod_eq_of_lt (by omega)]
    omega
theorem ch_range4 {β : Type} (M : Nat) (f : Nat → List β) : (List.range (4 * M)).flatMap f = [0, 1, 2, 3].flatMap (fun o => (List.range M).flatMap (fun r => f (o * M + r))) := by
  have e : 4 * M = M + (M + (M + M)) := by omega
  rw [e, List.range_add, List.range_add, List.range_add]
  simp only [List.flatMap_append, List.map_append, List.flatMap_map, List.map_map, List.flatMap_cons, List.flatMap_nil, List.append_nil]
  have e0 : (fun r => f (0 * M + r)) = f := by funext r; rw [Nat.zero_mul, Nat.zero_add]
  have e1 : (fun r => f (1 * M + r)) = fun r => f (M + r) := by funext r; rw [Nat.one_mul]
  have e2 : (fun r => f (2 * M + r)) = fun r => f (M + (M + r)) := by funext r; congr 1; omega
  have e3 : (fun r => f (3 * M + r)) = fun r => f (M + (M + (M + r))) := by funext r; congr 1; omega
  rw [e0, e1, e2, e3]
  rfl
/-- the outcomes of a row, the first one the most significant -/
def ch_dg (r j : Nat) : Nat := r / 4 ^ (5 - j) % 4
def ch_kq (r : Nat) : Except Nat ch_Q → List ch_Q
  | .error _ => []
  | .ok q => if r % 4 ^ (6 - q.2.1) = 0 then [q] else []
theorem ch_FL {al : Nat → Nat → Bool} {P : ch_P} : ∀ (T i : Nat) (st : List (Nat × Nat)) (q : ch_Q), q.2.1 ≤ 6 → ch_rs al P T i st [q] = (List.range (4 ^ (6 - q.2.1))).flatMap (fun r => ch_kq r (ch_rn al P T i st q (ch_dg r))) := by
  intro T
  induction T with
  | zero =>
    intro i st q _
    exact (ch_fm_one (Nat.pow_pos (by decide)) q).symm
  | succ T ih =>
    intro i st q hk
    by_cases hd : ch_n P ≤ i ∧ st.length = 0
    · rw [ch_rs_d hd]
      have e : (fun r => ch_kq r (ch_rn al P (T + 1) i st q (ch_dg r))) = fun r => if r % 4 ^ (6 - q.2.1) = 0 then [q] else [] := by
        funext r
        rw [ch_rn_d hd]
        rfl
      rw [e, ch_fm_one (Nat.pow_pos (by decide)) q]
    · rw [ch_rs_o hd, List.flatMap_singleton]
      by_cases hr : i < ch_n P ∧ (ch_K P i = 1 ∨ ch_K P i = 2) ∧ (ch_iq P i q).1 = 0
      · have ec : ch_cd al P i st (ch_iq P i q) = [0, 1, 2, 3].flatMap (fun o => ch_tl (ch_s0 al P i st (ch_iq P i q) o)) := if_pos hr
        by_cases h6 : 6 ≤ q.2.1
        · have es : ∀ o, ch_s0 al P i st (ch_iq P i q) o = .error 3 := fun o => by
            rw [ch_s0_r hr.1 hr.2.1, if_pos hr.2.2, ch_iq_k, if_pos h6]
          have en : [0, 1, 2, 3].flatMap (fun o => ch_tl (ch_s0 al P i st (ch_iq P i q) o)) = [] := ch_fm_nil (fun o _ => by rw [es]; rfl)
          rw [ec, en, ch_rs_nil]
          refine (ch_fm_nil (fun r _ => ?_)).symm
          rw [ch_rn_e hd (es _)]
          rfl
        · have e4 : 4 ^ (6 - q.2.1) = 4 * 4 ^ (5 - q.2.1) := by
            rw [show 6 - q.2.1 = (5 - q.2.1) + 1 by omega, Nat.pow_succ, Nat.mul_comm]
          rw [ec, ch_rs_fm, List.flatMap_assoc, e4, ch_range4]
          refine ch_fm_cg (fun o ho => ?_)
          have ho4 : o < 4 := by
            simp only [List.mem_cons, List.not_mem_nil, or_false] at ho
            omega
          have hM : 0 < 4 ^ (5 - q.2.1) := Nat.pow_pos (by decide)
          have edg : ∀ r, r < 4 ^ (5 - q.2.1) → ch_dg (o * 4 ^ (5 - q.2.1) + r) q.2.1 = o := fun r hr2 => by
            unfold ch_dg
            rw [Nat.mul_comm, Nat.mul_add_div hM, Nat.div_eq_of_lt hr2, Nat.add_zero, Nat.mod_eq_of_lt ho4]
          cases hs : ch_s0 al P i st (ch_iq P i q) o with
          | error x =>
            refine Eq.trans (b := ([] : List ch_Q)) rfl (ch_fm_nil (fun r hr2 => ?_)).symm
            rw [ch_rn_e hd (by rw [edg r (List.mem_range.mp hr2)]; exact hs)]
            rfl
          | ok q1 =>
            have h2 := ch_s0_k hs
            rw [ch_iq_k] at h2
            have hk1 : q1.2.1 = q.2.1 + 1 := by
              rcases h2 with h2 | h2
              · exact absurd hr h2.1
              · exact h2.2.2.1
            show List.flatMap _ [q1] = _
            rw [List.flatMap_singleton, ih _ _ _ (by omega), show 6 - q1.2.1 = 5 - q.2.1 by omega]
            refine ch_fm_cg (fun r hr2 => ?_)
            have hrM := List.mem_range.mp hr2
            rw [ch_rn_o hd (by rw [edg r hrM]; exact hs)]
            have ex : ch_rn al P T (ch_ct P i st).1 (ch_ct P i st).2 q1 (ch_dg r) = ch_rn al P T (ch_ct P i st).1 (ch_ct P i st).2 q1 (ch_dg (o * 4 ^ (5 - q.2.1) + r)) := by
              refine ch_rn_ext _ _ _ _ _ _ (fun j hj hj6 => ?_)
              unfold ch_dg
              have e5 : o * 4 ^ (5 - q.2.1) = 4 ^ (5 - j) * (4 * (o * 4 ^ (j - q.2.1 - 1))) := by
                rw [show 5 - q.2.1 = (5 - j) + (1 + (j - q.2.1 - 1)) by omega, Nat.pow_add, Nat.pow_add, Nat.pow_one]
                simp only [Nat.mul_assoc, Nat.mul_comm, Nat.mul_left_comm]
              rw [e5, Nat.mul_add_div (Nat.pow_pos (by decide)), Nat.mul_add_mod]
            rw [← ex]
            cases hx : ch_rn al P T (ch_ct P i st).1 (ch_ct P i st).2 q1 (ch_dg r) with
            | error x => rfl
            | ok q2 =>
              have hm := ch_rn_mono _ _ _ _ _ _ hx
              have e6 : (o * 4 ^ (5 - q.2.1) + r) % 4 ^ (6 - q2.2.1) = r % 4 ^ (6 - q2.2.1) := by
                have e7 : o * 4 ^ (5 - q.2.1) = 4 ^ (6 - q2.2.1) * (o * 4 ^ (5 - q.2.1 - (6 - q2.2.1))) := by
                  rw [show 4 ^ (5 - q.2.1) = 4 ^ (6 - q2.2.1) * 4 ^ (5 - q.2.1 - (6 - q2.2.1)) by rw [← Nat.pow_add]; congr 1; omega]
                  simp only [Nat.mul_assoc, Nat.mul_comm, Nat.mul_left_comm]
                rw [e7, Nat.mul_add_mod]
              show (if _ then _ else _) = (if _ then _ else _)
              rw [e6]
      · have ec : ch_cd al P i st (ch_iq P i q) = ch_tl (ch_s0 al P i st (ch_iq P i q) 0) := if_neg hr
        rw [ec]
        cases hs : ch_s0 al P i st (ch_iq P i q) 0 with
        | error x =>
          show ch_rs al P T _ _ [] = _
          rw [ch_rs_nil]
          refine (ch_fm_nil (fun r _ => ?_)).symm
          rw [ch_rn_e hd ((ch_s0_o hr 0).trans hs)]
          rfl
        | ok q1 =>
          have h2 := ch_s0_k hs
          rw [ch_iq_k] at h2
          have hk1 : q1.2.1 = q.2.1 := by
            rcases h2 with h2 | h2
            · exact h2.2.1
            · exact absurd h2.1 hr
          show ch_rs al P T _ _ [q1] = _
          rw [ih _ _ _ (by omega), hk1]
          refine ch_fm_cg (fun r _ => ?_)
          rw [ch_rn_o hd ((ch_s0_o hr 0).trans hs)]
end
section
/-! own rows: what holds of every run; the mass -/
def ch_qi (d : Nat) (q : ch_Q) : Prop := q.1 ≤ d ∧ q.2.1 ≤ 6 ∧ q.2.2.1 < 64 ∧ 0 < q.2.2.2.1 ∧ q.2.2.2.1 ≤ 16 ^ q.2.1
theorem ch_chg_lt : ∀ s, s < 64 → ∀ v, v < 3 → ∀ x, x < 4 → ch_chg s v x < 64 := by decide +kernel
theorem ch_ll_le (P : ch_P) : ∀ st : List (Nat × Nat), ch_ll P st ≤ st.length := by
  intro st
  induction st with
  | nil => exact Nat.le_refl 0
  | cons e l ih =>
    show (if ch_K P e.1 = 6 then l.length + 1 else ch_ll P l) ≤ l.length + 1
    split <;> omega
theorem ch_mk_len (l : List (Nat × Nat)) : (ch_mk l).length = l.length := by
  cases l <;> rfl
theorem ch_qi_iq {P : ch_P} {i d : Nat} {q : ch_Q} (h : ch_qi d q) : ch_qi d (ch_iq P i q) := by
  unfold ch_qi
  rw [ch_iq_1, ch_iq_k, ch_iq_s, ch_iq_w]
  exact h
theorem ch_sh_le {P : ch_P} {i o : Nat} (h : ch_dat P i) (hr : ch_K P i = 1 ∨ ch_K P i = 2) : ch_sh P i o ≤ 16 := by
  unfold ch_sh
  split
  · decide
  · have := h.2.2.1 (by omega)
    split
    · exact this
    · split <;> omega
theorem ch_qi_s {al : Nat → Nat → Bool} {P : ch_P} (w : ch_wf P) {i : Nat} {st : List (Nat × Nat)} {q q' : ch_Q} {o : Nat} (hv : ch_iv P i st) (hd : i < ch_n P ∨ st ≠ []) (ho : o < 4) (hq : ch_qi st.length q) (h : ch_s0 al P i st q o = .ok q') : ch_qi (ch_ct P i st).2.length q' := by
  obtain ⟨q1, q2, q3, q4, q5⟩ := hq
  have hend : ∀ l : List (Nat × Nat), l = st → (i < ch_n P → ch_K P i = 8) → q' = ch_e0 P l q → ch_qi (ch_eb P i l).2.length q' := by
    intro l hl h8 e
    cases l with
    | nil =>
      rw [← hl] at hd
      rcases hd with hd | hd
      · have := (w.2 i hd).2.2.2.2 (h8 hd)
        have hr := ch_iv_lt hv hd
        rw [← hl] at hr
        exact absurd (ch_rt_n hr) this
      · exact absurd rfl hd
    | cons a l =>
      have hlen : st.length = l.length + 1 := by rw [← hl]; rfl
      by_cases hc : ch_K P a.1 = 6 ∧ 1 < a.2
      · rw [ch_eb_l hc]
        have e1 : ch_e0 P (a :: l) q = q := if_pos hc
        rw [e, e1]
        exact ⟨by show q.1 ≤ l.length + 1; omega, q2, q3, q4, q5⟩
      · rw [ch_eb_x hc]
        have e1 : ch_e0 P (a :: l) q = if q.1 = l.length + 1 then (0, q.2) else q := if_neg hc
        rw [e, e1]
        by_cases hp : q.1 = l.length + 1
        · rw [if_pos hp]
          exact ⟨Nat.zero_le _, q2, q3, q4, q5⟩
        · rw [if_neg hp]
          exact ⟨by show q.1 ≤ l.length; omega, q2, q3, q4, q5⟩
  by_cases hi : i < ch_n P
  · have hw := (w.2 i hi).1
    by_cases h0 : ch_K P i = 0
    · rw [ch_s0_0 hi h0] at h
      injection h with h
      subst h
      rw [ch_ct_s hi (by omega) (by omega) (by omega) (by omega)]
      split
      · exact ⟨Nat.zero_le _, q2, ch_chg_lt _ q3 _ (by have := hw.2.1 (by omega); omega) _ (by have := hw.2.2.2.2 q.2.2.1; omega), q4, q5⟩
      · exact ⟨q1, q2, q3, q4, q5⟩
    · by_cases h12 : ch_K P i = 1 ∨ ch_K P i = 2
      · rw [ch_ct_s hi (by omega) (by omega) (by omega) (by omega)]
        rcases ch_s0_k h with h2 | h2
        · rw [ch_s0_r hi h12, if_neg (fun z => h2.1 ⟨hi, h12, z⟩)] at h
          injection h with h
          rw [← h]
          exact ⟨q1, q2, q3, q4, q5⟩
        · rw [h2.2.2.2.2.2]
          have h0 := h2.2.2.2.1
          have hle := ch_sh_le (o := o) hw h12
          refine ⟨Nat.zero_le _, by show q.2.1 + 1 ≤ 6; omega, ch_chg_lt _ q3 _ (by have := hw.2.1 (by omega); omega) _ ho, Nat.mul_pos q4 (by omega), ?_⟩
          show q.2.2.2.1 * ch_sh P i o ≤ 16 ^ (q.2.1 + 1)
          rw [Nat.pow_succ]
          exact Nat.mul_le_mul q5 hle
      · by_cases h3 : ch_K P i = 3
        · rw [ch_s0_3 hi h3] at h
          rw [ch_ct_s hi (by omega) (by omega) (by omega) (by omega)]
          split at h
          · cases h
          · injection h with h
            rw [← h]
            exact ⟨q1, q2, q3, q4, q5⟩
        · by_cases h4 : ch_K P i = 4
          · rw [ch_s0_4 hi h4] at h
            injection h with h
            subst h
            rw [ch_ct_4 hi h4]
            split
            · exact ⟨Nat.le_refl _, q2, q3, q4, q5⟩
            · exact ⟨by show q.1 ≤ st.length + 1; omega, q2, q3, q4, q5⟩
          · by_cases h5 : ch_K P i = 5
            · rw [ch_s0_5 hi h5] at h
              injection h with h
              subst h
              rw [ch_ct_5 hi h5]
              show ch_qi (ch_mk st).length _
              rw [ch_mk_len]
              split
              · exact ⟨Nat.le_refl _, q2, q3, q4, q5⟩
              · split
                · exact ⟨Nat.zero_le _, q2, q3, q4, q5⟩
                · exact ⟨q1, q2, q3, q4, q5⟩
            · by_cases h6 : ch_K P i = 6
              · rw [ch_s0_6 hi h6] at h
                injection h with h
                rw [← h, ch_ct_6 hi h6]
                exact ⟨by show q.1 ≤ st.length + 1; omega, q2, q3, q4, q5⟩
              · by_cases h7 : ch_K P i = 7
                · rw [ch_s0_7 hi h7] at h
                  injection h with h
                  subst h
                  rw [ch_ct_s hi (by omega) (by omega) (by omega) (by omega)]
                  split
                  · exact ⟨ch_ll_le P st, q2, q3, q4, q5⟩
                  · exact ⟨q1, q2, q3, q4, q5⟩
                · have h8 : ch_K P i = 8 := by
                    have := hw.1
                    omega
                  rw [ch_s0_8 (fun _ => by omega)] at h
                  injection h with h
                  rw [ch_ct_8 hi h8]
                  exact hend st rfl (fun _ => h8) h.symm
  · rw [ch_s0_8 (fun z => absurd z hi)] at h
    injection h with h
    rw [ch_ct_e hi]
    exact hend st rfl (fun z => absurd z hi) h.symm
theorem ch_dn_of {P : ch_P} (w : ch_wf P) {i : Nat} {st : List (Nat × Nat)} (hv : ch_iv P i st) (hm : ch_mu P i st = 0) : ch_n P ≤ i ∧ st.length = 0 := by
  by_cases hd : i < ch_n P ∨ st ≠ []
  · have := ch_mu_ct w hv hd
    omega
  · refine ⟨Nat.le_of_not_lt (fun z => hd (Or.inl z)), ?_⟩
    cases st with
    | nil => rfl
    | cons e l => exact absurd (Or.inr (fun z => nomatch z)) hd
theorem ch_nd_of {P : ch_P} {i : Nat} {st : List (Nat × Nat)} (h : ¬ (ch_n P ≤ i ∧ st.length = 0)) : i < ch_n P ∨ st ≠ [] := by
  by_cases hi : i < ch_n P
  · exact Or.inl hi
  · refine Or.inr (fun z => h ⟨Nat.le_of_not_lt hi, ?_⟩)
    rw [z]
    rfl
theorem ch_rn_fin {al : Nat → Nat → Bool} {P : ch_P} (w : ch_wf P) {o : Nat → Nat} (ho : ∀ j, o j < 4) : ∀ (T i : Nat) (st : List (Nat × Nat)) (q q' : ch_Q), ch_iv P i st → ch_mu P i st ≤ T → ch_qi st.length q → ch_rn al P T i st q o = .ok q' → ch_qi 0 q' := by
  intro T
  induction T with
  | zero =>
    intro i st q q' hv hm hq h
    have hd := ch_dn_of w hv (by omega)
    rw [hd.2] at hq
    injection h with h
    rw [← h]
    exact hq
  | succ T ih =>
    intro i st q q' hv hm hq h
    by_cases hd : ch_n P ≤ i ∧ st.length = 0
    · rw [ch_rn_d hd] at h
      injection h with h
      rw [← h, ← hd.2]
      exact hq
    · have hn := ch_nd_of hd
      cases hs : ch_s0 al P i st (ch_iq P i q) (o q.2.1) with
      | error e => rw [ch_rn_e hd hs] at h; cases h
      | ok q1 =>
        rw [ch_rn_o hd hs] at h
        have := ch_mu_ct w hv hn
        exact ih _ _ _ _ (ch_iv_ct w hv hn) (by omega) (ch_qi_s w hv hn (ho _) (ch_qi_iq hq) hs) h
theorem ch_iq_m (P : ch_P) (i : Nat) (q : ch_Q) (j : Nat) : (ch_iq P i q).2.2.2.2 j ≤ q.2.2.2.2 j + 1 := by
  unfold ch_iq
  split
  · show (if j = i then q.2.2.2.2 j + 1 else q.2.2.2.2 j) ≤ _
    split <;> omega
  · omega
theorem ch_iq_mn (P : ch_P) (i : Nat) (q : ch_Q) (j : Nat) (h : ch_n P ≤ j) : (ch_iq P i q).2.2.2.2 j = q.2.2.2.2 j := by
  unfold ch_iq
  split
  · rename_i hc
    show (if j = i then q.2.2.2.2 j + 1 else q.2.2.2.2 j) = _
    rw [if_neg (by omega)]
  · rfl
theorem ch_s0_m {al : Nat → Nat → Bool} {P : ch_P} {i : Nat} {st : List (Nat × Nat)} {q q' : ch_Q} {o : Nat} (h : ch_s0 al P i st q o = .ok q') : q'.2.2.2.2 = q.2.2.2.2 := by
  rcases ch_s0_k h with h2 | h2
  · rw [h2.2.2]
  · rw [h2.2.2.2.2.2]
theorem ch_rn_met {al : Nat → Nat → Bool} {P : ch_P} : ∀ (T i : Nat) (st : List (Nat × Nat)) (q q' : ch_Q) (o : Nat → Nat), ch_rn al P T i st q o = .ok q' → ∀ j, q'.2.2.2.2 j ≤ q.2.2.2.2 j + T ∧ (ch_n P ≤ j → q'.2.2.2.2 j = q.2.2.2.2 j) := by
  intro T
  induction T with
  | zero =>
    intro i st q q' o h j
    injection h with h
    rw [h]
    exact ⟨Nat.le_refl _, fun _ => rfl⟩
  | succ T ih =>
    intro i st q q' o h j
    by_cases hd : ch_n P ≤ i ∧ st.length = 0
    · rw [ch_rn_d hd] at h
      injection h with h
      rw [h]
      exact ⟨by omega, fun _ => rfl⟩
    · cases hs : ch_s0 al P i st (ch_iq P i q) (o q.2.1) with
      | error e => rw [ch_rn_e hd hs] at h; cases h
      | ok q1 =>
        rw [ch_rn_o hd hs] at h
        have h1 := ih _ _ _ _ _ h j
        rw [ch_s0_m hs] at h1
        have h2 := ch_iq_m P i q j
        refine ⟨by omega, fun z => ?_⟩
        rw [h1.2 z, ch_iq_mn P i q j z]
def ch_W (q : ch_Q) : Nat := q.2.2.2.1 * 16 ^ (6 - q.2.1)
theorem ch_cd_ms {al : Nat → Nat → Bool} {P : ch_P} (w : ch_wf P) {i : Nat} {st : List (Nat × Nat)} {q : ch_Q} : ch_bg false (ch_cd al P i st q) ch_W ≤ ch_W q := by
  by_cases hr : i < ch_n P ∧ (ch_K P i = 1 ∨ ch_K P i = 2) ∧ q.1 = 0
  · have ec : ch_cd al P i st q = [0, 1, 2, 3].flatMap (fun o => ch_tl (ch_s0 al P i st q o)) := if_pos hr
    rw [ec, ch_bg_fm]
    have hone : ∀ o, ch_bg false (ch_tl (ch_s0 al P i st q o)) ch_W ≤ q.2.2.2.1 * (ch_sh P i o * 16 ^ (5 - q.2.1)) ∧ (6 ≤ q.2.1 → ch_bg false (ch_tl (ch_s0 al P i st q o)) ch_W = 0) := fun o => by
      cases hs : ch_s0 al P i st q o with
      | error e => exact ⟨Nat.zero_le _, fun _ => rfl⟩
      | ok q1 =>
        rcases ch_s0_k hs with h2 | h2
        · exact absurd hr h2.1
        · refine ⟨?_, fun z => absurd h2.2.1 (by omega)⟩
          show ch_bg false [q1] ch_W ≤ _
          rw [ch_bg_1, h2.2.2.2.2.2]
          show q.2.2.2.1 * ch_sh P i o * 16 ^ (6 - (q.2.1 + 1)) ≤ _
          rw [show 6 - (q.2.1 + 1) = 5 - q.2.1 by omega, Nat.mul_assoc]
          exact Nat.le_refl _
    have e4 : ch_bg false [0, 1, 2, 3] (fun o => ch_bg false (ch_tl (ch_s0 al P i st q o)) ch_W) = ch_bg false (ch_tl (ch_s0 al P i st q 0)) ch_W + (ch_bg false (ch_tl (ch_s0 al P i st q 1)) ch_W + (ch_bg false (ch_tl (ch_s0 al P i st q 2)) ch_W + (ch_bg false (ch_tl (ch_s0 al P i st q 3)) ch_W + 0))) := rfl
    rw [e4]
    have h0 := hone 0
    have h1 := hone 1
    have h2 := hone 2
    have h3 := hone 3
    by_cases h6 : 6 ≤ q.2.1
    · rw [h0.2 h6, h1.2 h6, h2.2 h6, h3.2 h6]
      exact Nat.zero_le _
    · have hsum : ch_sh P i 0 + ch_sh P i 1 + ch_sh P i 2 + ch_sh P i 3 = 16 := by
        unfold ch_sh
        by_cases hk : ch_K P i = 2
        · rw [if_pos hk, if_pos hk, if_pos hk, if_pos hk]
        · have := (w.2 i hr.1).1.2.2.1 (by omega)
          rw [if_neg hk, if_neg hk, if_neg hk, if_neg hk]
          show (16 - ch_S P i) + ch_S P i + 0 + 0 = 16
          omega
      have hW : ch_W q = q.2.2.2.1 * (ch_sh P i 0 * 16 ^ (5 - q.2.1)) + q.2.2.2.1 * (ch_sh P i 1 * 16 ^ (5 - q.2.1)) + q.2.2.2.1 * (ch_sh P i 2 * 16 ^ (5 - q.2.1)) + q.2.2.2.1 * (ch_sh P i 3 * 16 ^ (5 - q.2.1)) := by
        rw [← Nat.mul_add, ← Nat.mul_add, ← Nat.mul_add, ← Nat.add_mul, ← Nat.add_mul, ← Nat.add_mul, hsum]
        show q.2.2.2.1 * 16 ^ (6 - q.2.1) = _
        rw [show 6 - q.2.1 = (5 - q.2.1) + 1 by omega, Nat.pow_succ, Nat.mul_comm (16 ^ (5 - q.2.1)) 16]
      omega
  · have ec : ch_cd al P i st q = ch_tl (ch_s0 al P i st q 0) := if_neg hr
    rw [ec]
    cases hs : ch_s0 al P i st q 0 with
    | error e => exact Nat.zero_le _
    | ok q1 =>
      show ch_bg false [q1] ch_W ≤ _
      rw [ch_bg_1]
      rcases ch_s0_k hs with h2 | h2
      · unfold ch_W
        rw [h2.2.1, h2.2.2]
        exact Nat.le_refl _
      · exact absurd h2.1 hr
theorem ch_iq_W (P : ch_P) (i : Nat) (q : ch_Q) : ch_W (ch_iq P i q) = ch_W q := by
  unfold ch_W
  rw [ch_iq_w, ch_iq_k]
theorem ch_rs_ms {al : Nat → Nat → Bool} {P : ch_P} (w : ch_wf P) : ∀ (T i : Nat) (st : List (Nat × Nat)) (L : List ch_Q), ch_bg false (ch_rs al P T i st L) ch_W ≤ ch_bg false L ch_W := by
  intro T
  induction T with
  | zero => intro i st L; exact Nat.le_refl _
  | succ T ih =>
    intro i st L
    by_cases hd : ch_n P ≤ i ∧ st.length = 0
    · rw [ch_rs_d hd]
      exact Nat.le_refl _
    · rw [ch_rs_o hd]
      refine Nat.le_trans (ih _ _ _) ?_
      rw [ch_bg_fm]
      refine ch_bg_leS (fun q _ => ?_)
      have := ch_cd_ms (al := al) (i := i) (st := st) (q := ch_iq P i q) w
      rw [ch_iq_W] at this
      exact this
def ch_q0 : ch_Q := (0, 0, 0, 1, fun _ => 0)
/-- all runs that are kept, in the order of their rows -/
def ch_R (al : Nat → Nat → Bool) (P : ch_P) : List ch_Q := ch_rs al P 864 0 [] [ch_q0]
def ch_run (al : Nat → Nat → Bool) (P : ch_P) (o : Nat → Nat) : Except Nat ch_Q := ch_rn al P 864 0 [] ch_q0 o
theorem ch_dg_lt (r j : Nat) : ch_dg r j < 4 := Nat.mod_lt _ (by decide)
theorem ch_R_eq (al : Nat → Nat → Bool) (P : ch_P) : ch_R al P = (List.range 4096).flatMap (fun r => ch_kq r (ch_run al P (ch_dg r))) := ch_FL 864 0 [] ch_q0 (by decide)
theorem ch_kq_mem {r : Nat} {x : Except Nat ch_Q} {q : ch_Q} (h : q ∈ ch_kq r x) : x = .ok q ∧ r % 4 ^ (6 - q.2.1) = 0 := by
  cases x with
  | error e => cases h
  | ok q1 =>
    by_cases hr : r % 4 ^ (6 - q1.2.1) = 0
    · have e : ch_kq r (.ok q1) = [q1] := if_pos hr
      rw [e, List.mem_singleton] at h
      subst h
      exact ⟨rfl, hr⟩
    · have e : ch_kq r (.ok q1) = [] := if_neg hr
      rw [e] at h
      cases h
theorem ch_R_mem {al : Nat → Nat → Bool} {P : ch_P} {q : ch_Q} (h : q ∈ ch_R al P) : ∃ r, r < 4096 ∧ ch_run al P (ch_dg r) = .ok q ∧ r % 4 ^ (6 - q.2.1) = 0 := by
  rw [ch_R_eq] at h
  obtain ⟨r, hr, h2⟩ := List.mem_flatMap.mp h
  exact ⟨r, List.mem_range.mp hr, ch_kq_mem h2⟩
theorem ch_R_in {al : Nat → Nat → Bool} {P : ch_P} {q : ch_Q} {r : Nat} (hr : r < 4096) (h : ch_run al P (ch_dg r) = .ok q) (hz : r % 4 ^ (6 - q.2.1) = 0) : q ∈ ch_R al P := by
  rw [ch_R_eq]
  refine List.mem_flatMap.mpr ⟨r, List.mem_range.mpr hr, ?_⟩
  rw [h]
  show q ∈ (if r % 4 ^ (6 - q.2.1) = 0 then [q] else [])
  rw [if_pos hz]
  exact List.mem_singleton.mpr rfl
theorem ch_q0_qi : ch_qi 0 ch_q0 := ⟨Nat.le_refl 0, by decide, by decide, by decide, by decide⟩
theorem ch_run_qi {al : Nat → Nat → Bool} {P : ch_P} (w : ch_wf P) {o : Nat → Nat} (ho : ∀ j, o j < 4) {q : ch_Q} (h : ch_run al P o = .ok q) : ch_qi 0 q := ch_rn_fin w ho 864 0 [] ch_q0 q (ch_iv_0 P) (ch_mu_0 w) ch_q0_qi h
theorem ch_run_met {al : Nat → Nat → Bool} {P : ch_P} {o : Nat → Nat} {q : ch_Q} (h : ch_run al P o = .ok q) (j : Nat) : q.2.2.2.2 j ≤ 864 ∧ (ch_n P ≤ j → q.2.2.2.2 j = 0) := by
  have := ch_rn_met 864 0 [] ch_q0 q o h j
  have e : ch_q0.2.2.2.2 j = 0 := rfl
  rw [e] at this
  exact ⟨by omega, this.2⟩
theorem ch_R_qi {al : Nat → Nat → Bool} {P : ch_P} (w : ch_wf P) {q : ch_Q} (h : q ∈ ch_R al P) : ch_qi 0 q := by
  obtain ⟨r, _, h2, _⟩ := ch_R_mem h
  exact ch_run_qi w (ch_dg_lt r) h2
theorem ch_R_ms {al : Nat → Nat → Bool} {P : ch_P} (w : ch_wf P) : ch_bg false (ch_R al P) ch_W ≤ 16777216 := by
  have h := ch_rs_ms (al := al) w 864 0 [] [ch_q0]
  have e : ch_bg false [ch_q0] ch_W = 16777216 := by decide +kernel
  rw [e] at h
  exact h
theorem ch_W_le {q : ch_Q} {d : Nat} (h : ch_qi d q) : ch_W q ≤ 16777216 := by
  unfold ch_W
  have e : (16777216 : Nat) = 16 ^ q.2.1 * 16 ^ (6 - q.2.1) := by
    rw [← Nat.pow_add, show q.2.1 + (6 - q.2.1) = 6 by have := h.2.1; omega]
  rw [e]
  exact Nat.mul_le_mul_right _ h.2.2.2.2
end
section
/-! own rows: a machine that jumps against the run along the control -/
def ch_gd (P : ch_P) (st : List (Nat × Nat)) : Prop := st.length ≤ 3 ∧ ∀ e, e ∈ st → e.1 < ch_n P ∧ (ch_K P e.1 = 4 ∨ ch_K P e.1 = 6) ∧ (ch_K P e.1 = 6 → 1 ≤ e.2 ∧ e.2 ≤ 3)
theorem ch_iv_gd0 {P : ch_P} : ∀ (st : List (Nat × Nat)) (i : Nat), ch_iv P i st → ∀ e, e ∈ st → e.1 < ch_n P ∧ (ch_K P e.1 = 4 ∨ ch_K P e.1 = 6) ∧ (ch_K P e.1 = 6 → 1 ≤ e.2 ∧ e.2 ≤ 3) := by
  intro st
  induction st with
  | nil => intro i _ e he; cases he
  | cons a l ih =>
    intro i h e he
    have t := ch_iv_top h
    cases he with
    | head => exact ⟨t.1, t.2.2.1, t.2.2.2.2.2⟩
    | tail _ he => exact ih _ (ch_iv_low h) e he
theorem ch_iv_gd {P : ch_P} (w : ch_wf P) {st : List (Nat × Nat)} {i : Nat} (h : ch_iv P i st) : ch_gd P st := ⟨ch_iv_len w h, ch_iv_gd0 st i h⟩
theorem ch_gd_t {P : ch_P} {e : Nat × Nat} {l : List (Nat × Nat)} (h : ch_gd P (e :: l)) : ch_gd P l := ⟨by have h1 : l.length + 1 ≤ 3 := h.1; omega, fun a ha => h.2 a (List.mem_cons_of_mem e ha)⟩
theorem ch_gd_a {P : ch_P} {l : List (Nat × Nat)} : ∀ {up : List (Nat × Nat)}, ch_gd P (up ++ l) → ch_gd P l := by
  intro up
  induction up with
  | nil => exact fun h => h
  | cons e up ih => exact fun h => ih (ch_gd_t h)
/-- where a machine that jumps goes from a block that it leaves -/
def ch_tg (P : ch_P) (e : Nat × Nat) (low : List (Nat × Nat)) : Nat × List (Nat × Nat) :=
  if ch_K P e.1 = 6 then (ch_beh P (ch_fd P false e.1), low)
  else if e.2 = 0 then (if ch_fd P true e.1 < ch_n P ∧ ch_K P (ch_fd P true e.1) = 5 then (ch_fd P true e.1 + 1, (e.1, 1) :: low) else (ch_beh P (ch_fd P true e.1), low))
  else (ch_fd P false e.1, (e.1, 1) :: low)
def ch_sm (P : ch_P) (i : Nat) (st : List (Nat × Nat)) (pl y : Nat) (yst : List (Nat × Nat)) : Prop :=
  (pl = 0 ∧ y = i ∧ yst = st) ∨ (∃ up e low, st = up ++ e :: low ∧ pl = low.length + 1 ∧ y = (ch_tg P e low).1 ∧ yst = (ch_tg P e low).2)
theorem ch_lp {P : ch_P} : ∀ (st : List (Nat × Nat)), (∃ e, e ∈ st ∧ ch_K P e.1 = 6) → ∃ up e low, st = up ++ e :: low ∧ (∀ u, u ∈ up → ch_K P u.1 ≠ 6) ∧ ch_K P e.1 = 6 ∧ ch_ll P st = low.length + 1 := by
  intro st
  induction st with
  | nil =>
    intro h
    obtain ⟨e, he, _⟩ := h
    cases he
  | cons a l ih =>
    intro h
    by_cases ha : ch_K P a.1 = 6
    · exact ⟨[], a, l, rfl, (fun u hu => by cases hu), ha, if_pos ha⟩
    · obtain ⟨e, he, h6⟩ := h
      cases he with
      | head => exact absurd h6 ha
      | tail _ he =>
        obtain ⟨up, e', low, e1, e2, e3, e4⟩ := ih ⟨e, he, h6⟩
        refine ⟨a :: up, e', low, by rw [e1]; rfl, fun u hu => ?_, e3, ?_⟩
        · cases hu with
          | head => exact ha
          | tail _ hu => exact e2 u hu
        · have e5 : ch_ll P (a :: l) = ch_ll P l := if_neg ha
          rw [e5, e4]
theorem ch_rt_loop {P : ch_P} : ∀ {l l2 : List (Nat × Nat)}, ch_rt P l l2 → (∃ e, e ∈ l2 ∧ ch_K P e.1 = 6) → ∃ e, e ∈ l ∧ ch_K P e.1 = 6 := by
  intro l
  induction l with
  | nil =>
    intro l2 h hx
    rw [ch_rt_n h] at hx
    obtain ⟨e, he, _⟩ := hx
    cases he
  | cons a l ih =>
    intro l2 h hx
    obtain ⟨f, l', rfl, _, _, h4⟩ := ch_rt_c h
    obtain ⟨e, he, h6⟩ := hx
    cases he with
    | head => exact ⟨a, List.mem_cons_self, h6⟩
    | tail _ he =>
      obtain ⟨e', he', h6'⟩ := ih h4 ⟨e, he, h6⟩
      exact ⟨e', List.mem_cons_of_mem a he', h6'⟩
section
variable (P : ch_P) (o : Nat → Nat) (D : Nat → Prop) (Fp : ch_Q → Prop) (G : Nat → Nat → List (Nat × Nat) → Nat → Nat → Nat → (Nat → Nat) → Prop)
def ch_r0 : Prop := ∀ t i st s k w m, i < ch_n P → ch_gd P st → s < 64 → k ≤ 6 → ch_K P i = 0 → G t (i + 1) st (ch_chg s (ch_V P i) (ch_E P i s)) k w (ch_inc m i) → G (t + 1) i st s k w m
def ch_r1 : Prop := ∀ t i st s k w m, i < ch_n P → ch_gd P st → s < 64 → (ch_K P i = 1 ∨ ch_K P i = 2) → k < 6 → ch_sh P i (o k) ≠ 0 → G t (i + 1) st (ch_chg s (ch_V P i) (o k)) (k + 1) (w * ch_sh P i (o k)) (ch_inc m i) → G (t + 1) i st s k w m
def ch_r16 : Prop := ∀ t i st s k w m, i < ch_n P → ch_gd P st → s < 64 → (ch_K P i = 1 ∨ ch_K P i = 2) → k = 6 → D 3 → G (t + 1) i st s k w m
def ch_r10 : Prop := ∀ t i st s k w m, i < ch_n P → ch_gd P st → s < 64 → (ch_K P i = 1 ∨ ch_K P i = 2) → k < 6 → ch_sh P i (o k) = 0 → D 4 → G (t + 1) i st s k w m
def ch_r30 : Prop := ∀ t i st s k w m, i < ch_n P → ch_gd P st → s < 64 → k ≤ 6 → ch_K P i = 3 → ch_E P i s = 0 → D 2 → G (t + 1) i st s k w m
def ch_r31 : Prop := ∀ t i st s k w m, i < ch_n P → ch_gd P st → s < 64 → k ≤ 6 → ch_K P i = 3 → ch_E P i s ≠ 0 → G t (i + 1) st s k w (ch_inc m i) → G (t + 1) i st s k w m
def ch_r41 : Prop := ∀ t i st s k w m, i < ch_n P → ch_gd P st → st.length < 3 → s < 64 → k ≤ 6 → ch_K P i = 4 → ch_E P i s ≠ 0 → G t (i + 1) ((i, 0) :: st) s k w (ch_inc m i) → G (t + 1) i st s k w m
def ch_r4e : Prop := ∀ t i st s k w m, i < ch_n P → ch_gd P st → st.length < 3 → s < 64 → k ≤ 6 → ch_K P i = 4 → ch_E P i s = 0 → ch_fd P true i < ch_n P → ch_K P (ch_fd P true i) = 5 → G t (ch_fd P true i + 1) ((i, 1) :: st) s k w (ch_inc m i) → G (t + 1) i st s k w m
def ch_r4n : Prop := ∀ t i st s k w m, i < ch_n P → ch_gd P st → st.length < 3 → s < 64 → k ≤ 6 → ch_K P i = 4 → ch_E P i s = 0 → ¬ (ch_fd P true i < ch_n P ∧ ch_K P (ch_fd P true i) = 5) → G t (ch_beh P (ch_fd P true i)) st s k w (ch_inc m i) → G (t + 2) i st s k w m
def ch_r5 : Prop := ∀ t i e l s k w m, i < ch_n P → ch_gd P (e :: l) → s < 64 → k ≤ 6 → ch_K P i = 5 → ch_K P e.1 = 4 → ch_fd P false i = ch_fd P false e.1 → G t (ch_fd P false e.1) ((e.1, 1) :: l) s k w (ch_inc m i) → G (t + 1) i (e :: l) s k w m
def ch_r6 : Prop := ∀ t i st s k w m, i < ch_n P → ch_gd P st → st.length < 3 → s < 64 → k ≤ 6 → ch_K P i = 6 → G t (i + 1) ((i, ch_S P i) :: st) s k w (ch_inc m i) → G (t + 1) i st s k w m
def ch_r7 : Prop := ∀ t i up e low s k w m, i < ch_n P → ch_gd P (up ++ e :: low) → s < 64 → k ≤ 6 → ch_K P i = 7 → (∀ u, u ∈ up → ch_K P u.1 ≠ 6) → ch_K P e.1 = 6 → G t (ch_beh P (ch_fd P false e.1)) low s k w (ch_inc m i) → G (t + 1) i (up ++ e :: low) s k w m
def ch_r8 : Prop := ∀ t i e l s k w m m', i ≤ ch_n P → (i < ch_n P → ch_K P i = 8) → ch_gd P (e :: l) → s < 64 → k ≤ 6 → (∀ j, j < ch_n P → ch_K P j ≠ 8 → m' j = m j) → G t (ch_eb P i (e :: l)).1 (ch_eb P i (e :: l)).2 s k w m' → G (t + 1) i (e :: l) s k w m
def ch_rf : Prop := ∀ t s k w m, s < 64 → k ≤ 6 → Fp (0, k, s, w, m) → G (t + 1) (ch_n P) [] s k w m
def ch_rm : Prop := ∀ t i st s k w m, G t i st s k w m → G (t + 1) i st s k w m
end
def ch_ok : Nat → Nat → Bool := fun _ _ => true
theorem ch_wait_e {al : Nat → Nat → Bool} {P : ch_P} (w : ch_wf P) {i : Nat} {st : List (Nat × Nat)} {q : ch_Q} {y o : Nat} {yst : List (Nat × Nat)} (hv : ch_iv P i st) (hend : i < ch_n P → ch_K P i = 8) (hq : q.1 ≠ 0) (hs : ch_sm P i st q.1 y yst) :
    ∃ q', ch_s0 al P i st q o = .ok q' ∧ q'.2 = q.2 ∧ (ch_sm P (ch_eb P i st).1 (ch_eb P i st).2 q'.1 y yst ∨ (∃ b low, y = i ∧ yst = (b, 1) :: low ∧ ch_K P b = 4 ∧ ch_gd P ((b, 1) :: low) ∧ ch_sm P (ch_eb P i st).1 (ch_eb P i st).2 q'.1 (ch_beh P i) low)) := by
  rcases hs with hs | ⟨up, e, low, hst, hpl, hy, hyst⟩
  · exact absurd hs.1 hq
  subst hst
  refine ⟨ch_e0 P (up ++ e :: low) q, ch_s0_8 (fun z => by have := hend z; omega), ?_⟩
  cases up with
  | nil =>
    show (ch_e0 P (e :: low) q).2 = q.2 ∧ (ch_sm P (ch_eb P i (e :: low)).1 (ch_eb P i (e :: low)).2 (ch_e0 P (e :: low) q).1 y yst ∨ _)
    by_cases hc : ch_K P e.1 = 6 ∧ 1 < e.2
    · have e1 : ch_e0 P (e :: low) q = q := if_pos hc
      rw [e1]
      refine ⟨rfl, Or.inl ?_⟩
      rw [ch_eb_l hc]
      have et : ch_tg P (e.1, e.2 - 1) low = ch_tg P e low := by
        unfold ch_tg
        rw [if_pos hc.1, if_pos hc.1]
      exact Or.inr ⟨[], (e.1, e.2 - 1), low, rfl, hpl, by rw [et]; exact hy, by rw [et]; exact hyst⟩
    · have e1 : ch_e0 P (e :: low) q = (0, q.2) := by
        show (if ch_K P e.1 = 6 ∧ 1 < e.2 then q else if q.1 = low.length + 1 then (0, q.2) else q) = _
        rw [if_neg hc, if_pos hpl]
      have e3 : ch_eb P i ([] ++ e :: low) = (ch_beh P i, low) := ch_eb_x hc
      have e3' : ch_eb P i (e :: low) = (ch_beh P i, low) := e3
      have e1' : ch_e0 P ([] ++ e :: low) q = (0, q.2) := e1
      rw [e1, e3', e3, e1']
      refine ⟨rfl, ?_⟩
      have hfd : ch_fd P false e.1 = i := ch_iv_end hv hend
      by_cases h6 : ch_K P e.1 = 6
      · have et : ch_tg P e low = (ch_beh P i, low) := by
          unfold ch_tg
          rw [if_pos h6, hfd]
        rw [et] at hy hyst
        exact Or.inl (Or.inl ⟨rfl, hy, hyst⟩)
      · by_cases h0 : e.2 = 0
        · have hft : ch_fd P true e.1 = i := by
            obtain ⟨hqn, up2, l2, e2, hu, hr⟩ := hv
            obtain ⟨f, l', rfl, _, h7, hr'⟩ := ch_rt_c hr
            have hf0 : f = 0 := by rw [← h7 h6]; exact h0
            subst hf0
            by_cases hlt : i < ch_n P
            · have e5 : ch_st P i = (e.1, 0) :: l' := by rw [e2, hu hlt]; rfl
              exact ch_f1e hlt e5 (Or.inl (hend hlt))
            · have e4 : i = ch_n P := by omega
              subst e4
              exact ch_f3e e2
          have et : ch_tg P e low = (ch_beh P i, low) := by
            unfold ch_tg
            rw [if_neg h6, if_pos h0, hft, if_neg (fun z => by have := hend z.1; omega)]
          rw [et] at hy hyst
          exact Or.inl (Or.inl ⟨rfl, hy, hyst⟩)
        · have et : ch_tg P e low = (i, (e.1, 1) :: low) := by
            unfold ch_tg
            rw [if_neg h6, if_neg h0, hfd]
          rw [et] at hy hyst
          have hg := ch_iv_gd w hv
          have ht := ch_iv_top hv
          have h4 : ch_K P e.1 = 4 := by
            rcases ht.2.2.1 with z | z
            · exact z
            · exact absurd z h6
          refine Or.inr ⟨e.1, low, hy, hyst, h4, ⟨hg.1, fun a ha => ?_⟩, Or.inl ⟨rfl, rfl, rfl⟩⟩
          cases ha with
          | head => exact ⟨ht.1, ht.2.2.1, fun z => absurd z h6⟩
          | tail _ ha => exact hg.2 a (List.mem_cons_of_mem e ha)
  | cons u up =>
    show (ch_e0 P (u :: (up ++ e :: low)) q).2 = q.2 ∧ (ch_sm P (ch_eb P i (u :: (up ++ e :: low))).1 (ch_eb P i (u :: (up ++ e :: low))).2 (ch_e0 P (u :: (up ++ e :: low)) q).1 y yst ∨ _)
    by_cases hc : ch_K P u.1 = 6 ∧ 1 < u.2
    · have e1 : ch_e0 P (u :: (up ++ e :: low)) q = q := if_pos hc
      rw [e1]
      refine ⟨rfl, Or.inl ?_⟩
      rw [ch_eb_l hc]
      exact Or.inr ⟨(u.1, u.2 - 1) :: up, e, low, rfl, hpl, hy, hyst⟩
    · have e1 : ch_e0 P (u :: (up ++ e :: low)) q = q := by
        show (if ch_K P u.1 = 6 ∧ 1 < u.2 then q else if q.1 = (up ++ e :: low).length + 1 then (0, q.2) else q) = _
        have hl : (up ++ e :: low).length = up.length + (low.length + 1) := List.length_append
        rw [if_neg hc, if_neg (by omega)]
      rw [e1]
      refine ⟨rfl, Or.inl ?_⟩
      rw [ch_eb_x hc]
      exact Or.inr ⟨up, e, low, rfl, hpl, hy, hyst⟩
theorem ch_wait {al : Nat → Nat → Bool} {P : ch_P} (w : ch_wf P) {i : Nat} {st : List (Nat × Nat)} {q : ch_Q} {y o : Nat} {yst : List (Nat × Nat)} (hv : ch_iv P i st) (hq : q.1 ≠ 0) (hs : ch_sm P i st q.1 y yst) :
    ∃ q', ch_s0 al P i st q o = .ok q' ∧ q'.2 = q.2 ∧ (ch_sm P (ch_ct P i st).1 (ch_ct P i st).2 q'.1 y yst ∨ (∃ b low, (i < ch_n P → ch_K P i = 8) ∧ y = i ∧ yst = (b, 1) :: low ∧ ch_K P b = 4 ∧ ch_gd P ((b, 1) :: low) ∧ ch_sm P (ch_ct P i st).1 (ch_ct P i st).2 q'.1 (ch_beh P i) low)) := by
  by_cases hi : i < ch_n P
  · by_cases h8 : ch_K P i = 8
    · rw [ch_ct_8 hi h8]
      obtain ⟨q', h1, h2, h3⟩ := ch_wait_e (al := al) (o := o) w hv (fun _ => h8) hq hs
      refine ⟨q', h1, h2, ?_⟩
      rcases h3 with h3 | ⟨b, low, h4, h5, h6, h7, h9⟩
      · exact Or.inl h3
      · exact Or.inr ⟨b, low, fun _ => h8, h4, h5, h6, h7, h9⟩
    · rcases hs with hs | ⟨up, e, low, hst, hpl, hy, hyst⟩
      · exact absurd hs.1 hq
      have hK := (w.2 i hi).1.1
      by_cases h5 : ch_K P i = 5
      · have hr := ch_iv_lt hv hi
        obtain ⟨b, t, e1, e2⟩ := (w.2 i hi).2.2.1 h5
        rw [e1] at hr
        obtain ⟨r, t2, est, _, h7, hr3⟩ := ch_rt_c2 hr
        have hr0 : r = 0 := h7 (by omega)
        subst hr0
        rw [ch_s0_5 hi h5, if_neg hq, ch_ct_5 hi h5]
        cases up with
        | nil =>
          have est2 : e :: low = (b, 0) :: t2 := by rw [← est, hst]; rfl
          injection est2 with ee el
          subst ee el
          have hl : q.1 = st.length := by rw [est]; exact hpl
          refine ⟨(0, q.2), by rw [if_pos hl], rfl, Or.inl (Or.inl ⟨rfl, ?_⟩)⟩
          have et : ch_tg P (b, 0) low = (i + 1, (b, 1) :: low) := by
            unfold ch_tg
            have h6 : ¬ ch_K P (b, 0).1 = 6 := by show ¬ ch_K P b = 6; omega
            have hft : ch_fd P true (b, 0).1 = i := ch_f1e hi e1 (Or.inr h5)
            rw [if_neg h6, if_pos rfl, hft, if_pos ⟨hi, h5⟩]
          rw [et] at hy hyst
          rw [est]
          exact ⟨hy, hyst⟩
        | cons u up =>
          have hl : ¬ q.1 = st.length := by
            rw [hst]
            have hl : (u :: up ++ e :: low).length = up.length + 1 + (low.length + 1) := List.length_append
            omega
          refine ⟨q, by rw [if_neg hl], rfl, Or.inl (Or.inr ⟨(u.1, 1) :: up, e, low, ?_, hpl, hy, hyst⟩)⟩
          rw [hst]
          rfl
      · refine ⟨q, ?_, rfl, Or.inl ?_⟩
        · by_cases h0 : ch_K P i = 0
          · rw [ch_s0_0 hi h0, if_neg hq]
          · by_cases h12 : ch_K P i = 1 ∨ ch_K P i = 2
            · rw [ch_s0_r hi h12, if_neg hq]
            · by_cases h3 : ch_K P i = 3
              · rw [ch_s0_3 hi h3, if_neg (fun z => hq z.1)]
              · by_cases h4 : ch_K P i = 4
                · rw [ch_s0_4 hi h4, if_neg (fun z => hq z.1)]
                · by_cases h6 : ch_K P i = 6
                  · exact ch_s0_6 hi h6
                  · rw [ch_s0_7 hi (by omega), if_neg hq]
        · by_cases h4 : ch_K P i = 4
          · rw [ch_ct_4 hi h4]
            exact Or.inr ⟨(i, 0) :: up, e, low, by rw [hst]; rfl, hpl, hy, hyst⟩
          · by_cases h6 : ch_K P i = 6
            · rw [ch_ct_6 hi h6]
              exact Or.inr ⟨(i, ch_S P i) :: up, e, low, by rw [hst]; rfl, hpl, hy, hyst⟩
            · rw [ch_ct_s hi h4 h5 h6 h8]
              exact Or.inr ⟨up, e, low, hst, hpl, hy, hyst⟩
  · rw [ch_ct_e hi]
    obtain ⟨q', h1, h2, h3⟩ := ch_wait_e (al := al) (o := o) w hv (fun z => absurd z hi) hq hs
    refine ⟨q', h1, h2, ?_⟩
    rcases h3 with h3 | ⟨b, low, h4, h5, h6, h7, h9⟩
    · exact Or.inl h3
    · exact Or.inr ⟨b, low, fun z => absurd z hi, h4, h5, h6, h7, h9⟩
theorem ch_sim {P : ch_P} (w : ch_wf P) {o : Nat → Nat} (ho : ∀ j, o j < 4) {D : Nat → Prop} {Fp : ch_Q → Prop} {G : Nat → Nat → List (Nat × Nat) → Nat → Nat → Nat → (Nat → Nat) → Prop}
    (r0 : ch_r0 P G) (r1 : ch_r1 P o G) (r16 : ch_r16 P D G) (r10 : ch_r10 P o D G) (r30 : ch_r30 P D G) (r31 : ch_r31 P G) (r41 : ch_r41 P G) (r4e : ch_r4e P G) (r4n : ch_r4n P G) (r5 : ch_r5 P G) (r6 : ch_r6 P G) (r7 : ch_r7 P G) (r8 : ch_r8 P G) (rf : ch_rf P Fp G) (rm : ch_rm G) :
    ∀ (T i : Nat) (st : List (Nat × Nat)) (q : ch_Q) (y : Nat) (yst : List (Nat × Nat)), ch_iv P i st → ch_mu P i st ≤ T → ch_qi st.length q → ch_sm P i st q.1 y yst → (∀ e, ch_rn ch_ok P T i st q o = .error e → D e) → (∀ q', ch_rn ch_ok P T i st q o = .ok q' → Fp q') → G (2 * T + 1) y yst q.2.2.1 q.2.1 q.2.2.2.1 q.2.2.2.2 := by
  have hdone : ∀ (T i : Nat) (st : List (Nat × Nat)) (q : ch_Q) (y : Nat) (yst : List (Nat × Nat)), ch_iv P i st → (ch_n P ≤ i ∧ st.length = 0) → ch_qi st.length q → ch_sm P i st q.1 y yst → (∀ q', ch_rn ch_ok P T i st q o = .ok q' → Fp q') → G (2 * T + 1) y yst q.2.2.1 q.2.1 q.2.2.2.1 q.2.2.2.2 := by
    intro T i st q y yst hv hd hq hs hF
    have hp : q.1 = 0 := by
      have := hq.1
      omega
    have hst : st = [] := by
      cases st with
      | nil => rfl
      | cons e l => exact absurd hd.2 (fun z => nomatch z)
    have hi : i = ch_n P := by
      have := hv.1
      omega
    have hfp := hF q (ch_rn_d hd)
    rcases hs with hs | ⟨up, e, low, _, hpl, _⟩
    · rw [hs.2.1, hs.2.2, hst, hi]
      refine rf _ _ _ _ _ hq.2.2.1 hq.2.1 ?_
      have e1 : q = (0, q.2.1, q.2.2.1, q.2.2.2.1, q.2.2.2.2) := by rw [← hp]
      rw [← e1]
      exact hfp
    · omega
  intro T
  induction T with
  | zero =>
    intro i st q y yst hv hm hq hs hD hF
    exact hdone 0 i st q y yst hv (ch_dn_of w hv (by omega)) hq hs hF
  | succ T ih =>
    intro i st q y yst hv hm hq hs hD hF
    by_cases hd : ch_n P ≤ i ∧ st.length = 0
    · exact hdone (T + 1) i st q y yst hv hd hq hs hF
    have hn := ch_nd_of hd
    have hmu := ch_mu_ct w hv hn
    have eT : 2 * (T + 1) + 1 = (2 * T + 1) + 1 + 1 := by omega
    have step : ∀ q', ch_s0 ch_ok P i st (ch_iq P i q) (o q.2.1) = .ok q' → ∀ y' yst', ch_sm P (ch_ct P i st).1 (ch_ct P i st).2 q'.1 y' yst' → G (2 * T + 1) y' yst' q'.2.2.1 q'.2.1 q'.2.2.2.1 q'.2.2.2.2 := by
      intro q' hs0 y' yst' hsm
      refine ih _ _ q' y' yst' (ch_iv_ct w hv hn) (by omega) (ch_qi_s w hv hn (ho _) (ch_qi_iq hq) hs0) hsm (fun e he => hD e ?_) (fun q'' h => hF q'' ?_)
      · rw [ch_rn_o hd hs0]; exact he
      · rw [ch_rn_o hd hs0]; exact h
    rw [eT]
    by_cases hq0 : q.1 = 0
    · have hyi : y = i ∧ yst = st := by
        rcases hs with hs | ⟨up, e, low, _, hpl, _⟩
        · exact hs.2
        · omega
      obtain ⟨rfl, rfl⟩ := hyi
      have hg := ch_iv_gd w hv
      obtain ⟨_, hk6, hs64, _, _⟩ := hq
      by_cases hi : y < ch_n P
      · have hw := w.2 y hi
        have hiq : ch_iq P y q = (0, q.2.1, q.2.2.1, q.2.2.2.1, ch_inc q.2.2.2.2 y) := by
          unfold ch_iq
          rw [if_pos ⟨hq0, hi⟩, hq0]
        have hlen : (ch_K P y = 4 ∨ ch_K P y = 6) → yst.length < 3 := fun z => by
          rw [ch_rt_len (ch_iv_lt hv hi)]
          exact hw.2.1 z
        rw [hiq] at step
        have hrne : ∀ e, ch_s0 ch_ok P y yst (0, q.2.1, q.2.2.1, q.2.2.2.1, ch_inc q.2.2.2.2 y) (o q.2.1) = .error e → D e := fun e he => hD e (ch_rn_e hd (by rw [hiq]; exact he))
        by_cases h0 : ch_K P y = 0
        · refine rm _ _ _ _ _ _ _ (r0 _ _ _ _ _ _ _ hi hg hs64 hk6 h0 ?_)
          exact step _ ((ch_s0_0 hi h0).trans rfl) _ _ (Or.inl ⟨rfl, by rw [ch_ct_s hi (by omega) (by omega) (by omega) (by omega)], by rw [ch_ct_s hi (by omega) (by omega) (by omega) (by omega)]⟩)
        · by_cases h12 : ch_K P y = 1 ∨ ch_K P y = 2
          · by_cases h6 : 6 ≤ q.2.1
            · refine r16 _ _ _ _ _ _ _ hi hg hs64 h12 (by omega) (hrne 3 ?_)
              rw [ch_s0_r hi h12, if_pos rfl, if_pos h6]
            · by_cases hz : ch_sh P y (o q.2.1) = 0
              · refine r10 _ _ _ _ _ _ _ hi hg hs64 h12 (by omega) hz (hrne 4 ?_)
                rw [ch_s0_r hi h12, if_pos rfl, if_neg h6, if_pos hz]
              · refine rm _ _ _ _ _ _ _ (r1 _ _ _ _ _ _ _ hi hg hs64 h12 (by omega) hz ?_)
                refine step (0, q.2.1 + 1, ch_chg q.2.2.1 (ch_V P y) (o q.2.1), q.2.2.2.1 * ch_sh P y (o q.2.1), ch_inc q.2.2.2.2 y) ?_ _ _ (Or.inl ⟨rfl, by rw [ch_ct_s hi (by omega) (by omega) (by omega) (by omega)], by rw [ch_ct_s hi (by omega) (by omega) (by omega) (by omega)]⟩)
                rw [ch_s0_r hi h12, if_pos rfl, if_neg h6, if_neg hz, if_pos (show ch_ok _ _ = true from rfl)]
          · by_cases h3 : ch_K P y = 3
            · by_cases hE : ch_E P y q.2.2.1 = 0
              · refine r30 _ _ _ _ _ _ _ hi hg hs64 hk6 h3 hE (hrne 2 ?_)
                rw [ch_s0_3 hi h3, if_pos ⟨rfl, hE⟩]
              · refine rm _ _ _ _ _ _ _ (r31 _ _ _ _ _ _ _ hi hg hs64 hk6 h3 hE ?_)
                refine step (0, q.2.1, q.2.2.1, q.2.2.2.1, ch_inc q.2.2.2.2 y) ?_ _ _ (Or.inl ⟨rfl, by rw [ch_ct_s hi (by omega) (by omega) (by omega) (by omega)], by rw [ch_ct_s hi (by omega) (by omega) (by omega) (by omega)]⟩)
                rw [ch_s0_3 hi h3, if_neg (fun z => hE z.2)]
            · by_cases h4 : ch_K P y = 4
              · have hl := hlen (Or.inl h4)
                by_cases hE : ch_E P y q.2.2.1 = 0
                · have hs4 : ch_s0 ch_ok P y yst (0, q.2.1, q.2.2.1, q.2.2.2.1, ch_inc q.2.2.2.2 y) (o q.2.1) = .ok (yst.length + 1, q.2.1, q.2.2.1, q.2.2.2.1, ch_inc q.2.2.2.2 y) := by
                    rw [ch_s0_4 hi h4, if_pos ⟨rfl, hE⟩]
                  have hsm : ch_sm P (ch_ct P y yst).1 (ch_ct P y yst).2 (yst.length + 1) (ch_tg P (y, 0) yst).1 (ch_tg P (y, 0) yst).2 := by
                    rw [ch_ct_4 hi h4]
                    exact Or.inr ⟨[], (y, 0), yst, rfl, rfl, rfl, rfl⟩
                  have hgo := step _ hs4 _ _ hsm
                  have et : ch_tg P (y, 0) yst = (if ch_fd P true y < ch_n P ∧ ch_K P (ch_fd P true y) = 5 then (ch_fd P true y + 1, (y, 1) :: yst) else (ch_beh P (ch_fd P true y), yst)) := by
                    unfold ch_tg
                    have h6 : ¬ ch_K P (y, 0).1 = 6 := by show ¬ ch_K P y = 6; omega
                    rw [if_neg h6, if_pos rfl]
                  by_cases hel : ch_fd P true y < ch_n P ∧ ch_K P (ch_fd P true y) = 5
                  · rw [et, if_pos hel] at hgo
                    exact rm _ _ _ _ _ _ _ (r4e _ _ _ _ _ _ _ hi hg hl hs64 hk6 h4 hE hel.1 hel.2 hgo)
                  · rw [et, if_neg hel] at hgo
                    exact r4n _ _ _ _ _ _ _ hi hg hl hs64 hk6 h4 hE hel hgo
                · refine rm _ _ _ _ _ _ _ (r41 _ _ _ _ _ _ _ hi hg hl hs64 hk6 h4 hE ?_)
                  refine step (0, q.2.1, q.2.2.1, q.2.2.2.1, ch_inc q.2.2.2.2 y) ?_ _ _ (Or.inl ⟨rfl, by rw [ch_ct_4 hi h4], by rw [ch_ct_4 hi h4]⟩)
                  rw [ch_s0_4 hi h4, if_neg (fun z => hE z.2)]
              · by_cases h5 : ch_K P y = 5
                · obtain ⟨b, t, e1, e2⟩ := hw.2.2.1 h5
                  have hr := ch_iv_lt hv hi
                  rw [e1] at hr
                  obtain ⟨r, t2, est, _, h7, hr3⟩ := ch_rt_c2 hr
                  subst est
                  have hs5 : ch_s0 ch_ok P y ((b, r) :: t2) (0, q.2.1, q.2.2.1, q.2.2.2.1, ch_inc q.2.2.2.2 y) (o q.2.1) = .ok (t2.length + 1, q.2.1, q.2.2.1, q.2.2.2.1, ch_inc q.2.2.2.2 y) := by
                    rw [ch_s0_5 hi h5, if_pos rfl]
                    rfl
                  have hf2 : ch_fd P false y = ch_fd P false b := ch_f2 hi e1 h5
                  have et : ch_tg P (b, 1) t2 = (ch_fd P false b, (b, 1) :: t2) := by
                    unfold ch_tg
                    have h6 : ¬ ch_K P (b, 1).1 = 6 := by show ¬ ch_K P b = 6; omega
                    have h01 : ¬ (b, 1).2 = 0 := by show ¬ 1 = 0; omega
                    rw [if_neg h6, if_neg h01]
                  have hsm : ch_sm P (ch_ct P y ((b, r) :: t2)).1 (ch_ct P y ((b, r) :: t2)).2 (t2.length + 1) (ch_fd P false b) ((b, 1) :: t2) := by
                    rw [ch_ct_5 hi h5]
                    exact Or.inr ⟨[], (b, 1), t2, rfl, rfl, by rw [et], by rw [et]⟩
                  exact rm _ _ _ _ _ _ _ (r5 _ _ (b, r) t2 _ _ _ _ hi hg hs64 hk6 h5 e2 hf2 (step _ hs5 _ _ hsm))
                · by_cases h6 : ch_K P y = 6
                  · refine rm _ _ _ _ _ _ _ (r6 _ _ _ _ _ _ _ hi hg (hlen (Or.inr h6)) hs64 hk6 h6 ?_)
                    exact step (0, q.2.1, q.2.2.1, q.2.2.2.1, ch_inc q.2.2.2.2 y) (ch_s0_6 hi h6) _ _ (Or.inl ⟨rfl, by rw [ch_ct_6 hi h6], by rw [ch_ct_6 hi h6]⟩)
                  · by_cases h7 : ch_K P y = 7
                    · have hex := ch_rt_loop (ch_iv_lt hv hi) (hw.2.2.2.1 h7)
                      obtain ⟨up, e, low, e1, e2, e3, e4⟩ := ch_lp yst hex
                      have hs7 : ch_s0 ch_ok P y yst (0, q.2.1, q.2.2.1, q.2.2.2.1, ch_inc q.2.2.2.2 y) (o q.2.1) = .ok (low.length + 1, q.2.1, q.2.2.1, q.2.2.2.1, ch_inc q.2.2.2.2 y) := by
                        rw [ch_s0_7 hi h7, if_pos rfl, e4]
                      have et : ch_tg P e low = (ch_beh P (ch_fd P false e.1), low) := by
                        unfold ch_tg
                        rw [if_pos e3]
                      have hsm : ch_sm P (ch_ct P y yst).1 (ch_ct P y yst).2 (low.length + 1) (ch_beh P (ch_fd P false e.1)) low := by
                        rw [ch_ct_s hi h4 h5 h6 (by omega)]
                        exact Or.inr ⟨up, e, low, e1, rfl, by rw [et], by rw [et]⟩
                      have hgo := step _ hs7 _ _ hsm
                      rw [e1] at hg
                      rw [e1]
                      exact rm _ _ _ _ _ _ _ (r7 _ _ up e low _ _ _ _ hi hg hs64 hk6 h7 e2 e3 hgo)
                    · have h8 : ch_K P y = 8 := by
                        have := hw.1.1
                        omega
                      cases yst with
                      | nil => exact absurd (ch_rt_n (ch_iv_lt hv hi)) (hw.2.2.2.2 h8)
                      | cons e l =>
                        have hs8 : ch_s0 ch_ok P y (e :: l) (0, q.2.1, q.2.2.1, q.2.2.2.1, ch_inc q.2.2.2.2 y) (o q.2.1) = .ok (0, q.2.1, q.2.2.1, q.2.2.2.1, ch_inc q.2.2.2.2 y) := by
                          rw [ch_s0_8 (fun _ => by omega)]
                          show Except.ok (if ch_K P e.1 = 6 ∧ 1 < e.2 then _ else if 0 = l.length + 1 then _ else _) = _
                          rw [if_neg (show ¬ 0 = l.length + 1 by omega)]
                          split <;> rfl
                        refine rm _ _ _ _ _ _ _ (r8 _ _ _ _ _ _ _ _ (ch_inc q.2.2.2.2 y) (by omega) (fun _ => h8) hg hs64 hk6 (fun j _ hj => ?_) (step _ hs8 _ _ (Or.inl ⟨rfl, by rw [ch_ct_8 hi h8], by rw [ch_ct_8 hi h8]⟩)))
                        exact if_neg (fun z => hj (by rw [z]; exact h8))
      · have hiq : ch_iq P y q = q := by
          unfold ch_iq
          rw [if_neg (fun z => hi z.2)]
        cases yst with
        | nil => exact absurd rfl (hn.resolve_left hi)
        | cons e l =>
          have hs8 : ch_s0 ch_ok P y (e :: l) (ch_iq P y q) (o q.2.1) = .ok q := by
            rw [hiq, ch_s0_8 (fun z => absurd z hi)]
            show Except.ok (if ch_K P e.1 = 6 ∧ 1 < e.2 then _ else if q.1 = l.length + 1 then _ else _) = _
            rw [if_neg (show ¬ q.1 = l.length + 1 by omega)]
            split <;> rfl
          refine rm _ _ _ _ _ _ _ (r8 _ _ _ _ _ _ _ _ q.2.2.2.2 hv.1 (fun z => absurd z hi) hg hs64 hk6 (fun _ _ _ => rfl) (step _ hs8 _ _ (Or.inl ⟨hq0, by rw [ch_ct_e hi], by rw [ch_ct_e hi]⟩)))
    · have hiq : ch_iq P i q = q := by
        unfold ch_iq
        rw [if_neg (fun z => hq0 z.1)]
      obtain ⟨q', h1, h2, h3⟩ := ch_wait (al := ch_ok) (o := o q.2.1) w hv hq0 hs
      have h1' : ch_s0 ch_ok P i st (ch_iq P i q) (o q.2.1) = .ok q' := by rw [hiq]; exact h1
      have hgo := step q' h1'
      rw [h2] at hgo
      rcases h3 with h3 | ⟨b, low, h4, h5, h6, h7, h8, h9⟩
      · exact rm _ _ _ _ _ _ _ (rm _ _ _ _ _ _ _ (hgo _ _ h3))
      · rw [h5, h6]
        refine rm _ _ _ _ _ _ _ (r8 _ _ (b, 1) low _ _ _ _ q.2.2.2.2 hv.1 h4 h8 hq.2.2.1 hq.2.1 (fun _ _ _ => rfl) ?_)
        rw [ch_eb_x (fun z => absurd (show ch_K P b = 6 from z.1) (by omega))]
        exact hgo _ _ h9
end
section
/-! own rows: digits of states -/
def ch_bt (x : Int64) (s : Nat) : Nat := x.toBitVec.toNat / 2 ^ s % 2
def ch_v (l u : Int64) (s : Nat) : Nat := ch_bt l s + 2 * ch_bt u s
theorem ch_bt_lt (x : Int64) (s : Nat) : ch_bt x s < 2 := Nat.mod_lt _ (by decide)
theorem ch_v_le (l u : Int64) (s : Nat) : ch_v l u s ≤ 3 := by
  have h1 := ch_bt_lt l s
  have h2 := ch_bt_lt u s
  unfold ch_v
  omega
theorem ch_bt_e (x : Int64) {s : Nat} (hs : s < 64) : ((x.toUInt64 >>> ((nI s).toInt64.toUInt64 &&& Int64.toUInt64 63)).toInt64 &&& 1) = lN (ch_bt x s) := by
  obtain ⟨n, hn, rfl⟩ := wb_of x
  unfold ch_bt
  rw [wb_bit hn hs, wb_tn hn]
theorem ch_bt_g (x : Int64) (s : Nat) : ch_bt x s = if x.toBitVec.getLsbD s = true then 1 else 0 := by
  have e : x.toBitVec.getLsbD s = decide (x.toBitVec.toNat / 2 ^ s % 2 = 1) := Nat.testBit_eq_decide_div_mod_eq
  rw [e]
  unfold ch_bt
  have h : x.toBitVec.toNat / 2 ^ s % 2 < 2 := Nat.mod_lt _ (by decide)
  by_cases h1 : x.toBitVec.toNat / 2 ^ s % 2 = 1
  · rw [decide_eq_true h1, if_pos rfl, h1]
  · rw [decide_eq_false h1, if_neg (by decide)]
    omega
theorem ch_bt_or (x y : Int64) (s : Nat) : ch_bt (x ||| y) s = if ch_bt x s = 0 then ch_bt y s else 1 := by
  rw [ch_bt_g, ch_bt_g, ch_bt_g, Int64.toBitVec_or, BitVec.getLsbD_or]
  cases x.toBitVec.getLsbD s <;> cases y.toBitVec.getLsbD s <;> rfl
theorem ch_bt_and (x y : Int64) (s : Nat) : ch_bt (x &&& y) s = if ch_bt x s = 0 then 0 else ch_bt y s := by
  rw [ch_bt_g, ch_bt_g, ch_bt_g, Int64.toBitVec_and, BitVec.getLsbD_and]
  cases x.toBitVec.getLsbD s <;> cases y.toBitVec.getLsbD s <;> rfl
theorem ch_bt_xor (x y : Int64) (s : Nat) : ch_bt (x ^^^ y) s = if ch_bt x s = 0 then ch_bt y s else 1 - ch_bt y s := by
  rw [ch_bt_g, ch_bt_g, ch_bt_g, Int64.toBitVec_xor, BitVec.getLsbD_xor]
  cases x.toBitVec.getLsbD s <;> cases y.toBitVec.getLsbD s <;> rfl
theorem ch_bt_m1 : ∀ s, s < 64 → ch_bt (-1) s = 1 := by decide +kernel
theorem ch_bt_0 (s : Nat) : ch_bt 0 s = 0 := by
  unfold ch_bt
  show 0 / 2 ^ s % 2 = 0
  rw [Nat.zero_div]
theorem ch_bt_not (x : Int64) {s : Nat} (hs : s < 64) : ch_bt (x ^^^ (-1)) s = 1 - ch_bt x s := by
  have h := ch_bt_lt x s
  rw [ch_bt_xor, ch_bt_m1 s hs]
  split <;> omega
theorem ch_bt_z (l u : Int64) {s : Nat} (hs : s < 64) : (lN (ch_bt ((l ||| u) ^^^ (-1)) s) = 1) ↔ ch_v l u s = 0 := by
  have h1 := ch_bt_lt l s
  have h2 := ch_bt_lt u s
  rw [ch_bt_not _ hs, ch_bt_or, show (1 : Int64) = lN 1 from rfl, lN_eq (Nat.lt_of_le_of_lt (Nat.sub_le _ _) (by decide)) (by decide)]
  unfold ch_v
  split <;> omega
theorem ch_bt_o1 (l u : Int64) (s : Nat) : (lN (ch_bt (l ||| u) s) = 1) ↔ ¬ ch_v l u s = 0 := by
  have h1 := ch_bt_lt l s
  have h2 := ch_bt_lt u s
  rw [show (1 : Int64) = lN 1 from rfl, lN_eq (by have := ch_bt_lt (l ||| u) s; omega) (by decide), ch_bt_or]
  unfold ch_v
  split <;> omega
theorem ch_bt_o0 (l u : Int64) (s : Nat) : (lN (ch_bt (l ||| u) s) = 0) ↔ ch_v l u s = 0 := by
  have h1 := ch_bt_lt l s
  have h2 := ch_bt_lt u s
  rw [show (0 : Int64) = lN 0 from rfl, lN_eq (by have := ch_bt_lt (l ||| u) s; omega) (by decide), ch_bt_or]
  unfold ch_v
  split <;> omega
theorem ch_v_e (l u : Int64) {s : Nat} (hs : s < 64) : ((((l.toUInt64 >>> ((nI s).toInt64.toUInt64 &&& Int64.toUInt64 63)).toInt64) &&& 1).toInt32) + (2 * ((((u.toUInt64 >>> ((nI s).toInt64.toUInt64 &&& Int64.toUInt64 63)).toInt64) &&& 1).toInt32)) = nI (ch_v l u s) := by
  rw [ch_bt_e l hs, ch_bt_e u hs, lN_i, lN_i, show (2 : Int32) = nI 2 from rfl, pk_mul, nI_add]
  rfl
theorem ch_chg_e : ∀ s, s < 64 → ∀ v, v < 3 → ∀ x, x < 4 → ((nI s &&& (((3 : Int32) <<< ((2 * nI v) &&& 31)) ^^^ (-1))) ||| (nI x <<< ((2 * nI v) &&& 31))) = nI (ch_chg s v x) := by decide +kernel
theorem ch_val_e : ∀ s, s < 64 → ∀ v, v < 3 → ((nI s >>> ((2 * nI v) &&& 31)) &&& 3) = nI (s / 4 ^ v % 4) := by decide +kernel
theorem ch_c63 {c : Nat} (h : c < 448) : nI c &&& 63 = nI (c % 64) := pk_andN (k := 6) (by omega) (by decide)
theorem ch_64 (k s : Nat) : 64 * nI k + nI s = nI (64 * k + s) := by rw [show (64 : Int32) = nI 64 from rfl, pk_mul, nI_add]
theorem ch_448 (k s : Nat) : nI k * 448 + nI s = nI (k * 448 + s) := by rw [show (448 : Int32) = nI 448 from rfl, pk_mul, nI_add]
theorem ch_neg1 {k : Nat} (h : k < 2 ^ 31) : ¬ nI k = (-1 : Int32) := fun z => by
  have h1 := nI_toInt h
  rw [z] at h1
  have h2 : (-1 : Int32).toInt = -1 := by decide
  omega
theorem ch_m1lt : (-1 : Int32) < 0 := by decide
end
section
/-! own rows: the component's small walks: meeting, lifting a row, scattering it -/
section
variable {f_height f_size f_opened f_level f_greatestOnly f_watched f_known : Int32} {a_lower a_upper a_low a_high a_weights a_visited a_weightHere a_visitedHere a_atEnd : Nat → Int64} {a_kind a_variable a_share a_openAt a_elseOf a_endOf a_blockAt a_rounds a_forced : Nat → Int32} {post : SX → Prop} {g : Bool} {A B wh vh : Nat → Nat} {lv : Int32} {ba ro : Nat → Int32}
def ch_gg (g : Bool) : Int32 := if g = true then 1 else 0
theorem ch_meet {c x y : Nat} (hc : c < 1792) (hb : g = true → x < 2 ^ 63 ∧ A c < 2 ^ 63)
    (h : post (f_height, f_size, f_opened, f_level, ch_gg g, f_watched, f_known, a_lower, a_upper, a_kind, a_variable, a_share, a_low, a_high, a_openAt, a_elseOf, a_endOf, ch_w (ch_u A c (ch_op g (A c) x)), ch_w (ch_u B c (B c + y)), a_blockAt, a_rounds, a_forced, a_weightHere, a_visitedHere, a_atEnd)) :
    wpX_meet post (f_height, f_size, f_opened, f_level, ch_gg g, f_watched, f_known, a_lower, a_upper, a_kind, a_variable, a_share, a_low, a_high, a_openAt, a_elseOf, a_endOf, ch_w A, ch_w B, a_blockAt, a_rounds, a_forced, a_weightHere, a_visitedHere, a_atEnd) (nI c) (lN x) (lN y) := by
  have hin : vp_in (nI c) 1792 := vp_in_nI hc (by decide)
  have hcl : (nI c).toNatClampNeg = c := nI_clamp (by omega)
  have tail : ∀ A' : Nat → Int64, post (f_height, f_size, f_opened, f_level, ch_gg g, f_watched, f_known, a_lower, a_upper, a_kind, a_variable, a_share, a_low, a_high, a_openAt, a_elseOf, a_endOf, A', ch_w (ch_u B c (B c + y)), a_blockAt, a_rounds, a_forced, a_weightHere, a_visitedHere, a_atEnd) → wX_meet_47 post (nI c) (lN y) f_height f_size f_opened f_level (ch_gg g) f_watched f_known a_lower a_upper a_kind a_variable a_share a_low a_high a_openAt a_elseOf a_endOf A' (ch_w B) a_blockAt a_rounds a_forced a_weightHere a_visitedHere a_atEnd := by
    intro A' hp
    refine And.intro hin (And.intro hin (fun a ea => ?_))
    have e : vp_updL (ch_w B) c (ch_w B c + lN y) = ch_w (ch_u B c (B c + y)) := by
      rw [show ch_w B c = lN (B c) from rfl, lN_add, ch_w_u]
    rw [hcl, e] at ea
    rw [ea]
    exact hp
  cases g with
  | false =>
    refine br_t rfl (And.intro hin (And.intro hin (fun a ea => ?_)))
    have e : vp_updL (ch_w A) c (ch_w A c + lN x) = ch_w (ch_u A c (ch_op false (A c) x)) := by
      rw [show ch_w A c = lN (A c) from rfl, lN_add, ch_w_u]
      rfl
    rw [hcl, e] at ea
    rw [ea]
    exact tail _ h
  | true =>
    have hb := hb rfl
    refine br_f (show ¬ (1 : Int32) = 0 by decide) (And.intro hin (br_c (fun hle => ?_) (fun hle => ?_)))
    · rw [hcl, show ch_w A c = lN (A c) from rfl, pk_lLE hb.1 hb.2] at hle
      refine And.intro hin (And.intro hin (fun a ea => ?_))
      have e : vp_updL (ch_w A) c (ch_w A c) = ch_w (ch_u A c (ch_op true (A c) x)) := by
        rw [show ch_w A c = lN (A c) from rfl, ch_w_u]
        show ch_w (ch_u A c (A c)) = ch_w (ch_u A c (max (A c) x))
        rw [Nat.max_eq_left hle]
      rw [hcl, e] at ea
      rw [ea]
      exact tail _ h
    · rw [hcl, show ch_w A c = lN (A c) from rfl, pk_lLE hb.1 hb.2] at hle
      refine And.intro hin (fun a ea => ?_)
      have e : vp_updL (ch_w A) c (lN x) = ch_w (ch_u A c (ch_op true (A c) x)) := by
        rw [ch_w_u]
        show ch_w (ch_u A c x) = ch_w (ch_u A c (max (A c) x))
        rw [Nat.max_eq_right (by omega)]
      rw [hcl, e] at ea
      rw [ea]
      exact tail _ h
def ch_lfI (k s : Nat) (A0 A wh : Nat → Nat) : Prop := (∀ j, A j = if 64 * k ≤ j ∧ j < 64 * k + s then 0 else A0 j) ∧ ∀ t, t < s → wh t = A0 (64 * k + t)
theorem ch_lfI_s {k s : Nat} {A0 A wh : Nat → Nat} (h : ch_lfI k s A0 A wh) : ch_lfI k (s + 1) A0 (ch_u A (64 * k + s) 0) (ch_u wh s (A (64 * k + s))) := by
  refine ⟨fun j => ?_, fun t ht => ?_⟩
  · by_cases hj : j = 64 * k + s
    · rw [hj, ch_us, if_pos (by omega)]
    · rw [ch_un hj, h.1 j]
      by_cases hc : 64 * k ≤ j ∧ j < 64 * k + s
      · rw [if_pos hc, if_pos (by omega)]
      · rw [if_neg hc, if_neg (by omega)]
  · by_cases ht2 : t = s
    · rw [ht2, ch_us, h.1, if_neg (by omega)]
    · rw [ch_un ht2]
      exact h.2 t (by omega)
theorem ch_lift_l {k : Nat} (hk : k ≤ 6) {A0 B0 : Nat → Nat} (h : ∀ A B wh vh, ch_lfI k 64 A0 A wh → ch_lfI k 64 B0 B vh → post (f_height, f_size, f_opened, lv, ch_gg g, f_watched, f_known, a_lower, a_upper, a_kind, a_variable, a_share, a_low, a_high, a_openAt, a_elseOf, a_endOf, ch_w A, ch_w B, ba, ro, a_forced, ch_w wh, ch_w vh, a_atEnd)) :
    ∀ (d s : Nat) (A B wh vh : Nat → Nat), s + d = 64 → ch_lfI k s A0 A wh → ch_lfI k s B0 B vh → wX_liftRow_2 post (nI k) f_height f_size f_opened lv (ch_gg g) f_watched f_known (d + 1) (nI s) a_lower a_upper a_kind a_variable a_share a_low a_high a_openAt a_elseOf a_endOf (ch_w A) (ch_w B) ba ro a_forced (ch_w wh) (ch_w vh) a_atEnd := by
  intro d
  induction d with
  | zero =>
    intro s A B wh vh hs hA hB
    have e : s = 64 := by omega
    subst e
    exact br_t (nI_le (a := 64) (b := 64) (by omega) (by omega)) (h A B wh vh hA hB)
  | succ d ih =>
    intro s A B wh vh hs hA hB
    have hin : vp_in (nI (64 * k + s)) 1792 := vp_in_nI (by omega) (by decide)
    have hin2 : vp_in (nI s) 64 := vp_in_nI (by omega) (by decide)
    have hcl : (nI (64 * k + s)).toNatClampNeg = 64 * k + s := nI_clamp (by omega)
    have hcl2 : (nI s).toNatClampNeg = s := nI_clamp (by omega)
    refine br_f (nI_ge (a := s) (b := 64) (by omega) (by omega)) (nm_r (ch_64 k s) (And.intro hin (And.intro hin2 (fun a1 e1 => And.intro hin (And.intro hin2 (fun a2 e2 => And.intro hin (fun a3 e3 => And.intro hin (fun a4 e4 => nm_r (nI_1 s) ?_))))))))
    rw [hcl, hcl2, show ch_w A (64 * k + s) = lN (A (64 * k + s)) from rfl, ch_w_u] at e1
    rw [hcl, hcl2, show ch_w B (64 * k + s) = lN (B (64 * k + s)) from rfl, ch_w_u] at e2
    rw [hcl, show (0 : Int64) = lN 0 from rfl, ch_w_u] at e3 e4
    rw [e1, e2, e3, e4]
    exact ih (s + 1) _ _ _ _ (by omega) (ch_lfI_s hA) (ch_lfI_s hB)
theorem ch_lift {k : Nat} (hk : k ≤ 6) (h : ∀ A' B' wh vh, ch_lfI k 64 A A' wh → ch_lfI k 64 B B' vh → post (f_height, f_size, f_opened, lv, ch_gg g, f_watched, f_known, a_lower, a_upper, a_kind, a_variable, a_share, a_low, a_high, a_openAt, a_elseOf, a_endOf, ch_w A', ch_w B', ba, ro, a_forced, ch_w wh, ch_w vh, a_atEnd)) : wpX_liftRow post (f_height, f_size, f_opened, lv, ch_gg g, f_watched, f_known, a_lower, a_upper, a_kind, a_variable, a_share, a_low, a_high, a_openAt, a_elseOf, a_endOf, ch_w A, ch_w B, ba, ro, a_forced, ch_w wh, ch_w vh, a_atEnd) (nI k) := by
  refine Exists.intro 65 (ch_lift_l hk (fun A' B' wh vh h1 h2 => h A' B' wh vh h1 h2) 64 0 A B wh vh (by omega) ?_ ?_)
  · exact ⟨fun j => (if_neg (by omega)).symm, fun t ht => by omega⟩
  · exact ⟨fun j => (if_neg (by omega)).symm, fun t ht => by omega⟩
theorem ch_sct_b {A tg wt : Nat → Nat} {N M j : Nat} (hA : A j ≤ M) (hw : ∀ t, t < N → wt t ≤ M) : ch_sct true A tg wt N j ≤ M := by
  refine ch_op_lub hA (ch_bg_lub (fun t ht => ?_))
  have ht := List.mem_range.mp ht
  split
  · exact hw t ht
  · exact Nat.zero_le M
end
end
section
/-! own rows: SET and random steps for all weights -/
section
variable {f_height f_size f_opened f_level f_greatestOnly f_watched f_known : Int32} {a_lower a_upper a_low a_high a_weights a_visited a_weightHere a_visitedHere a_atEnd : Nat → Int64} {a_kind a_variable a_share a_openAt a_elseOf a_endOf a_blockAt a_rounds a_forced : Nat → Int32} {post : SX → Prop} {g : Bool} {A B wh vh : Nat → Nat} {lv : Int32} {ba ro : Nat → Int32}
theorem ch_chd {post : Int32 → Prop} (s v x : Nat) (hs : s < 64) (hv : v < 3) (hx : x < 4) (h : post (nI (ch_chg s v x))) : wpX_changed post (nI s) (nI v) (nI x) := by
  unfold wpX_changed
  rw [ch_chg_e s hs v hv x hx]
  exact h
def ch_f0 (v : Nat) (l u : Int64) (t : Nat) : Nat := ch_chg t v (ch_v l u t)
def ch_t0 (k v : Nat) (l u : Int64) (t : Nat) : Nat := 64 * k + ch_chg t v (ch_v l u t)
theorem ch_f0_lt {v : Nat} (hv : v < 3) (l u : Int64) : ∀ t, t < 64 → ch_f0 v l u t < 64 := fun t ht => ch_chg_lt t ht v hv _ (by have := ch_v_le l u t; omega)
theorem ch_set19 {J : Int32 → Int32 → Int32 → Int32 → Int32 → Int32 → Int32 → Int32 → (Nat → Int64) → (Nat → Int64) → (Nat → Int32) → (Nat → Int32) → (Nat → Int32) → (Nat → Int64) → (Nat → Int64) → (Nat → Int32) → (Nat → Int32) → (Nat → Int32) → (Nat → Int64) → (Nat → Int64) → (Nat → Int32) → (Nat → Int32) → (Nat → Int32) → (Nat → Int64) → (Nat → Int64) → (Nat → Int64) → Prop}
    {k v : Nat} {l u : Int64} (hk : k ≤ 6) (hv : v < 3) (hA : g = true → ∀ j, j < 448 → A j ≤ 268435456) (hw : g = true → ∀ t, t < 64 → wh t ≤ 268435456)
    (h : J (nI (k + 1)) f_height f_size f_opened lv (ch_gg g) f_watched f_known a_lower a_upper a_kind a_variable a_share a_low a_high a_openAt a_elseOf a_endOf (ch_w (ch_sct g A (ch_t0 k v l u) wh 64)) (ch_w (ch_sct false B (ch_t0 k v l u) vh 64)) ba ro a_forced (ch_w wh) (ch_w vh) a_atEnd) :
    ∀ d s : Nat, s + d = 64 → wX_setAll_19 post J (nI v) l u (nI k) (d + 1) (nI s) f_height f_size f_opened lv (ch_gg g) f_watched f_known a_lower a_upper a_kind a_variable a_share a_low a_high a_openAt a_elseOf a_endOf (ch_w (ch_sct g A (ch_t0 k v l u) wh s)) (ch_w (ch_sct false B (ch_t0 k v l u) vh s)) ba ro a_forced (ch_w wh) (ch_w vh) a_atEnd := by
  intro d
  induction d with
  | zero =>
    intro s hs
    have e : s = 64 := by omega
    subst e
    exact br_t (nI_le (a := 64) (b := 64) (by omega) (by omega)) (nm_r (nI_1 k) h)
  | succ d ih =>
    intro s hs
    have hs64 : s < 64 := by omega
    have hin2 : vp_in (nI s) 64 := vp_in_nI hs64 (by decide)
    have hcl2 : (nI s).toNatClampNeg = s := nI_clamp (by omega)
    have hvl := ch_v_le l u s
    have hc := ch_chg_lt s hs64 v hv (ch_v l u s) (by omega)
    have hb : g = true → wh s < 2 ^ 63 ∧ ch_sct g A (ch_t0 k v l u) wh s (64 * k + ch_chg s v (ch_v l u s)) < 2 ^ 63 := fun hg => by
      subst hg
      have h1 := hw rfl s hs64
      have h2 := ch_sct_b (tg := ch_t0 k v l u) (wt := wh) (N := s) (hA rfl (64 * k + ch_chg s v (ch_v l u s)) (by omega)) (fun t ht => hw rfl t (by omega))
      omega
    have hi := ih (s + 1) (by omega)
    rw [← ch_sct_s, ← ch_sct_s] at hi
    refine br_f (nI_ge (a := s) (b := 64) hs64 (by omega)) (nm_r (ch_v_e l u hs64) (ch_chd s v _ hs64 hv (by omega) (nm_r (ch_64 k _) (And.intro hin2 (And.intro hin2 ?_)))))
    rw [hcl2]
    exact ch_meet (x := wh s) (y := vh s) (by omega) hb (nm_r (nI_1 s) hi)
def ch_stI (g : Bool) (f : Nat → Nat) (k : Nat) (A0 A : Nat → Nat) : Prop := ∀ j, A j = if j < 64 * k then ch_bg g (List.range 64) (fun t => if 64 * (j / 64) + f t = j then A0 (64 * (j / 64) + t) else 0) else A0 j
theorem ch_stI_s {f : Nat → Nat} {k : Nat} {A0 A1 tg : Nat → Nat} (hf : ∀ t, t < 64 → f t < 64) (htg : ∀ t, tg t = 64 * k + f t) (h : ch_stI g f k A0 A) (hl : ch_lfI k 64 A A1 wh) : ch_stI g f (k + 1) A0 (ch_sct g A1 tg wh 64) := by
  intro j
  show ch_op g (A1 j) (ch_bg g (List.range 64) (fun t => if tg t = j then wh t else 0)) = _
  rw [hl.1 j]
  by_cases h1 : 64 * k ≤ j ∧ j < 64 * k + 64
  · rw [if_pos h1, if_pos (by omega), ch_0_op]
    have ej : j / 64 = k := by omega
    rw [ej]
    refine ch_bg_cg g (fun t ht => ?_)
    have ht := List.mem_range.mp ht
    rw [htg t, hl.2 t ht, h (64 * k + t), if_neg (show ¬ 64 * k + t < 64 * k by omega)]
  · have hz : ch_bg g (List.range 64) (fun t => if tg t = j then wh t else 0) = 0 := by
      refine ch_bg_z g (fun t ht => ?_)
      have ht := List.mem_range.mp ht
      have := hf t ht
      rw [htg t, if_neg (by omega)]
    rw [if_neg h1, h j, hz, ch_op_0]
    by_cases h2 : j < 64 * k
    · rw [if_pos h2, if_pos (by omega)]
    · rw [if_neg h2, if_neg (by omega)]
theorem ch_lfI_b {k : Nat} {A1 : Nat → Nat} {M N : Nat} (hk : 64 * k + 64 ≤ N) (hA : ∀ j, j < N → A j ≤ M) (hl : ch_lfI k 64 A A1 wh) : (∀ j, j < N → A1 j ≤ M) ∧ ∀ t, t < 64 → wh t ≤ M := by
  refine ⟨fun j hj => ?_, fun t ht => ?_⟩
  · rw [hl.1 j]
    split
    · exact Nat.zero_le M
    · exact hA j hj
  · rw [hl.2 t ht]
    exact hA _ (by omega)
theorem ch_set3 {v : Nat} {l u : Int64} (hv : v < 3) {A0 B0 : Nat → Nat}
    (h : ∀ A B wh vh, ch_stI g (ch_f0 v l u) 7 A0 A → ch_stI false (ch_f0 v l u) 7 B0 B → post (f_height, f_size, f_opened, lv, ch_gg g, f_watched, f_known, a_lower, a_upper, a_kind, a_variable, a_share, a_low, a_high, a_openAt, a_elseOf, a_endOf, ch_w A, ch_w B, ba, ro, a_forced, ch_w wh, ch_w vh, a_atEnd)) :
    ∀ (d k : Nat) (A B wh vh : Nat → Nat), k + d = 7 → (g = true → ∀ j, j < 448 → A j ≤ 268435456) → ch_stI g (ch_f0 v l u) k A0 A → ch_stI false (ch_f0 v l u) k B0 B → wX_setAll_3 post (nI v) l u (d + 1) (nI k) f_height f_size f_opened lv (ch_gg g) f_watched f_known a_lower a_upper a_kind a_variable a_share a_low a_high a_openAt a_elseOf a_endOf (ch_w A) (ch_w B) ba ro a_forced (ch_w wh) (ch_w vh) a_atEnd := by
  intro d
  induction d with
  | zero =>
    intro k A B wh vh hk hb hA hB
    have e : k = 7 := by omega
    subst e
    exact br_t (nI_lt (a := 6) (b := 7) (by omega) (by omega)) (h A B wh vh hA hB)
  | succ d ih =>
    intro k A B wh vh hk hb hA hB
    refine br_f (nI_nlt (a := 6) (b := k) (by omega) (by omega)) (ch_lift (by omega) (fun A1 B1 wh1 vh1 hl1 hl2 => ?_))
    have hbb : g = true → (∀ j, j < 448 → A1 j ≤ 268435456) ∧ ∀ t, t < 64 → wh1 t ≤ 268435456 := fun hg => ch_lfI_b (by omega) (hb hg) hl1
    refine Exists.intro 65 ?_
    have h0 := ch_set19 (post := post) (J := wX_setAll_3 post (nI v) l u (d + 1)) (A := A1) (B := B1) (wh := wh1) (vh := vh1) (l := l) (u := u) (k := k) (g := g) (ba := ba) (ro := ro) (lv := lv) (f_height := f_height) (f_size := f_size) (f_opened := f_opened) (f_watched := f_watched) (f_known := f_known) (a_lower := a_lower) (a_upper := a_upper) (a_kind := a_kind) (a_variable := a_variable) (a_share := a_share) (a_low := a_low) (a_high := a_high) (a_openAt := a_openAt) (a_elseOf := a_elseOf) (a_endOf := a_endOf) (a_forced := a_forced) (a_atEnd := a_atEnd) (by omega) hv (fun hg => (hbb hg).1) (fun hg => (hbb hg).2) ?_ 64 0 (by omega)
    · rw [ch_sct_0, ch_sct_0] at h0
      exact h0
    · refine ih (k + 1) _ _ _ _ (by omega) (fun hg j hj => ?_) (ch_stI_s (ch_f0_lt hv l u) (fun t => rfl) hA hl1) (ch_stI_s (ch_f0_lt hv l u) (fun t => rfl) hB hl2)
      have h2 := hbb hg
      subst hg
      exact ch_sct_b (h2.1 j hj) h2.2
theorem ch_setAll {v : Nat} {l u : Int64} (hv : v < 3) (hb : g = true → ∀ j, j < 448 → A j ≤ 268435456)
    (h : ∀ A' B' wh vh, ch_stI g (ch_f0 v l u) 7 A A' → ch_stI false (ch_f0 v l u) 7 B B' → post (f_height, f_size, f_opened, lv, ch_gg g, f_watched, f_known, a_lower, a_upper, a_kind, a_variable, a_share, a_low, a_high, a_openAt, a_elseOf, a_endOf, ch_w A', ch_w B', ba, ro, a_forced, ch_w wh, ch_w vh, a_atEnd)) : wpX_setAll post (f_height, f_size, f_opened, lv, ch_gg g, f_watched, f_known, a_lower, a_upper, a_kind, a_variable, a_share, a_low, a_high, a_openAt, a_elseOf, a_endOf, ch_w A, ch_w B, ba, ro, a_forced, ch_w wh, ch_w vh, a_atEnd) (nI v) l u := by
  refine Exists.intro 8 (ch_set3 hv (fun A' B' wh vh h1 h2 => h A' B' wh vh h1 h2) 7 0 A B wh vh (by omega) hb ?_ ?_)
  · exact fun j => (if_neg (by omega)).symm
  · exact fun j => (if_neg (by omega)).symm
def ch_t1 (k v o : Nat) (t : Nat) : Nat := 64 * (k + 1) + ch_chg t v o
def ch_x1 (wh : Nat → Nat) (c : Nat) (t : Nat) : Nat := wh t * c
theorem ch_row {k v o c : Nat} (hk : k ≤ 5) (hv : v < 3) (ho : o < 4) (hc : c ≤ 16) (hA : g = true → ∀ j, j < 448 → A j ≤ 268435456) (hw : g = true → ∀ t, t < 64 → wh t ≤ 16777216)
    (h : post (f_height, f_size, f_opened, lv, ch_gg g, f_watched, f_known, a_lower, a_upper, a_kind, a_variable, a_share, a_low, a_high, a_openAt, a_elseOf, a_endOf, ch_w (ch_sct g A (ch_t1 k v o) (ch_x1 wh c) 64), ch_w (ch_sct false B (ch_t1 k v o) (ch_x1 vh c) 64), ba, ro, a_forced, ch_w wh, ch_w vh, a_atEnd)) :
    ∀ d s : Nat, s + d = 64 → wX_stepRow_3 post (nI k) (nI v) (nI o) (nI c) (d + 1) (nI s) f_height f_size f_opened lv (ch_gg g) f_watched f_known a_lower a_upper a_kind a_variable a_share a_low a_high a_openAt a_elseOf a_endOf (ch_w (ch_sct g A (ch_t1 k v o) (ch_x1 wh c) s)) (ch_w (ch_sct false B (ch_t1 k v o) (ch_x1 vh c) s)) ba ro a_forced (ch_w wh) (ch_w vh) a_atEnd := by
  intro d
  induction d with
  | zero =>
    intro s hs
    have e : s = 64 := by omega
    subst e
    exact br_t (nI_le (a := 64) (b := 64) (by omega) (by omega)) h
  | succ d ih =>
    intro s hs
    have hs64 : s < 64 := by omega
    have hin2 : vp_in (nI s) 64 := vp_in_nI hs64 (by decide)
    have hcl2 : (nI s).toNatClampNeg = s := nI_clamp (by omega)
    have hcc := ch_chg_lt s hs64 v hv o ho
    have hb : g = true → wh s * c < 2 ^ 63 ∧ ch_sct g A (ch_t1 k v o) (ch_x1 wh c) s (64 * (k + 1) + ch_chg s v o) < 2 ^ 63 := fun hg => by
      subst hg
      have hwc : ∀ t, t < 64 → ch_x1 wh c t ≤ 268435456 := fun t ht => Nat.mul_le_mul (hw rfl t ht) hc
      have h1 := hwc s hs64
      have h2 := ch_sct_b (tg := ch_t1 k v o) (wt := ch_x1 wh c) (N := s) (hA rfl (64 * (k + 1) + ch_chg s v o) (by omega)) (fun t ht => hwc t (by omega))
      unfold ch_x1 at h1
      omega
    have hi := ih (s + 1) (by omega)
    rw [← ch_sct_s, ← ch_sct_s] at hi
    have e64 : 64 * (nI k + 1) + nI (ch_chg s v o) = nI (64 * (k + 1) + ch_chg s v o) := by rw [nI_1, ch_64]
    refine br_f (nI_ge (a := s) (b := 64) hs64 (by omega)) (ch_chd s v o hs64 hv ho (nm_r e64 (And.intro hin2 (And.intro hin2 ?_))))
    rw [hcl2, nI_l (by omega), show ch_w wh s = lN (wh s) from rfl, show ch_w vh s = lN (vh s) from rfl, lN_mul, lN_mul]
    exact ch_meet (x := wh s * c) (y := vh s * c) (by omega) hb (nm_r (nI_1 s) hi)
theorem ch_stepRow {k v o c : Nat} (hk : k ≤ 5) (hv : v < 3) (ho : o < 4) (hc : c ≤ 16) (hA : g = true → ∀ j, j < 448 → A j ≤ 268435456) (hw : g = true → ∀ t, t < 64 → wh t ≤ 16777216)
    (h : post (f_height, f_size, f_opened, lv, ch_gg g, f_watched, f_known, a_lower, a_upper, a_kind, a_variable, a_share, a_low, a_high, a_openAt, a_elseOf, a_endOf, ch_w (ch_sct g A (ch_t1 k v o) (ch_x1 wh c) 64), ch_w (ch_sct false B (ch_t1 k v o) (ch_x1 vh c) 64), ba, ro, a_forced, ch_w wh, ch_w vh, a_atEnd)) : wpX_stepRow post (f_height, f_size, f_opened, lv, ch_gg g, f_watched, f_known, a_lower, a_upper, a_kind, a_variable, a_share, a_low, a_high, a_openAt, a_elseOf, a_endOf, ch_w A, ch_w B, ba, ro, a_forced, ch_w wh, ch_w vh, a_atEnd) (nI k) (nI v) (nI o) (nI c) := by
  have h0 := ch_row hk hv ho hc hA hw h 64 0 (by omega)
  rw [ch_sct_0, ch_sct_0] at h0
  exact Exists.intro 65 h0
end
end
section
/-! own rows: random steps for all weights -/
def ch_xp (P : ch_P) (f_size : Int32) (a_kind a_variable a_share : Nat → Int32) (a_low a_high : Nat → Int64) : Prop :=
  f_size = nI (ch_n P) ∧ ∀ i, i < ch_n P → a_kind i = nI (ch_K P i) ∧ (ch_K P i ≤ 2 → a_variable i = nI (ch_V P i)) ∧ ((ch_K P i = 1 ∨ ch_K P i = 6) → a_share i = nI (ch_S P i)) ∧ (∀ s, ch_E P i s = ch_v (a_low i) (a_high i) s)
def ch_al (a_forced : Nat → Int32) (k o : Nat) : Bool := decide (a_forced k < 0 ∨ a_forced k = nI o)
def ch_Sx (g : Bool) (P : ch_P) (i : Nat) (al : Nat → Nat → Bool) (k : Nat) (wh : Nat → Nat) (x j : Nat) : Nat :=
  if ch_sh P i x ≠ 0 ∧ al k x = true then ch_bg g (List.range 64) (fun t => if ch_t1 k (ch_V P i) x t = j then ch_x1 wh (ch_sh P i x) t else 0) else 0
def ch_oc (g : Bool) (P : ch_P) (i : Nat) (al : Nat → Nat → Bool) (k : Nat) (A wh : Nat → Nat) (o j : Nat) : Nat := ch_op g (A j) (ch_bg g (List.range o) (fun x => ch_Sx g P i al k wh x j))
theorem ch_oc_0 (g : Bool) (P : ch_P) (i : Nat) (al : Nat → Nat → Bool) (k : Nat) (A wh : Nat → Nat) : ch_oc g P i al k A wh 0 = A := funext fun j => ch_op_0 g (A j)
theorem ch_oc_y {g : Bool} {P : ch_P} {i : Nat} {al : Nat → Nat → Bool} {k o : Nat} {A wh : Nat → Nat} (h : ch_sh P i o ≠ 0 ∧ al k o = true) : ch_sct g (ch_oc g P i al k A wh o) (ch_t1 k (ch_V P i) o) (ch_x1 wh (ch_sh P i o)) 64 = ch_oc g P i al k A wh (o + 1) := by
  funext j
  show ch_op g (ch_op g (A j) (ch_bg g (List.range o) (fun x => ch_Sx g P i al k wh x j))) (ch_bg g (List.range 64) (fun t => if ch_t1 k (ch_V P i) o t = j then ch_x1 wh (ch_sh P i o) t else 0)) = ch_op g (A j) (ch_bg g (List.range (o + 1)) (fun x => ch_Sx g P i al k wh x j))
  have e : ch_Sx g P i al k wh o j = ch_bg g (List.range 64) (fun t => if ch_t1 k (ch_V P i) o t = j then ch_x1 wh (ch_sh P i o) t else 0) := if_pos h
  rw [ch_bg_s g o, ch_op_a, e]
theorem ch_oc_n {g : Bool} {P : ch_P} {i : Nat} {al : Nat → Nat → Bool} {k o : Nat} {A wh : Nat → Nat} (h : ¬ (ch_sh P i o ≠ 0 ∧ al k o = true)) : ch_oc g P i al k A wh (o + 1) = ch_oc g P i al k A wh o := by
  funext j
  show ch_op g (A j) (ch_bg g (List.range (o + 1)) (fun x => ch_Sx g P i al k wh x j)) = ch_op g (A j) (ch_bg g (List.range o) (fun x => ch_Sx g P i al k wh x j))
  have e : ch_Sx g P i al k wh o j = 0 := if_neg h
  rw [ch_bg_s, e, ch_op_0]
theorem ch_oc_b {P : ch_P} {i : Nat} {al : Nat → Nat → Bool} {k o j M : Nat} {A wh : Nat → Nat} (hA : A j ≤ M) (hw : ∀ x t, t < 64 → ch_sh P i x ≠ 0 → ch_x1 wh (ch_sh P i x) t ≤ M) : ch_oc true P i al k A wh o j ≤ M := by
  refine ch_op_lub hA (ch_bg_lub (fun x _ => ?_))
  unfold ch_Sx
  split
  · rename_i hx
    refine ch_bg_lub (fun t ht => ?_)
    split
    · exact hw x t (List.mem_range.mp ht) hx.1
    · exact Nat.zero_le M
  · exact Nat.zero_le M
section
variable {f_height f_size f_opened f_level f_greatestOnly f_watched f_known : Int32} {a_lower a_upper a_low a_high a_weights a_visited a_weightHere a_visitedHere a_atEnd : Nat → Int64} {a_kind a_variable a_share a_openAt a_elseOf a_endOf a_blockAt a_rounds a_forced : Nat → Int32} {post : SX → Prop} {g : Bool} {A B wh vh : Nat → Nat} {lv : Int32} {ba ro : Nat → Int32} {P : ch_P}
theorem ch_shareOf {post : Int32 → Prop} {i o : Nat} (w : ch_wf P) (hx : ch_xp P f_size a_kind a_variable a_share a_low a_high) (hi : i < ch_n P) (hr : ch_K P i = 1 ∨ ch_K P i = 2) (ho : o < 4) (h : post (nI (ch_sh P i o))) : wpX_shareOf post (f_height, f_size, f_opened, f_level, f_greatestOnly, f_watched, f_known, a_lower, a_upper, a_kind, a_variable, a_share, a_low, a_high, a_openAt, a_elseOf, a_endOf, a_weights, a_visited, a_blockAt, a_rounds, a_forced, a_weightHere, a_visitedHere, a_atEnd) (nI i) (nI o) := by
  have hn := w.1
  have hin : vp_in (nI i) 24 := vp_in_nI (by omega) (by decide)
  have hcl : (nI i).toNatClampNeg = i := nI_clamp (by omega)
  have hxi := hx.2 i hi
  refine And.intro hin ?_
  rw [hcl, hxi.1]
  by_cases h2 : ch_K P i = 2
  · have e : ch_sh P i o = 4 := if_pos h2
    rw [e] at h
    rw [h2]
    exact br_t rfl h
  · have h1 : ch_K P i = 1 := by omega
    have hS := hxi.2.2.1 (Or.inl h1)
    have hle := (w.2 i hi).1.2.2.1 h1
    have e : ch_sh P i o = if o = 1 then ch_S P i else if o = 0 then 16 - ch_S P i else 0 := if_neg h2
    rw [e] at h
    rw [h1, hS]
    refine br_f (by decide) ?_
    have ho4 : o = 0 ∨ o = 1 ∨ o = 2 ∨ o = 3 := by omega
    rcases ho4 with rfl | rfl | rfl | rfl
    · refine br_t (by decide) (br_f (by decide) (And.intro hin ?_))
      rw [show (16 : Int32) = nI 16 from rfl, pk_sub hle]
      exact h
    · exact br_t (by decide) (br_t rfl (And.intro hin h))
    · exact br_f (by decide) h
    · exact br_f (by decide) h
theorem ch_all19 {J8 : Int32 → Int32 → Int32 → Int32 → Int32 → Int32 → Int32 → Int32 → (Nat → Int64) → (Nat → Int64) → (Nat → Int32) → (Nat → Int32) → (Nat → Int32) → (Nat → Int64) → (Nat → Int64) → (Nat → Int32) → (Nat → Int32) → (Nat → Int32) → (Nat → Int64) → (Nat → Int64) → (Nat → Int32) → (Nat → Int32) → (Nat → Int32) → (Nat → Int64) → (Nat → Int64) → (Nat → Int64) → Prop}
    {i k : Nat} (w : ch_wf P) (hx : ch_xp P f_size a_kind a_variable a_share a_low a_high) (hi : i < ch_n P) (hr : ch_K P i = 1 ∨ ch_K P i = 2) (hk : k ≤ 5) (hA : g = true → ∀ j, j < 448 → A j ≤ 268435456) (hw : g = true → ∀ t, t < 64 → wh t ≤ 16777216)
    (h : J8 (nI k + (-1)) f_height f_size f_opened lv (ch_gg g) f_watched f_known a_lower a_upper a_kind a_variable a_share a_low a_high a_openAt a_elseOf a_endOf (ch_w (ch_oc g P i (ch_al a_forced) k A wh 4)) (ch_w (ch_oc false P i (ch_al a_forced) k B vh 4)) ba ro a_forced (ch_w wh) (ch_w vh) a_atEnd) :
    ∀ d o : Nat, o + d = 4 → wX_stepAll_19 post J8 (nI i) (nI k) (d + 1) (nI o) f_height f_size f_opened lv (ch_gg g) f_watched f_known a_lower a_upper a_kind a_variable a_share a_low a_high a_openAt a_elseOf a_endOf (ch_w (ch_oc g P i (ch_al a_forced) k A wh o)) (ch_w (ch_oc false P i (ch_al a_forced) k B vh o)) ba ro a_forced (ch_w wh) (ch_w vh) a_atEnd := by
  intro d
  induction d with
  | zero =>
    intro o ho
    have e : o = 4 := by omega
    subst e
    exact br_t (nI_le (a := 4) (b := 4) (by omega) (by omega)) (nm_e h)
  | succ d ih =>
    intro o ho
    have hn := w.1
    have ho4 : o < 4 := by omega
    have hin24 : vp_in (nI i) 24 := vp_in_nI (by omega) (by decide)
    have hin6 : vp_in (nI k) 6 := vp_in_nI (by omega) (by decide)
    have hcli : (nI i).toNatClampNeg = i := nI_clamp (by omega)
    have hclk : (nI k).toNatClampNeg = k := nI_clamp (by omega)
    have hV := (hx.2 i hi).2.1 (by omega)
    have hv3 : ch_V P i < 3 := by
      have := (w.2 i hi).1.2.1 (by omega)
      omega
    have hsh : ∀ x, ch_sh P i x ≤ 16 := fun x => ch_sh_le (w.2 i hi).1 hr
    have hi2 := ih (o + 1) (by omega)
    refine br_f (nI_ge (a := o) (b := 4) ho4 (by omega)) (ch_shareOf w hx hi hr ho4 ?_)
    by_cases h0 : ch_sh P i o = 0
    · rw [ch_oc_n (fun z => z.1 h0), ch_oc_n (fun z => z.1 h0)] at hi2
      rw [h0]
      exact br_t (by decide) (nm_r (nI_1 o) hi2)
    · have hrow : ch_al a_forced k o = true → wX_stepAll_56 post J8 (wX_stepAll_19 post J8 (nI i) (nI k) (d + 1)) (nI i) (nI k) (nI o) (nI (ch_sh P i o)) f_height f_size f_opened lv (ch_gg g) f_watched f_known a_lower a_upper a_kind a_variable a_share a_low a_high a_openAt a_elseOf a_endOf (ch_w (ch_oc g P i (ch_al a_forced) k A wh o)) (ch_w (ch_oc false P i (ch_al a_forced) k B vh o)) ba ro a_forced (ch_w wh) (ch_w vh) a_atEnd := by
        intro ha
        rw [← ch_oc_y ⟨h0, ha⟩, ← ch_oc_y ⟨h0, ha⟩] at hi2
        refine And.intro hin24 ?_
        rw [hcli, hV]
        refine ch_stepRow hk hv3 ho4 (hsh o) (fun hg j hj => ?_) hw (nm_r (nI_1 o) hi2)
        subst hg
        exact ch_oc_b (hA rfl j hj) (fun x t ht _ => Nat.mul_le_mul (hw rfl t ht) (hsh x))
      have hs2 := hsh o
      refine br_f (nI_nle (by omega) (by omega)) (And.intro hin6 ?_)
      rw [hclk]
      by_cases hf : a_forced k < 0
      · exact br_t hf (hrow (decide_eq_true (Or.inl hf)))
      · refine br_f hf (And.intro hin6 ?_)
        by_cases hf2 : a_forced k = nI o
        · exact br_t hf2 (hrow (decide_eq_true (Or.inr hf2)))
        · have hna : ¬ (ch_sh P i o ≠ 0 ∧ ch_al a_forced k o = true) := fun z => (of_decide_eq_true z.2).elim hf hf2
          rw [ch_oc_n hna, ch_oc_n hna] at hi2
          exact br_f hf2 (nm_r (nI_1 o) hi2)
def ch_new (g : Bool) (P : ch_P) (i : Nat) (al : Nat → Nat → Bool) (A0 : Nat → Nat) (j : Nat) : Nat := ch_bg g (List.range 4) (fun x => ch_Sx g P i al (j / 64 - 1) (fun t => A0 (64 * (j / 64 - 1) + t)) x j)
def ch_srI (g : Bool) (P : ch_P) (i : Nat) (al : Nat → Nat → Bool) (k : Nat) (A0 A : Nat → Nat) : Prop := ∀ j, A j = if 448 ≤ j then A0 j else if 64 * (k + 1) ≤ j then ch_new g P i al A0 j else if 64 * k ≤ j then 0 else A0 j
theorem ch_srI_s {i k : Nat} {al : Nat → Nat → Bool} {A0 A1 : Nat → Nat} (hv : ch_V P i < 3) (hk : k ≤ 5) (h : ch_srI g P i al (k + 1) A0 A) (hl : ch_lfI k 64 A A1 wh) : ch_srI g P i al k A0 (ch_oc g P i al k A1 wh 4) := by
  intro j
  show ch_op g (A1 j) (ch_bg g (List.range 4) (fun x => ch_Sx g P i al k wh x j)) = _
  have hz : ¬ (64 * (k + 1) ≤ j ∧ j < 64 * (k + 2)) → ch_bg g (List.range 4) (fun x => ch_Sx g P i al k wh x j) = 0 := fun hj => by
    refine ch_bg_z g (fun x hx => ?_)
    unfold ch_Sx
    split
    · refine ch_bg_z g (fun t ht => if_neg ?_)
      have := ch_chg_lt t (List.mem_range.mp ht) (ch_V P i) hv x (List.mem_range.mp hx)
      unfold ch_t1
      omega
    · rfl
  by_cases h1 : 64 * (k + 1) ≤ j ∧ j < 64 * (k + 2)
  · have ej : j / 64 - 1 = k := by omega
    rw [hl.1 j, if_neg (by omega), h j, if_neg (by omega), if_neg (by omega), if_pos (by omega), ch_0_op, if_neg (by omega), if_pos h1.1]
    unfold ch_new
    rw [ej]
    refine ch_bg_cg g (fun x hx => ?_)
    unfold ch_Sx
    split
    · refine ch_bg_cg g (fun t ht => ?_)
      have ht := List.mem_range.mp ht
      unfold ch_x1
      have ea : A (64 * k + t) = A0 (64 * k + t) := by rw [h (64 * k + t), if_neg (by omega), if_neg (by omega), if_neg (by omega)]
      rw [hl.2 t ht, ea]
    · rfl
  · rw [hz h1, ch_op_0, hl.1 j]
    by_cases h2 : 64 * k ≤ j ∧ j < 64 * k + 64
    · rw [if_pos h2, if_neg (by omega), if_neg (by omega), if_pos h2.1]
    · rw [if_neg h2, h j]
      by_cases h3 : 448 ≤ j
      · rw [if_pos h3, if_pos h3]
      · rw [if_neg h3, if_neg h3]
        by_cases h4 : 64 * (k + 1 + 1) ≤ j
        · rw [if_pos h4, if_pos (by omega)]
        · rw [if_neg h4, if_neg (by omega), if_neg (by omega), if_neg (by omega)]
theorem ch_all8 {i : Nat} (w : ch_wf P) (hx : ch_xp P f_size a_kind a_variable a_share a_low a_high) (hi : i < ch_n P) (hr : ch_K P i = 1 ∨ ch_K P i = 2) {A0 B0 : Nat → Nat} (hA0 : g = true → ∀ j, j < 448 → A0 j ≤ 16777216)
    (h : ∀ A B wh vh, ch_srI g P i (ch_al a_forced) 0 A0 A → ch_srI false P i (ch_al a_forced) 0 B0 B → post (f_height, f_size, f_opened, lv, ch_gg g, f_watched, f_known, a_lower, a_upper, a_kind, a_variable, a_share, a_low, a_high, a_openAt, a_elseOf, a_endOf, ch_w A, ch_w B, ba, ro, a_forced, ch_w wh, ch_w vh, a_atEnd)) :
    ∀ (k : Nat) (A B wh vh : Nat → Nat), k ≤ 5 → (g = true → ∀ j, j < 448 → A j ≤ 268435456) → ch_srI g P i (ch_al a_forced) (k + 1) A0 A → ch_srI false P i (ch_al a_forced) (k + 1) B0 B → wX_stepAll_8 post (nI i) (k + 2) (nI k) f_height f_size f_opened lv (ch_gg g) f_watched f_known a_lower a_upper a_kind a_variable a_share a_low a_high a_openAt a_elseOf a_endOf (ch_w A) (ch_w B) ba ro a_forced (ch_w wh) (ch_w vh) a_atEnd := by
  have hv3 : ch_V P i < 3 := by
    have := (w.2 i hi).1.2.1 (by omega)
    omega
  have hsh : ∀ x, ch_sh P i x ≤ 16 := fun x => ch_sh_le (w.2 i hi).1 hr
  intro k
  induction k with
  | zero =>
    intro A B wh vh hk hb hA hB
    refine br_f (by decide) (ch_lift (by omega) (fun A1 B1 wh1 vh1 hl1 hl2 => ?_))
    have hb1 : g = true → ∀ j, j < 448 → A1 j ≤ 268435456 := fun hg => (ch_lfI_b (N := 448) (by omega) (hb hg) hl1).1
    have hb2 : g = true → ∀ t, t < 64 → wh1 t ≤ 16777216 := fun hg t ht => by
      rw [hl1.2 t ht, hA (64 * 0 + t), if_neg (by omega), if_neg (by omega), if_neg (by omega)]
      exact hA0 hg _ (by omega)
    refine Exists.intro 5 ?_
    have h0 := ch_all19 (post := post) (J8 := wX_stepAll_8 post (nI i) 1) (A := A1) (B := B1) (wh := wh1) (vh := vh1) (i := i) (k := 0) (g := g) (ba := ba) (ro := ro) (lv := lv) (f_height := f_height) (f_size := f_size) (f_opened := f_opened) (f_watched := f_watched) (f_known := f_known) (a_lower := a_lower) (a_upper := a_upper) (a_kind := a_kind) (a_variable := a_variable) (a_share := a_share) (a_low := a_low) (a_high := a_high) (a_openAt := a_openAt) (a_elseOf := a_elseOf) (a_endOf := a_endOf) (a_forced := a_forced) (a_atEnd := a_atEnd) w hx hi hr hk hb1 hb2 ?_ 4 0 (by omega)
    · rw [ch_oc_0, ch_oc_0] at h0
      exact h0
    · exact br_t (by decide) (h _ _ _ _ (ch_srI_s hv3 hk hA hl1) (ch_srI_s hv3 hk hB hl2))
  | succ k ih =>
    intro A B wh vh hk hb hA hB
    refine br_f (nI_pos (by omega)) (ch_lift (by omega) (fun A1 B1 wh1 vh1 hl1 hl2 => ?_))
    have hb1 : g = true → ∀ j, j < 448 → A1 j ≤ 268435456 := fun hg => (ch_lfI_b (N := 448) (by omega) (hb hg) hl1).1
    have hb2 : g = true → ∀ t, t < 64 → wh1 t ≤ 16777216 := fun hg t ht => by
      rw [hl1.2 t ht, hA (64 * (k + 1) + t), if_neg (by omega), if_neg (by omega), if_neg (by omega)]
      exact hA0 hg _ (by omega)
    refine Exists.intro 5 ?_
    have h0 := ch_all19 (post := post) (J8 := wX_stepAll_8 post (nI i) (k + 2)) (A := A1) (B := B1) (wh := wh1) (vh := vh1) (i := i) (k := k + 1) (g := g) (ba := ba) (ro := ro) (lv := lv) (f_height := f_height) (f_size := f_size) (f_opened := f_opened) (f_watched := f_watched) (f_known := f_known) (a_lower := a_lower) (a_upper := a_upper) (a_kind := a_kind) (a_variable := a_variable) (a_share := a_share) (a_low := a_low) (a_high := a_high) (a_openAt := a_openAt) (a_elseOf := a_elseOf) (a_endOf := a_endOf) (a_forced := a_forced) (a_atEnd := a_atEnd) w hx hi hr hk hb1 hb2 ?_ 4 0 (by omega)
    · rw [ch_oc_0, ch_oc_0] at h0
      exact h0
    · rw [pk_m1]
      refine ih _ _ _ _ (by omega) (fun hg j hj => ?_) (ch_srI_s hv3 hk hA hl1) (ch_srI_s hv3 hk hB hl2)
      subst hg
      exact ch_oc_b (hb1 rfl j hj) (fun x t ht _ => Nat.mul_le_mul (hb2 rfl t ht) (hsh x))
theorem ch_stepAll {i : Nat} (w : ch_wf P) (hx : ch_xp P f_size a_kind a_variable a_share a_low a_high) (hi : i < ch_n P) (hr : ch_K P i = 1 ∨ ch_K P i = 2) (hb : g = true → ∀ j, j < 448 → A j ≤ 16777216)
    (h : ∀ A' B' wh vh, ch_srI g P i (ch_al a_forced) 0 A A' → ch_srI false P i (ch_al a_forced) 0 B B' → post (f_height, f_size, f_opened, lv, ch_gg g, f_watched, f_known, a_lower, a_upper, a_kind, a_variable, a_share, a_low, a_high, a_openAt, a_elseOf, a_endOf, ch_w A', ch_w B', ba, ro, a_forced, ch_w wh, ch_w vh, a_atEnd)) : wpX_stepAll post (f_height, f_size, f_opened, lv, ch_gg g, f_watched, f_known, a_lower, a_upper, a_kind, a_variable, a_share, a_low, a_high, a_openAt, a_elseOf, a_endOf, ch_w A, ch_w B, ba, ro, a_forced, ch_w wh, ch_w vh, a_atEnd) (nI i) := by
  have hl : ∀ {g : Bool} {A A1 wh : Nat → Nat}, ch_lfI 6 64 A A1 wh → ch_srI g P i (ch_al a_forced) (5 + 1) A A1 := by
    intro g A A1 wh hl j
    rw [hl.1 j]
    by_cases h1 : 448 ≤ j
    · rw [if_pos h1, if_neg (by omega)]
    · rw [if_neg h1, if_neg (show ¬ 64 * (5 + 1 + 1) ≤ j by omega)]
      by_cases h2 : 384 ≤ j
      · rw [if_pos (show 64 * 6 ≤ j ∧ j < 64 * 6 + 64 by omega), if_pos (show 64 * (5 + 1) ≤ j by omega)]
      · rw [if_neg (show ¬ (64 * 6 ≤ j ∧ j < 64 * 6 + 64) by omega), if_neg (show ¬ 64 * (5 + 1) ≤ j by omega)]
  refine ch_lift (k := 6) (by omega) (fun A1 B1 wh1 vh1 hl1 hl2 => Exists.intro 7 (ch_all8 w hx hi hr hb (fun A' B' wh vh h1 h2 => h A' B' wh vh h1 h2) 5 A1 B1 wh1 vh1 (by omega) (fun hg => (ch_lfI_b (N := 448) (by omega) (fun j hj => Nat.le_trans (hb hg j hj) (by decide)) hl1).1) (hl hl1) (hl hl2)))
end
end
section
/-! own rows: blocks of the component: moving weights away, beginning, exchanging, ending -/
theorem ch_l1 {b : Nat} (h : b < 2) : lN b = 1 ↔ b = 1 := by
  rw [show (1 : Int64) = lN 1 from rfl, lN_eq (by omega) (by decide)]
def ch_mvI (x : Int64) (c : Nat) (A0 A : Nat → Nat) : Prop := ∀ j, A j = if j < c ∧ ch_bt x (j % 64) = 1 then 0 else A0 j
theorem ch_mvI_y {x : Int64} {c : Nat} {A0 A : Nat → Nat} (h : ch_mvI x c A0 A) (hb : ch_bt x (c % 64) = 1) : ch_mvI x (c + 1) A0 (ch_u A c 0) := by
  intro j
  by_cases hj : j = c
  · rw [hj, ch_us, if_pos ⟨by omega, hb⟩]
  · rw [ch_un hj, h j]
    by_cases h1 : j < c ∧ ch_bt x (j % 64) = 1
    · rw [if_pos h1, if_pos ⟨by omega, h1.2⟩]
    · rw [if_neg h1, if_neg (fun z => h1 ⟨by omega, z.2⟩)]
theorem ch_mvI_n {x : Int64} {c : Nat} {A0 A : Nat → Nat} (h : ch_mvI x c A0 A) (hb : ¬ ch_bt x (c % 64) = 1) : ch_mvI x (c + 1) A0 A := by
  intro j
  rw [h j]
  by_cases h1 : j < c ∧ ch_bt x (j % 64) = 1
  · rw [if_pos h1, if_pos ⟨by omega, h1.2⟩]
  · rw [if_neg h1, if_neg]
    intro z
    by_cases hj : j = c
    · exact hb (hj ▸ z.2)
    · exact h1 ⟨by omega, z.2⟩
def ch_mvJ (g : Bool) (x : Int64) (d c : Nat) (A0 A : Nat → Nat) : Prop := ∀ j, A j = if j < c ∧ ch_bt x (j % 64) = 1 then 0 else if d * 448 ≤ j ∧ j < d * 448 + c ∧ ch_bt x (j % 64) = 1 then ch_op g (A0 j) (A0 (j - d * 448)) else A0 j
theorem ch_mvJ_y {g : Bool} {x : Int64} {d c : Nat} {A0 A : Nat → Nat} (hd : 1 ≤ d) (hc : c < 448) (h : ch_mvJ g x d c A0 A) (hb : ch_bt x (c % 64) = 1) : ch_mvJ g x d (c + 1) A0 (ch_u (ch_u A (d * 448 + c) (ch_op g (A (d * 448 + c)) (A c))) c 0) := by
  intro j
  have e1 : A c = A0 c := by
    rw [h c, if_neg (by omega), if_neg (by omega)]
  have e2 : A (d * 448 + c) = A0 (d * 448 + c) := by
    rw [h (d * 448 + c), if_neg (by omega), if_neg (by omega)]
  by_cases hj : j = c
  · rw [hj, ch_us, if_pos ⟨by omega, hb⟩]
  · rw [ch_un hj]
    by_cases hj2 : j = d * 448 + c
    · have e3 : (d * 448 + c) % 64 = c % 64 := by omega
      rw [hj2, ch_us, e1, e2, if_neg (by omega), if_pos ⟨by omega, by omega, by rw [e3]; exact hb⟩, show d * 448 + c - d * 448 = c by omega]
    · rw [ch_un hj2, h j]
      by_cases h1 : j < c ∧ ch_bt x (j % 64) = 1
      · rw [if_pos h1, if_pos ⟨by omega, h1.2⟩]
      · have h1' : ¬ (j < c + 1 ∧ ch_bt x (j % 64) = 1) := fun z => h1 ⟨by omega, z.2⟩
        rw [if_neg h1, if_neg h1']
        by_cases h2 : d * 448 ≤ j ∧ j < d * 448 + c ∧ ch_bt x (j % 64) = 1
        · rw [if_pos h2, if_pos ⟨h2.1, by omega, h2.2.2⟩]
        · rw [if_neg h2, if_neg (fun z => h2 ⟨z.1, by omega, z.2.2⟩)]
theorem ch_mvJ_n {g : Bool} {x : Int64} {d c : Nat} {A0 A : Nat → Nat} (hd : 1 ≤ d) (hc : c < 448) (h : ch_mvJ g x d c A0 A) (hb : ¬ ch_bt x (c % 64) = 1) : ch_mvJ g x d (c + 1) A0 A := by
  intro j
  rw [h j]
  by_cases h1 : j < c ∧ ch_bt x (j % 64) = 1
  · rw [if_pos h1, if_pos ⟨by omega, h1.2⟩]
  · have h1' : ¬ (j < c + 1 ∧ ch_bt x (j % 64) = 1) := fun z => by
      by_cases hj : j = c
      · exact hb (hj ▸ z.2)
      · exact h1 ⟨by omega, z.2⟩
    rw [if_neg h1, if_neg h1']
    by_cases h2 : d * 448 ≤ j ∧ j < d * 448 + c ∧ ch_bt x (j % 64) = 1
    · rw [if_pos h2, if_pos ⟨h2.1, by omega, h2.2.2⟩]
    · rw [if_neg h2, if_neg]
      intro z
      by_cases hj : j = d * 448 + c
      · have e3 : j % 64 = c % 64 := by omega
        rw [e3] at z
        exact hb z.2.2
      · exact h2 ⟨z.1, by omega, z.2.2⟩
theorem ch_mvJ_b {x : Int64} {d c N M : Nat} {A0 A : Nat → Nat} (hN : d * 448 + 448 ≤ N) (h : ch_mvJ true x d c A0 A) (hA : ∀ j, j < N → A0 j ≤ M) : ∀ j, j < N → A j ≤ M := by
  intro j hj
  rw [h j]
  split
  · exact Nat.zero_le M
  · split
    · exact ch_op_lub (hA j hj) (hA _ (by omega))
    · exact hA j hj
section
variable {f_height f_size f_opened f_level f_greatestOnly f_watched f_known : Int32} {a_lower a_upper a_low a_high a_weights a_visited a_weightHere a_visitedHere a_atEnd : Nat → Int64} {a_kind a_variable a_share a_openAt a_elseOf a_endOf a_blockAt a_rounds a_forced : Nat → Int32} {post : SX → Prop} {g : Bool} {A B wh vh : Nat → Nat} {lv : Int32} {ba ro : Nat → Int32} {P : ch_P}
theorem ch_mv_cond (x : Int64) {c : Nat} (hc : c < 448) : ((x.toUInt64 >>> ((nI c &&& 63).toInt64.toUInt64 &&& Int64.toUInt64 63)).toInt64 &&& 1) = lN (ch_bt x (c % 64)) := by
  rw [ch_c63 hc, ch_bt_e x (by omega)]
theorem ch_mv3 {x : Int64} {A0 B0 : Nat → Nat} (h : ∀ A B, ch_mvI x 448 A0 A → ch_mvI x 448 B0 B → post (f_height, f_size, f_opened, lv, ch_gg g, f_watched, f_known, a_lower, a_upper, a_kind, a_variable, a_share, a_low, a_high, a_openAt, a_elseOf, a_endOf, ch_w A, ch_w B, ba, ro, a_forced, ch_w wh, ch_w vh, a_atEnd)) :
    ∀ (n c : Nat) (A B : Nat → Nat), c + n = 448 → ch_mvI x c A0 A → ch_mvI x c B0 B → wX_moveAway_3 post (-1) x (n + 1) (nI c) f_height f_size f_opened lv (ch_gg g) f_watched f_known a_lower a_upper a_kind a_variable a_share a_low a_high a_openAt a_elseOf a_endOf (ch_w A) (ch_w B) ba ro a_forced (ch_w wh) (ch_w vh) a_atEnd := by
  intro n
  induction n with
  | zero =>
    intro c A B hc hA hB
    have e : c = 448 := by omega
    subst e
    exact br_t (nI_le (a := 448) (b := 448) (by omega) (by omega)) (h A B hA hB)
  | succ n ih =>
    intro c A B hc hA hB
    have hc4 : c < 448 := by omega
    have hin : vp_in (nI c) 1792 := vp_in_nI (by omega) (by decide)
    have hcl : (nI c).toNatClampNeg = c := nI_clamp (by omega)
    refine br_f (nI_ge (a := c) (b := 448) hc4 (by omega)) ?_
    rw [ch_mv_cond x hc4]
    by_cases hb : ch_bt x (c % 64) = 1
    · refine br_t ((ch_l1 (ch_bt_lt _ _)).mpr hb) (br_t ch_m1lt (And.intro hin (fun a1 e1 => And.intro hin (fun a2 e2 => nm_r (nI_1 c) ?_))))
      rw [hcl, show (0 : Int64) = lN 0 from rfl, ch_w_u] at e1 e2
      rw [e1, e2]
      exact ih (c + 1) _ _ (by omega) (ch_mvI_y hA hb) (ch_mvI_y hB hb)
    · exact br_f (fun z => hb ((ch_l1 (ch_bt_lt _ _)).mp z)) (nm_r (nI_1 c) (ih (c + 1) _ _ (by omega) (ch_mvI_n hA hb) (ch_mvI_n hB hb)))
theorem ch_mvL {x : Int64} (h : ∀ A' B', ch_mvI x 448 A A' → ch_mvI x 448 B B' → post (f_height, f_size, f_opened, lv, ch_gg g, f_watched, f_known, a_lower, a_upper, a_kind, a_variable, a_share, a_low, a_high, a_openAt, a_elseOf, a_endOf, ch_w A', ch_w B', ba, ro, a_forced, ch_w wh, ch_w vh, a_atEnd)) : wpX_moveAway post (f_height, f_size, f_opened, lv, ch_gg g, f_watched, f_known, a_lower, a_upper, a_kind, a_variable, a_share, a_low, a_high, a_openAt, a_elseOf, a_endOf, ch_w A, ch_w B, ba, ro, a_forced, ch_w wh, ch_w vh, a_atEnd) (-1) x := by
  refine Exists.intro 449 (ch_mv3 (fun A' B' h1 h2 => h A' B' h1 h2) 448 0 A B (by omega) ?_ ?_)
  · exact fun j => (if_neg (by omega)).symm
  · exact fun j => (if_neg (by omega)).symm
theorem ch_mv3d {x : Int64} {d : Nat} (hd : 1 ≤ d) (hd3 : d ≤ 3) {A0 B0 : Nat → Nat} (hA0 : g = true → ∀ j, j < d * 448 + 448 → A0 j ≤ 268435456) (h : ∀ A B, ch_mvJ g x d 448 A0 A → ch_mvJ false x d 448 B0 B → post (f_height, f_size, f_opened, lv, ch_gg g, f_watched, f_known, a_lower, a_upper, a_kind, a_variable, a_share, a_low, a_high, a_openAt, a_elseOf, a_endOf, ch_w A, ch_w B, ba, ro, a_forced, ch_w wh, ch_w vh, a_atEnd)) :
    ∀ (n c : Nat) (A B : Nat → Nat), c + n = 448 → ch_mvJ g x d c A0 A → ch_mvJ false x d c B0 B → wX_moveAway_3 post (nI d) x (n + 1) (nI c) f_height f_size f_opened lv (ch_gg g) f_watched f_known a_lower a_upper a_kind a_variable a_share a_low a_high a_openAt a_elseOf a_endOf (ch_w A) (ch_w B) ba ro a_forced (ch_w wh) (ch_w vh) a_atEnd := by
  intro n
  induction n with
  | zero =>
    intro c A B hc hA hB
    have e : c = 448 := by omega
    subst e
    exact br_t (nI_le (a := 448) (b := 448) (by omega) (by omega)) (h A B hA hB)
  | succ n ih =>
    intro c A B hc hA hB
    have hc4 : c < 448 := by omega
    have hin : vp_in (nI c) 1792 := vp_in_nI (by omega) (by decide)
    have hcl : (nI c).toNatClampNeg = c := nI_clamp (by omega)
    refine br_f (nI_ge (a := c) (b := 448) hc4 (by omega)) ?_
    rw [ch_mv_cond x hc4]
    by_cases hb : ch_bt x (c % 64) = 1
    · refine br_t ((ch_l1 (ch_bt_lt _ _)).mpr hb) (br_f (nI_pos (by omega)) (And.intro hin (And.intro hin ?_)))
      have hbd : g = true → A c < 2 ^ 63 ∧ A (d * 448 + c) < 2 ^ 63 := fun hg => by
        subst hg
        have h1 := ch_mvJ_b (Nat.le_refl _) hA (hA0 rfl) c (by omega)
        have h2 := ch_mvJ_b (Nat.le_refl _) hA (hA0 rfl) (d * 448 + c) (by omega)
        omega
      rw [hcl, ch_448]
      refine ch_meet (x := A c) (y := B c) (by omega) hbd (And.intro hin (fun a1 e1 => And.intro hin (fun a2 e2 => nm_r (nI_1 c) ?_)))
      rw [hcl, show (0 : Int64) = lN 0 from rfl, ch_w_u] at e1 e2
      rw [e1, e2]
      exact ih (c + 1) _ _ (by omega) (ch_mvJ_y hd hc4 hA hb) (ch_mvJ_y hd hc4 hB hb)
    · exact br_f (fun z => hb ((ch_l1 (ch_bt_lt _ _)).mp z)) (nm_r (nI_1 c) (ih (c + 1) _ _ (by omega) (ch_mvJ_n hd hc4 hA hb) (ch_mvJ_n hd hc4 hB hb)))
theorem ch_mvD {x : Int64} {d : Nat} (hd : 1 ≤ d) (hd3 : d ≤ 3) (hA : g = true → ∀ j, j < d * 448 + 448 → A j ≤ 268435456) (h : ∀ A' B', ch_mvJ g x d 448 A A' → ch_mvJ false x d 448 B B' → post (f_height, f_size, f_opened, lv, ch_gg g, f_watched, f_known, a_lower, a_upper, a_kind, a_variable, a_share, a_low, a_high, a_openAt, a_elseOf, a_endOf, ch_w A', ch_w B', ba, ro, a_forced, ch_w wh, ch_w vh, a_atEnd)) : wpX_moveAway post (f_height, f_size, f_opened, lv, ch_gg g, f_watched, f_known, a_lower, a_upper, a_kind, a_variable, a_share, a_low, a_high, a_openAt, a_elseOf, a_endOf, ch_w A, ch_w B, ba, ro, a_forced, ch_w wh, ch_w vh, a_atEnd) (nI d) x := by
  refine Exists.intro 449 (ch_mv3d hd hd3 hA (fun A' B' h1 h2 => h A' B' h1 h2) 448 0 A B (by omega) ?_ ?_)
  · exact fun j => by rw [if_neg (by omega), if_neg (by omega)]
  · exact fun j => by rw [if_neg (by omega), if_neg (by omega)]
def ch_zI (d c : Nat) (A0 A : Nat → Nat) : Prop := ∀ j, A j = if d * 448 ≤ j ∧ j < d * 448 + c then 0 else A0 j
theorem ch_zI_s {d c : Nat} {A0 A : Nat → Nat} (h : ch_zI d c A0 A) : ch_zI d (c + 1) A0 (ch_u A (d * 448 + c) 0) := by
  intro j
  by_cases hj : j = d * 448 + c
  · rw [hj, ch_us, if_pos (by omega)]
  · rw [ch_un hj, h j]
    by_cases h1 : d * 448 ≤ j ∧ j < d * 448 + c
    · rw [if_pos h1, if_pos (by omega)]
    · rw [if_neg h1, if_neg (by omega)]
theorem ch_bg29 {d : Nat} (hd3 : d ≤ 3) {A0 B0 : Nat → Nat} (h : ∀ A B, ch_zI d 448 A0 A → ch_zI d 448 B0 B → post (f_height, f_size, f_opened, nI d, ch_gg g, f_watched, f_known, a_lower, a_upper, a_kind, a_variable, a_share, a_low, a_high, a_openAt, a_elseOf, a_endOf, ch_w A, ch_w B, ba, ro, a_forced, ch_w wh, ch_w vh, a_atEnd)) :
    ∀ (n c : Nat) (A B : Nat → Nat), c + n = 448 → ch_zI d c A0 A → ch_zI d c B0 B → wX_begin_29 post f_height f_size f_opened (nI d) (ch_gg g) f_watched f_known (n + 1) (nI (d * 448 + c)) a_lower a_upper a_kind a_variable a_share a_low a_high a_openAt a_elseOf a_endOf (ch_w A) (ch_w B) ba ro a_forced (ch_w wh) (ch_w vh) a_atEnd := by
  have e448 : nI d * 448 + 448 = nI (d * 448 + 448) := by
    have := ch_448 d 448
    exact this
  intro n
  induction n with
  | zero =>
    intro c A B hc hA hB
    have e : c = 448 := by omega
    subst e
    exact br_t (by rw [e448]; exact nI_le (by omega) (by omega)) (h A B hA hB)
  | succ n ih =>
    intro c A B hc hA hB
    have hin : vp_in (nI (d * 448 + c)) 1792 := vp_in_nI (by omega) (by decide)
    have hcl : (nI (d * 448 + c)).toNatClampNeg = d * 448 + c := nI_clamp (by omega)
    refine br_f (by rw [e448]; exact nI_ge (by omega) (by omega)) (And.intro hin (fun a1 e1 => And.intro hin (fun a2 e2 => nm_r (nI_1 _) ?_)))
    rw [hcl, show (0 : Int64) = lN 0 from rfl, ch_w_u] at e1 e2
    rw [e1, e2]
    exact ih (c + 1) _ _ (by omega) (ch_zI_s hA) (ch_zI_s hB)
theorem ch_begin {d i : Nat} (hd3 : d < 3) (h : ∀ A' B', ch_zI (d + 1) 448 A A' → ch_zI (d + 1) 448 B B' → post (f_height, f_size, f_opened, nI (d + 1), ch_gg g, f_watched, f_known, a_lower, a_upper, a_kind, a_variable, a_share, a_low, a_high, a_openAt, a_elseOf, a_endOf, ch_w A', ch_w B', upd ba (d + 1) (nI i), ro, a_forced, ch_w wh, ch_w vh, a_atEnd)) : wpX_begin post (f_height, f_size, f_opened, nI d, ch_gg g, f_watched, f_known, a_lower, a_upper, a_kind, a_variable, a_share, a_low, a_high, a_openAt, a_elseOf, a_endOf, ch_w A, ch_w B, ba, ro, a_forced, ch_w wh, ch_w vh, a_atEnd) (nI i) := by
  have hin : vp_in (nI (d + 1)) 4 := vp_in_nI (by omega) (by decide)
  have hcl : (nI (d + 1)).toNatClampNeg = d + 1 := nI_clamp (by omega)
  have e448 : nI (d + 1) * 448 = nI ((d + 1) * 448 + 0) := by rw [show (448 : Int32) = nI 448 from rfl, pk_mul]; rfl
  refine nm_r (nI_1 d) (And.intro hin (fun a1 e1 => nm_r e448 (Exists.intro 449 ?_)))
  rw [hcl] at e1
  rw [e1]
  refine ch_bg29 (by omega) (fun A' B' h1 h2 => h A' B' h1 h2) 448 0 A B (by omega) ?_ ?_
  · exact fun j => (if_neg (by omega)).symm
  · exact fun j => (if_neg (by omega)).symm
def ch_xI (d c : Nat) (A0 A : Nat → Nat) : Prop := ∀ j, A j = if j < c then A0 (d * 448 + j) else if d * 448 ≤ j ∧ j < d * 448 + c then A0 (j - d * 448) else A0 j
theorem ch_xI_s {d c : Nat} {A0 A : Nat → Nat} (hd : 1 ≤ d) (hc : c < 448) (h : ch_xI d c A0 A) : ch_xI d (c + 1) A0 (ch_u (ch_u A c (A (d * 448 + c))) (d * 448 + c) (A c)) := by
  intro j
  have e1 : A c = A0 c := by rw [h c, if_neg (by omega), if_neg (by omega)]
  have e2 : A (d * 448 + c) = A0 (d * 448 + c) := by rw [h (d * 448 + c), if_neg (by omega), if_neg (by omega)]
  by_cases hj2 : j = d * 448 + c
  · rw [hj2, ch_us, e1, if_neg (by omega), if_pos (by omega), show d * 448 + c - d * 448 = c by omega]
  · rw [ch_un hj2]
    by_cases hj : j = c
    · rw [hj, ch_us, e2, if_pos (by omega)]
    · rw [ch_un hj, h j]
      by_cases h1 : j < c
      · rw [if_pos h1, if_pos (by omega)]
      · rw [if_neg h1, if_neg (show ¬ j < c + 1 by omega)]
        by_cases h2 : d * 448 ≤ j ∧ j < d * 448 + c
        · rw [if_pos h2, if_pos (by omega)]
        · rw [if_neg h2, if_neg (by omega)]
theorem ch_ex2 {d : Nat} (hd : 1 ≤ d) (hd3 : d ≤ 3) {A0 B0 : Nat → Nat} (h : ∀ A B, ch_xI d 448 A0 A → ch_xI d 448 B0 B → post (f_height, f_size, f_opened, lv, ch_gg g, f_watched, f_known, a_lower, a_upper, a_kind, a_variable, a_share, a_low, a_high, a_openAt, a_elseOf, a_endOf, ch_w A, ch_w B, ba, ro, a_forced, ch_w wh, ch_w vh, a_atEnd)) :
    ∀ (n c : Nat) (A B : Nat → Nat), c + n = 448 → ch_xI d c A0 A → ch_xI d c B0 B → wX_exchange_2 post (nI d) f_height f_size f_opened lv (ch_gg g) f_watched f_known (n + 1) (nI c) a_lower a_upper a_kind a_variable a_share a_low a_high a_openAt a_elseOf a_endOf (ch_w A) (ch_w B) ba ro a_forced (ch_w wh) (ch_w vh) a_atEnd := by
  intro n
  induction n with
  | zero =>
    intro c A B hc hA hB
    have e : c = 448 := by omega
    subst e
    exact br_t (nI_le (a := 448) (b := 448) (by omega) (by omega)) (h A B hA hB)
  | succ n ih =>
    intro c A B hc hA hB
    have hc4 : c < 448 := by omega
    have hin : vp_in (nI c) 1792 := vp_in_nI (by omega) (by decide)
    have hcl : (nI c).toNatClampNeg = c := nI_clamp (by omega)
    have hin3 : vp_in (nI (d * 448 + c)) 1792 := vp_in_nI (by omega) (by decide)
    have hcl3 : (nI (d * 448 + c)).toNatClampNeg = d * 448 + c := nI_clamp (by omega)
    refine br_f (nI_ge (a := c) (b := 448) hc4 (by omega)) (nm_r (ch_448 d c) (And.intro hin (fun x4 e4 => And.intro hin (fun x6 e6 => And.intro hin3 (And.intro hin (fun a1 e1 => And.intro hin3 (And.intro hin (fun a2 e2 => And.intro hin3 (fun a3 e3 => And.intro hin3 (fun a5 e5 => nm_r (nI_1 c) ?_))))))))))
    rw [hcl, show ch_w A c = lN (A c) from rfl] at e4
    rw [hcl, show ch_w B c = lN (B c) from rfl] at e6
    rw [hcl, hcl3, show ch_w A (d * 448 + c) = lN (A (d * 448 + c)) from rfl, ch_w_u] at e1
    rw [hcl, hcl3, show ch_w B (d * 448 + c) = lN (B (d * 448 + c)) from rfl, ch_w_u] at e2
    rw [hcl3, e1, e4, ch_w_u] at e3
    rw [hcl3, e2, e6, ch_w_u] at e5
    rw [e3, e5]
    exact ih (c + 1) _ _ (by omega) (ch_xI_s hd hc4 hA) (ch_xI_s hd hc4 hB)
theorem ch_exch {d : Nat} (hd : 1 ≤ d) (hd3 : d ≤ 3) (h : ∀ A' B', ch_xI d 448 A A' → ch_xI d 448 B B' → post (f_height, f_size, f_opened, lv, ch_gg g, f_watched, f_known, a_lower, a_upper, a_kind, a_variable, a_share, a_low, a_high, a_openAt, a_elseOf, a_endOf, ch_w A', ch_w B', ba, ro, a_forced, ch_w wh, ch_w vh, a_atEnd)) : wpX_exchange post (f_height, f_size, f_opened, lv, ch_gg g, f_watched, f_known, a_lower, a_upper, a_kind, a_variable, a_share, a_low, a_high, a_openAt, a_elseOf, a_endOf, ch_w A, ch_w B, ba, ro, a_forced, ch_w wh, ch_w vh, a_atEnd) (nI d) := by
  refine Exists.intro 449 (ch_ex2 hd hd3 (fun A' B' h1 h2 => h A' B' h1 h2) 448 0 A B (by omega) ?_ ?_)
  · exact fun j => by rw [if_neg (by omega), if_neg (by omega)]
  · exact fun j => by rw [if_neg (by omega), if_neg (by omega)]
def ch_eI (g : Bool) (d c : Nat) (A0 A : Nat → Nat) : Prop := ∀ j, A j = if j < c then ch_op g (A0 j) (A0 (d * 448 + j)) else A0 j
theorem ch_eI_s {d c : Nat} {A0 A : Nat → Nat} (hd : 1 ≤ d) (hc : c < 448) (h : ch_eI g d c A0 A) : ch_eI g d (c + 1) A0 (ch_u A c (ch_op g (A c) (A (d * 448 + c)))) := by
  intro j
  by_cases hj : j = c
  · rw [hj, ch_us, h c, h (d * 448 + c), if_neg (by omega), if_neg (by omega), if_pos (by omega)]
  · rw [ch_un hj, h j]
    by_cases h1 : j < c
    · rw [if_pos h1, if_pos (by omega)]
    · rw [if_neg h1, if_neg (by omega)]
theorem ch_en52 {post : Int32 → SX → Prop} {d i : Nat} (hd3 : d < 3) (hi : i ≤ ch_n P) (hn : ch_n P ≤ 24) {A0 B0 : Nat → Nat} (hb : g = true → ∀ j, j < (d + 1) * 448 + 448 → A0 j ≤ 268435456)
    (h : ∀ A B, ch_eI g (d + 1) 448 A0 A → ch_eI false (d + 1) 448 B0 B → post (nI (ch_beh P i)) (f_height, nI (ch_n P), f_opened, nI d, ch_gg g, f_watched, f_known, a_lower, a_upper, a_kind, a_variable, a_share, a_low, a_high, a_openAt, a_elseOf, a_endOf, ch_w A, ch_w B, ba, ro, a_forced, ch_w wh, ch_w vh, a_atEnd)) :
    ∀ (n c : Nat) (A B : Nat → Nat), c + n = 448 → ch_eI g (d + 1) c A0 A → ch_eI false (d + 1) c B0 B → wX_endBlock_52 post (nI i) (n + 1) (nI c) f_height (nI (ch_n P)) f_opened (nI (d + 1)) (ch_gg g) f_watched f_known a_lower a_upper a_kind a_variable a_share a_low a_high a_openAt a_elseOf a_endOf (ch_w A) (ch_w B) ba ro a_forced (ch_w wh) (ch_w vh) a_atEnd := by
  intro n
  induction n with
  | zero =>
    intro c A B hc hA hB
    have e : c = 448 := by omega
    subst e
    have h0 := h A B hA hB
    refine br_t (nI_le (a := 448) (b := 448) (by omega) (by omega)) (nm_r (nI_pred d) ?_)
    by_cases hlt : i < ch_n P
    · rw [ch_beh_lt hlt] at h0
      refine br_f (nI_ge hlt (by omega)) ?_
      rw [nI_1]
      exact h0
    · rw [ch_beh_ge hlt] at h0
      have e : i = ch_n P := by omega
      subst e
      exact br_t (nI_le (Nat.le_refl _) (by omega)) h0
  | succ n ih =>
    intro c A B hc hA hB
    have hc4 : c < 448 := by omega
    have hcl : (nI c).toNatClampNeg = c := nI_clamp (by omega)
    have hin3 : vp_in (nI ((d + 1) * 448 + c)) 1792 := vp_in_nI (by omega) (by decide)
    have hcl3 : (nI ((d + 1) * 448 + c)).toNatClampNeg = (d + 1) * 448 + c := nI_clamp (by omega)
    refine br_f (nI_ge (a := c) (b := 448) hc4 (by omega)) (nm_r (ch_448 (d + 1) c) (And.intro hin3 (And.intro hin3 ?_)))
    have hbd : g = true → A ((d + 1) * 448 + c) < 2 ^ 63 ∧ A c < 2 ^ 63 := fun hg => by
      have h1 := hb hg c (by omega)
      have h2 := hb hg ((d + 1) * 448 + c) (by omega)
      rw [hA c, hA ((d + 1) * 448 + c), if_neg (by omega), if_neg (by omega)]
      omega
    rw [hcl3]
    exact ch_meet (x := A ((d + 1) * 448 + c)) (y := B ((d + 1) * 448 + c)) (by omega) hbd (nm_r (nI_1 c) (ih (c + 1) _ _ (by omega) (ch_eI_s (by omega) hc4 hA) (ch_eI_s (g := false) (by omega) hc4 hB)))
def ch_vI (c : Nat) (A B0 B : Nat → Nat) : Prop := ∀ j, B j = if j < c then B0 j + A j else B0 j
theorem ch_ca10 {post : Int32 → SX → Prop} {i : Nat} {B0 : Nat → Nat} (h : ∀ B, ch_vI 448 A B0 B → wX_carry_38 post (nI i) f_height f_size f_opened lv (ch_gg g) f_watched f_known a_lower a_upper a_kind a_variable a_share a_low a_high a_openAt a_elseOf a_endOf (ch_w A) (ch_w B) ba ro a_forced (ch_w wh) (ch_w vh) a_atEnd) :
    ∀ (n c : Nat) (B : Nat → Nat), c + n = 448 → ch_vI c A B0 B → wX_carry_10 post (nI i) f_height f_size f_opened lv (ch_gg g) f_watched f_known (n + 1) (nI c) a_lower a_upper a_kind a_variable a_share a_low a_high a_openAt a_elseOf a_endOf (ch_w A) (ch_w B) ba ro a_forced (ch_w wh) (ch_w vh) a_atEnd := by
  intro n
  induction n with
  | zero =>
    intro c B hc hB
    have e : c = 448 := by omega
    subst e
    exact br_t (nI_le (a := 448) (b := 448) (by omega) (by omega)) (h B hB)
  | succ n ih =>
    intro c B hc hB
    have hc4 : c < 448 := by omega
    have hin : vp_in (nI c) 1792 := vp_in_nI (by omega) (by decide)
    have hcl : (nI c).toNatClampNeg = c := nI_clamp (by omega)
    refine br_f (nI_ge (a := c) (b := 448) hc4 (by omega)) (And.intro hin (And.intro hin (And.intro hin (fun a1 e1 => nm_r (nI_1 c) ?_))))
    rw [hcl, show ch_w A c = lN (A c) from rfl, show ch_w B c = lN (B c) from rfl, lN_add, ch_w_u] at e1
    rw [e1]
    refine ih (c + 1) _ (by omega) (fun j => ?_)
    by_cases hj : j = c
    · rw [hj, ch_us, hB c, if_neg (by omega), if_pos (by omega)]
    · rw [ch_un hj, hB j]
      by_cases h1 : j < c
      · rw [if_pos h1, if_pos (by omega)]
      · rw [if_neg h1, if_neg (by omega)]
/-- the blocks under way as the component keeps them -/
def ch_RS (P : ch_P) : List (Nat × Nat) → (Nat → Int32) → (Nat → Int32) → Prop
  | [], _, _ => True
  | e :: l, ba, ro => ba (l.length + 1) = nI e.1 ∧ (ch_K P e.1 = 6 → ro (l.length + 1) = nI e.2) ∧ ch_RS P l ba ro
theorem ch_RS_u {x : Int32} {k : Nat} : ∀ {l : List (Nat × Nat)}, ch_RS P l ba ro → l.length < k → ch_RS P l (upd ba k x) ro ∧ ch_RS P l ba (upd ro k x) := by
  intro l
  induction l with
  | nil => intro _ _; exact ⟨trivial, trivial⟩
  | cons e l ih =>
    intro h hk
    have hk2 : l.length + 1 < k := hk
    have h2 := ih h.2.2 (by omega)
    refine ⟨⟨?_, h.2.1, h2.1⟩, ⟨h.1, ?_, h2.2⟩⟩
    · rw [pk_un (by omega)]
      exact h.1
    · rw [pk_un (by omega)]
      exact h.2.1
theorem ch_RS_a {e : Nat × Nat} {l : List (Nat × Nat)} : ∀ {up : List (Nat × Nat)}, ch_RS P (up ++ e :: l) ba ro → ch_RS P (e :: l) ba ro := by
  intro up
  induction up with
  | nil => exact fun h => h
  | cons u up ih => exact fun h => ih h.2.2
theorem ch_br5 {d : Nat} (hx : ch_xp P f_size a_kind a_variable a_share a_low a_high) (hn : ch_n P ≤ 24) {e : Nat × Nat} {low : List (Nat × Nat)} (h6 : ch_K P e.1 = 6) (hl : d = low.length + 1)
    (h : wX_breakOut_32 post (nI d) f_height f_size f_opened lv (ch_gg g) f_watched f_known a_lower a_upper a_kind a_variable a_share a_low a_high a_openAt a_elseOf a_endOf (ch_w A) (ch_w B) ba ro a_forced (ch_w wh) (ch_w vh) a_atEnd) :
    ∀ up : List (Nat × Nat), ch_gd P (up ++ e :: low) → ch_RS P (up ++ e :: low) ba ro → (∀ u, u ∈ up → ch_K P u.1 ≠ 6) → wX_breakOut_5 post f_height f_size f_opened lv (ch_gg g) f_watched f_known a_lower a_upper a_kind a_variable a_share a_low a_high a_openAt a_elseOf a_endOf (ch_w A) (ch_w B) ba ro a_forced (ch_w wh) (ch_w vh) a_atEnd (up.length + 1) (nI (up ++ e :: low).length) := by
  intro up
  induction up with
  | nil =>
    intro hg hr hu
    have hg1 : low.length + 1 ≤ 3 := hg.1
    have he := hg.2 e List.mem_cons_self
    show wX_breakOut_5 post f_height f_size f_opened lv (ch_gg g) f_watched f_known a_lower a_upper a_kind a_variable a_share a_low a_high a_openAt a_elseOf a_endOf (ch_w A) (ch_w B) ba ro a_forced (ch_w wh) (ch_w vh) a_atEnd 1 (nI (low.length + 1))
    rw [← hl]
    by_cases h1 : d ≤ 1
    · exact br_t (nI_le (b := 1) h1 (by decide)) h
    · have hin : vp_in (nI d) 4 := vp_in_nI (by omega) (by decide)
      have hcl : (nI d).toNatClampNeg = d := nI_clamp (by omega)
      have hb : ba d = nI e.1 := by rw [hl]; exact hr.1
      have hin2 : vp_in (nI e.1) 24 := vp_in_nI (by omega) (by decide)
      have hcl2 : (nI e.1).toNatClampNeg = e.1 := nI_clamp (by omega)
      refine br_f (nI_ge (a := 1) (b := d) (by omega) (by omega)) (And.intro hin ?_)
      rw [hcl, hb, hcl2, (hx.2 e.1 he.1).1, h6]
      exact And.intro hin2 (br_t rfl h)
  | cons u up ih =>
    intro hg hr hu
    have hlen : (u :: up ++ e :: low).length = (up ++ e :: low).length + 1 := rfl
    have hlen2 : (up ++ e :: low).length = up.length + (low.length + 1) := List.length_append
    have hg1 : (u :: up ++ e :: low).length ≤ 3 := hg.1
    have he := hg.2 u List.mem_cons_self
    rw [hlen]
    have hin : vp_in (nI ((up ++ e :: low).length + 1)) 4 := vp_in_nI (by omega) (by decide)
    have hcl : (nI ((up ++ e :: low).length + 1)).toNatClampNeg = (up ++ e :: low).length + 1 := nI_clamp (by omega)
    have hb : ba ((up ++ e :: low).length + 1) = nI u.1 := hr.1
    have hin2 : vp_in (nI u.1) 24 := vp_in_nI (by omega) (by decide)
    have hcl2 : (nI u.1).toNatClampNeg = u.1 := nI_clamp (by omega)
    have hk := he.2.1
    have hku := hu u List.mem_cons_self
    refine br_f (nI_ge (a := 1) (b := (up ++ e :: low).length + 1) (by omega) (by omega)) (And.intro hin ?_)
    rw [hcl, hb, hcl2, (hx.2 u.1 he.1).1, show ch_K P u.1 = 4 by omega]
    refine And.intro hin2 (br_f (by decide) (nm_r (pk_m1 _) ?_))
    exact ih (ch_gd_t hg) hr.2.2 (fun v hv => hu v (List.mem_cons_of_mem u hv))
end
end
section
/-! own rows: the arrays of weights as sums (or greatest ones) over all runs -/
theorem ch_lv1 (d c : Nat) (h : c < (d + 1 + 1) * 448) (h1 : ¬ ((d + 1) * 448 ≤ c ∧ c < (d + 1) * 448 + 448)) : c < (d + 1) * 448 := by
  rw [Nat.succ_mul (d + 1) 448] at h
  generalize (d + 1) * 448 = x at *
  omega
theorem ch_lv2 (d c : Nat) (h : c < 448) : c < (d + 1 + 1) * 448 := by omega
theorem ch_lv3 (d c : Nat) (h : c < 448) : (d + 1) * 448 + c < (d + 1 + 1) * 448 := by omega
theorem ch_lv4 (d c : Nat) (h : c < (d + 1) * 448) : c < (d + 1 + 1) * 448 := by
  rw [Nat.succ_mul (d + 1) 448]
  generalize (d + 1) * 448 = x at *
  omega
def ch_cl (q : ch_Q) : Nat := q.1 * 448 + 64 * q.2.1 + q.2.2.1
def ch_fq (val : Nat → (Nat → Nat) → Nat) (c : Nat) (q : ch_Q) : Nat := if ch_cl q = c then val q.2.2.2.1 q.2.2.2.2 else 0
def ch_AR (g : Bool) (val : Nat → (Nat → Nat) → Nat) (d : Nat) (L : List ch_Q) (A : Nat → Nat) : Prop := ∀ c, c < (d + 1) * 448 → A c = ch_bg g L (ch_fq val c)
def ch_v1 : Nat → (Nat → Nat) → Nat := fun w _ => w
def ch_v2 (wi : Nat) : Nat → (Nat → Nat) → Nat := fun w m => w * m wi
theorem ch_fq_y {val : Nat → (Nat → Nat) → Nat} {c : Nat} {q : ch_Q} (h : ch_cl q = c) : ch_fq val c q = val q.2.2.2.1 q.2.2.2.2 := if_pos h
theorem ch_fq_n {val : Nat → (Nat → Nat) → Nat} {c : Nat} {q : ch_Q} (h : ¬ ch_cl q = c) : ch_fq val c q = 0 := if_neg h
theorem ch_AR_b {d : Nat} {L : List ch_Q} {A : Nat → Nat} (h : ch_AR true ch_v1 d L A) (hq : ∀ q, q ∈ L → ch_qi d q) : ∀ j, j < (d + 1) * 448 → A j ≤ 16777216 := by
  intro j hj
  rw [h j hj]
  refine ch_bg_lub (fun q hm => ?_)
  unfold ch_fq
  split
  · have h1 := hq q hm
    have h2 : 16 ^ q.2.1 ≤ 16 ^ 6 := Nat.pow_le_pow_right (by decide) h1.2.1
    exact Nat.le_trans h1.2.2.2.2 (Nat.le_trans h2 (by decide))
  · exact Nat.zero_le _
section
variable {g : Bool} {val : Nat → (Nat → Nat) → Nat} {P : ch_P} {d i : Nat} {L : List ch_Q} {A A' : Nat → Nat}
theorem ch_AR_map {d' : Nat} {C : ch_Q → ch_Q} (h : ∀ c, c < (d' + 1) * 448 → A' c = ch_bg g L (fun q => ch_fq val c (C q))) : ch_AR g val d' (L.map C) A' := by
  intro c hc
  rw [ch_bg_map]
  exact h c hc
theorem ch_AR_iq {c : Nat} (q : ch_Q) : ch_fq ch_v1 c (ch_iq P i q) = ch_fq ch_v1 c q := by
  unfold ch_iq
  split <;> rfl
theorem ch_AR_iq1 (h : ch_AR g ch_v1 d L A) : ch_AR g ch_v1 d (L.map (ch_iq P i)) A := by
  refine ch_AR_map (fun c hc => ?_)
  rw [h c hc]
  exact ch_bg_cg g (fun q _ => (ch_AR_iq q).symm)
theorem ch_AR_iq2 {wi : Nat} (hw : i ≠ wi) (h : ch_AR false (ch_v2 wi) d L A) : ch_AR false (ch_v2 wi) d (L.map (ch_iq P i)) A := by
  refine ch_AR_map (fun c hc => ?_)
  rw [h c hc]
  refine ch_bg_cg false (fun q _ => ?_)
  unfold ch_iq
  split
  · show _ = (if ch_cl q = c then q.2.2.2.1 * (if wi = i then q.2.2.2.2 wi + 1 else q.2.2.2.2 wi) else 0)
    have hwi : ¬ wi = i := fun z => hw z.symm
    rw [if_neg hwi]
    rfl
  · rfl
theorem ch_AR_iq3 {A B B' : Nat → Nat} (hi : i < ch_n P) (hq : ∀ q, q ∈ L → ch_qi d q) (hA : ch_AR false ch_v1 d L A) (hB : ch_AR false (ch_v2 i) d L B) (h : ch_vI 448 A B B') : ch_AR false (ch_v2 i) d (L.map (ch_iq P i)) B' := by
  refine ch_AR_map (fun c hc => ?_)
  rw [h c]
  by_cases h4 : c < 448
  · rw [if_pos h4, hA c hc, hB c hc]
    refine (ch_bg_op false L (ch_fq (ch_v2 i) c) (ch_fq ch_v1 c)).symm.trans (ch_bg_cg false (fun q hm => ?_))
    have h1 := hq q hm
    unfold ch_qi at h1
    by_cases hc2 : ch_cl q = c
    · have h0 : q.1 = 0 := by
        unfold ch_cl at hc2
        omega
      have e : ch_iq P i q = (q.1, q.2.1, q.2.2.1, q.2.2.2.1, ch_inc q.2.2.2.2 i) := if_pos ⟨h0, hi⟩
      rw [e, ch_fq_y hc2, ch_fq_y hc2, ch_fq_y (show ch_cl (q.1, q.2.1, q.2.2.1, q.2.2.2.1, ch_inc q.2.2.2.2 i) = c from hc2)]
      show q.2.2.2.1 * q.2.2.2.2 i + q.2.2.2.1 = q.2.2.2.1 * (if i = i then q.2.2.2.2 i + 1 else q.2.2.2.2 i)
      rw [if_pos rfl, Nat.mul_add, Nat.mul_one]
    · have e : ch_cl (ch_iq P i q) = ch_cl q := by
        unfold ch_cl
        rw [ch_iq_1, ch_iq_k, ch_iq_s]
      rw [ch_fq_n hc2, ch_fq_n hc2, ch_fq_n (by rw [e]; exact hc2)]
      rfl
  · rw [if_neg h4, hB c hc]
    refine ch_bg_cg false (fun q hm => ?_)
    have h1 := hq q hm
    unfold ch_qi at h1
    by_cases h0 : q.1 = 0
    · have hc2 : ¬ ch_cl q = c := by
        unfold ch_cl
        omega
      have e : ch_cl (ch_iq P i q) = ch_cl q := by
        unfold ch_cl
        rw [ch_iq_1, ch_iq_k, ch_iq_s]
      rw [ch_fq_n hc2, ch_fq_n (by rw [e]; exact hc2)]
    · have e : ch_iq P i q = q := if_neg (fun z => h0 z.1)
      rw [e]
theorem ch_AR_set {f : Nat → Nat} (hf : ∀ t, t < 64 → f t < 64) (hq : ∀ q, q ∈ L → ch_qi d q) (hA : ch_AR g val d L A) (h : ch_stI g f 7 A A') : ch_AR g val d (L.map (fun q => if q.1 = 0 then (0, q.2.1, f q.2.2.1, q.2.2.2) else q)) A' := by
  refine ch_AR_map (fun c hc => ?_)
  rw [h c]
  by_cases h4 : c < 448
  · rw [if_pos (by omega)]
    have hk : c / 64 < 7 := by omega
    have e1 : ∀ t, t ∈ List.range 64 → (if 64 * (c / 64) + f t = c then A (64 * (c / 64) + t) else 0) = ch_bg g L (fun q => if 64 * (c / 64) + f t = c then ch_fq val (64 * (c / 64) + t) q else 0) := fun t ht => by
      have ht := List.mem_range.mp ht
      by_cases ht2 : 64 * (c / 64) + f t = c
      · rw [if_pos ht2, hA _ (by omega)]
        refine ch_bg_cg g (fun q _ => ?_)
        rw [if_pos ht2]
      · rw [if_neg ht2]
        exact (ch_bg_z g (fun q _ => if_neg ht2)).symm
    rw [ch_bg_cg g e1, ch_bg_ex]
    refine ch_bg_cg g (fun q hm => ?_)
    have h1 := hq q hm
    unfold ch_qi at h1
    by_cases h0 : q.1 = 0
    · rw [if_pos h0]
      by_cases h2 : q.2.1 = c / 64
      · have e2 : ∀ t, t ∈ List.range 64 → (if 64 * (c / 64) + f t = c then ch_fq val (64 * (c / 64) + t) q else 0) = if t = q.2.2.1 then (if 64 * (c / 64) + f q.2.2.1 = c then val q.2.2.2.1 q.2.2.2.2 else 0) else 0 := fun t ht => by
          have ht := List.mem_range.mp ht
          by_cases ht2 : t = q.2.2.1
          · rw [if_pos ht2, ht2, ch_fq_y (by unfold ch_cl; omega)]
          · rw [if_neg ht2, ch_fq_n (by unfold ch_cl; omega)]
            split <;> rfl
        rw [ch_bg_cg g e2, ch_bg_one, if_pos h1.2.2.1]
        show _ = if 0 * 448 + 64 * q.2.1 + f q.2.2.1 = c then val q.2.2.2.1 q.2.2.2.2 else 0
        rw [h2, Nat.zero_mul, Nat.zero_add]
      · have hfs := hf q.2.2.1 h1.2.2.1
        rw [ch_bg_z g (fun t ht => ?_), ch_fq_n (by show ¬ 0 * 448 + 64 * q.2.1 + f q.2.2.1 = c; omega)]
        have ht := List.mem_range.mp ht
        rw [ch_fq_n (by unfold ch_cl; omega)]
        split <;> rfl
    · rw [if_neg h0, ch_bg_z g (fun t ht => ?_), ch_fq_n (by unfold ch_cl; omega)]
      have ht := List.mem_range.mp ht
      rw [ch_fq_n (by unfold ch_cl; omega)]
      split <;> rfl
  · rw [if_neg (by omega), hA c hc]
    refine ch_bg_cg g (fun q hm => ?_)
    have h1 := hq q hm
    unfold ch_qi at h1
    by_cases h0 : q.1 = 0
    · have hfs := hf q.2.2.1 h1.2.2.1
      rw [if_pos h0, ch_fq_n (by unfold ch_cl; omega), ch_fq_n (by show ¬ 0 * 448 + 64 * q.2.1 + f q.2.2.1 = c; omega)]
    · rw [if_neg h0]
theorem ch_AR_keep {x : Int64} {E : Nat → Nat} (hx : ∀ s, s < 64 → (ch_bt x s = 1 ↔ E s = 0)) (hq : ∀ q, q ∈ L → ch_qi d q) (hA : ch_AR g val d L A) (h : ch_mvI x 448 A A') : ch_AR g val d (L.flatMap (fun q => if q.1 = 0 ∧ E q.2.2.1 = 0 then [] else [q])) A' := by
  intro c hc
  rw [ch_bg_fm, h c]
  by_cases h1 : c < 448 ∧ ch_bt x (c % 64) = 1
  · rw [if_pos h1]
    refine (ch_bg_z g (fun q hm => ?_)).symm
    have h2 := hq q hm
    unfold ch_qi at h2
    by_cases h0 : q.1 = 0 ∧ E q.2.2.1 = 0
    · rw [if_pos h0]; rfl
    · rw [if_neg h0, ch_bg_1, ch_fq_n]
      intro z
      refine h0 ⟨by unfold ch_cl at z; omega, (hx _ h2.2.2.1).mp ?_⟩
      have e : q.2.2.1 = c % 64 := by unfold ch_cl at z; omega
      rw [e]
      exact h1.2
  · rw [if_neg h1, hA c hc]
    refine ch_bg_cg g (fun q hm => ?_)
    have h2 := hq q hm
    unfold ch_qi at h2
    by_cases h0 : q.1 = 0 ∧ E q.2.2.1 = 0
    · rw [if_pos h0, ch_fq_n]
      · rfl
      · intro z
        refine h1 ⟨by unfold ch_cl at z; omega, ?_⟩
        have e : q.2.2.1 = c % 64 := by unfold ch_cl at z; omega
        rw [← e]
        exact (hx _ h2.2.2.1).mpr h0.2
    · rw [if_neg h0, ch_bg_1]
theorem ch_AR_begin (hq : ∀ q, q ∈ L → ch_qi d q) (hA : ch_AR g val d L A) (h : ch_zI (d + 1) 448 A A') : ch_AR g val (d + 1) L A' := by
  intro c hc
  rw [h c]
  by_cases h1 : (d + 1) * 448 ≤ c ∧ c < (d + 1) * 448 + 448
  · rw [if_pos h1]
    refine (ch_bg_z g (fun q hm => ch_fq_n ?_)).symm
    have h2 := hq q hm
    unfold ch_qi at h2
    unfold ch_cl
    have h3 : q.1 * 448 ≤ d * 448 := Nat.mul_le_mul_right _ h2.1
    omega
  · rw [if_neg h1]
    exact hA c (ch_lv1 d c hc h1)
theorem ch_cl_w {q : ch_Q} (h : ch_qi d q) : ∃ r, r < 448 ∧ ch_cl q = q.1 * 448 + r ∧ r % 64 = q.2.2.1 ∧ r = 64 * q.2.1 + q.2.2.1 := by
  unfold ch_qi at h
  exact ⟨64 * q.2.1 + q.2.2.1, by omega, by unfold ch_cl; omega, by omega, rfl⟩
theorem ch_AR_mv {x : Int64} {D : Nat} (hD : 1 ≤ D) (hDd : D ≤ d) (hq : ∀ q, q ∈ L → ch_qi d q) (hA : ch_AR g val d L A) (h : ch_mvJ g x D 448 A A') : ch_AR g val d (L.map (fun q => if q.1 = 0 ∧ ch_bt x q.2.2.1 = 1 then (D, q.2) else q)) A' := by
  refine ch_AR_map (fun c hc => ?_)
  rw [h c]
  have hDD : D * 448 ≤ d * 448 := Nat.mul_le_mul_right _ hDd
  by_cases h1 : c < 448 ∧ ch_bt x (c % 64) = 1
  · rw [if_pos h1]
    refine (ch_bg_z g (fun q hm => ch_fq_n ?_)).symm
    have h2 := hq q hm
    unfold ch_qi at h2
    by_cases h0 : q.1 = 0 ∧ ch_bt x q.2.2.1 = 1
    · rw [if_pos h0]
      show ¬ D * 448 + 64 * q.2.1 + q.2.2.1 = c
      omega
    · rw [if_neg h0]
      intro z
      unfold ch_cl at z
      refine h0 ⟨by omega, ?_⟩
      have e : q.2.2.1 = c % 64 := by omega
      rw [e]
      exact h1.2
  · rw [if_neg h1]
    by_cases h3 : D * 448 ≤ c ∧ c < D * 448 + 448 ∧ ch_bt x (c % 64) = 1
    · rw [if_pos h3, hA c hc, hA (c - D * 448) (by omega)]
      refine (ch_bg_op g L _ _).symm.trans (ch_bg_cg g (fun q hm => ?_))
      have h2 := hq q hm
      unfold ch_qi at h2
      by_cases h0 : q.1 = 0 ∧ ch_bt x q.2.2.1 = 1
      · rw [if_pos h0, ch_fq_n (show ¬ ch_cl q = c by unfold ch_cl; omega), ch_0_op]
        by_cases h4 : ch_cl q = c - D * 448
        · rw [ch_fq_y h4, ch_fq_y]
          unfold ch_cl at h4
          show D * 448 + 64 * q.2.1 + q.2.2.1 = c
          omega
        · rw [ch_fq_n h4, ch_fq_n]
          unfold ch_cl at h4
          show ¬ D * 448 + 64 * q.2.1 + q.2.2.1 = c
          omega
      · have h4 : ¬ ch_cl q = c - D * 448 := by
          intro z
          unfold ch_cl at z
          refine h0 ⟨by omega, ?_⟩
          have e : q.2.2.1 = c % 64 := by omega
          rw [e]
          exact h3.2.2
        rw [if_neg h0, ch_fq_n h4, ch_op_0]
    · rw [if_neg h3, hA c hc]
      refine ch_bg_cg g (fun q hm => ?_)
      have h2 := hq q hm
      unfold ch_qi at h2
      by_cases h0 : q.1 = 0 ∧ ch_bt x q.2.2.1 = 1
      · rw [if_pos h0, ch_fq_n, ch_fq_n]
        · intro z
          have z2 : D * 448 + 64 * q.2.1 + q.2.2.1 = c := z
          refine h3 ⟨by omega, by omega, ?_⟩
          have e : c % 64 = q.2.2.1 := by omega
          rw [e]
          exact h0.2
        · intro z
          unfold ch_cl at z
          refine h1 ⟨by omega, ?_⟩
          have e : c % 64 = q.2.2.1 := by omega
          rw [e]
          exact h0.2
      · rw [if_neg h0]
theorem ch_AR_ex (hd : 1 ≤ d) (hq : ∀ q, q ∈ L → ch_qi d q) (hA : ch_AR g val d L A) (h : ch_xI d 448 A A') : ch_AR g val d (L.map (fun q => if q.1 = 0 then (d, q.2) else if q.1 = d then (0, q.2) else q)) A' := by
  refine ch_AR_map (fun c hc => ?_)
  rw [h c]
  have key : ∀ c', c' < (d + 1) * 448 → (∀ q, q ∈ L → (ch_cl q = c' ↔ ch_cl (if q.1 = 0 then (d, q.2) else if q.1 = d then (0, q.2) else q) = c)) → A c' = ch_bg g L (fun q => ch_fq val c (if q.1 = 0 then (d, q.2) else if q.1 = d then (0, q.2) else q)) := by
    intro c' hc' hk
    rw [hA c' hc']
    refine ch_bg_cg g (fun q hm => ?_)
    have hi := hk q hm
    by_cases hcl : ch_cl q = c'
    · rw [ch_fq_y hcl, ch_fq_y (hi.mp hcl)]
      split
      · rfl
      · split <;> rfl
    · rw [ch_fq_n hcl, ch_fq_n (fun z => hcl (hi.mpr z))]
  have hcl : ∀ q, q ∈ L → ch_cl (if q.1 = 0 then (d, q.2) else if q.1 = d then (0, q.2) else q) = (if q.1 = 0 then d else if q.1 = d then 0 else q.1) * 448 + (64 * q.2.1 + q.2.2.1) := by
    intro q _
    unfold ch_cl
    split
    · show d * 448 + 64 * q.2.1 + q.2.2.1 = _
      omega
    · split
      · show 0 * 448 + 64 * q.2.1 + q.2.2.1 = _
        omega
      · omega
  by_cases h1 : c < 448
  · rw [if_pos h1]
    refine key _ (by omega) (fun q hm => ?_)
    have h2 := hq q hm
    rw [hcl q hm]
    unfold ch_cl
    unfold ch_qi at h2
    by_cases h3 : q.1 = 0
    · rw [if_pos h3, h3]
      omega
    · rw [if_neg h3]
      by_cases h4 : q.1 = d
      · rw [if_pos h4, h4]
        omega
      · rw [if_neg h4]
        have h5 : q.1 * 448 + 448 ≤ d * 448 := by
          have : (q.1 + 1) * 448 ≤ d * 448 := Nat.mul_le_mul_right _ (by omega)
          omega
        omega
  · rw [if_neg h1]
    by_cases h5 : d * 448 ≤ c ∧ c < d * 448 + 448
    · rw [if_pos h5]
      refine key _ (by omega) (fun q hm => ?_)
      have h2 := hq q hm
      rw [hcl q hm]
      unfold ch_cl
      unfold ch_qi at h2
      by_cases h3 : q.1 = 0
      · rw [if_pos h3, h3]
        omega
      · rw [if_neg h3]
        by_cases h4 : q.1 = d
        · rw [if_pos h4, h4]
          omega
        · rw [if_neg h4]
          have h6 : q.1 * 448 + 448 ≤ d * 448 := by
            have : (q.1 + 1) * 448 ≤ d * 448 := Nat.mul_le_mul_right _ (by omega)
            omega
          omega
    · rw [if_neg h5]
      refine key _ hc (fun q hm => ?_)
      have h2 := hq q hm
      rw [hcl q hm]
      unfold ch_cl
      unfold ch_qi at h2
      by_cases h3 : q.1 = 0
      · rw [if_pos h3, h3]
        omega
      · rw [if_neg h3]
        by_cases h4 : q.1 = d
        · rw [if_pos h4, h4]
          omega
        · rw [if_neg h4]
          omega
theorem ch_AR_end (hq : ∀ q, q ∈ L → ch_qi (d + 1) q) (hA : ch_AR g val (d + 1) L A) (h : ch_eI g (d + 1) 448 A A') : ch_AR g val d (L.map (fun q => if q.1 = d + 1 then (0, q.2) else q)) A' := by
  refine ch_AR_map (fun c hc => ?_)
  rw [h c]
  by_cases h1 : c < 448
  · rw [if_pos h1, hA c (ch_lv2 d c h1), hA ((d + 1) * 448 + c) (ch_lv3 d c h1)]
    refine (ch_bg_op g L _ _).symm.trans (ch_bg_cg g (fun q hm => ?_))
    have h2 := hq q hm
    unfold ch_qi at h2
    by_cases h3 : q.1 = d + 1
    · rw [if_pos h3, ch_fq_n (show ¬ ch_cl q = c by unfold ch_cl; rw [h3]; omega), ch_0_op]
      by_cases h4 : ch_cl q = (d + 1) * 448 + c
      · rw [ch_fq_y h4, ch_fq_y]
        unfold ch_cl at h4
        rw [h3] at h4
        show 0 * 448 + 64 * q.2.1 + q.2.2.1 = c
        omega
      · rw [ch_fq_n h4, ch_fq_n]
        unfold ch_cl at h4
        rw [h3] at h4
        show ¬ 0 * 448 + 64 * q.2.1 + q.2.2.1 = c
        omega
    · rw [if_neg h3, ch_fq_n (c := (d + 1) * 448 + c), ch_op_0]
      unfold ch_cl
      have h5 : q.1 * 448 ≤ d * 448 := Nat.mul_le_mul_right _ (by omega)
      omega
  · rw [if_neg h1, hA c (ch_lv4 d c hc)]
    refine ch_bg_cg g (fun q hm => ?_)
    have h2 := hq q hm
    unfold ch_qi at h2
    by_cases h3 : q.1 = d + 1
    · rw [if_pos h3, ch_fq_n (show ¬ ch_cl q = c by unfold ch_cl; rw [h3]; omega), ch_fq_n]
      show ¬ 0 * 448 + 64 * q.2.1 + q.2.2.1 = c
      omega
    · rw [if_neg h3]
end
end
section
/-! own rows: random steps over all runs -/
section
variable {g : Bool} {val : Nat → (Nat → Nat) → Nat} {P : ch_P} {d i : Nat} {L : List ch_Q} {A A' : Nat → Nat} {al : Nat → Nat → Bool} {st : List (Nat × Nat)}
theorem ch_cd_w {q : ch_Q} (h : ¬ (i < ch_n P ∧ (ch_K P i = 1 ∨ ch_K P i = 2) ∧ q.1 = 0)) : ch_cd al P i st q = ch_tl (ch_s0 al P i st q 0) := if_neg h
theorem ch_cd_a {q : ch_Q} (h : i < ch_n P ∧ (ch_K P i = 1 ∨ ch_K P i = 2) ∧ q.1 = 0) : ch_cd al P i st q = [0, 1, 2, 3].flatMap (fun o => ch_tl (ch_s0 al P i st q o)) := if_pos h
theorem ch_tl_r {q : ch_Q} (hi : i < ch_n P) (hr : ch_K P i = 1 ∨ ch_K P i = 2) (h0 : q.1 = 0) (o : Nat) : ch_tl (ch_s0 al P i st q o) = if q.2.1 < 6 ∧ ch_sh P i o ≠ 0 ∧ al q.2.1 o = true then [(0, q.2.1 + 1, ch_chg q.2.2.1 (ch_V P i) o, q.2.2.2.1 * ch_sh P i o, q.2.2.2.2)] else [] := by
  rw [ch_s0_r hi hr, if_pos h0]
  by_cases h6 : 6 ≤ q.2.1
  · rw [if_pos h6, if_neg (by omega)]
    rfl
  · rw [if_neg h6]
    by_cases hs : ch_sh P i o = 0
    · rw [if_pos hs, if_neg (fun z => z.2.1 hs)]
      rfl
    · rw [if_neg hs]
      by_cases ha : al q.2.1 o = true
      · rw [if_pos ha, if_pos ⟨by omega, hs, ha⟩]
        rfl
      · rw [if_neg ha, if_neg (fun z => ha z.2.2)]
        rfl
def ch_H (val : Nat → (Nat → Nat) → Nat) (P : ch_P) (i : Nat) (al : Nat → Nat → Bool) (c k x : Nat) (q : ch_Q) : Nat :=
  if q.1 = 0 ∧ q.2.1 = k then (if ch_sh P i x ≠ 0 ∧ al k x = true then (if 64 * (k + 1) + ch_chg q.2.2.1 (ch_V P i) x = c then val q.2.2.2.1 q.2.2.2.2 * ch_sh P i x else 0) else 0) else 0
theorem ch_Sx_H {c k x : Nat} (hk : k ≤ 5) (hq : ∀ q, q ∈ L → ch_qi d q) (hA : ch_AR g val d L A) : ch_Sx g P i al k (fun t => A (64 * k + t)) x c = ch_bg g L (ch_H val P i al c k x) := by
  unfold ch_Sx
  by_cases ho : ch_sh P i x ≠ 0 ∧ al k x = true
  · rw [if_pos ho]
    have e1 : ∀ t, t ∈ List.range 64 → (if ch_t1 k (ch_V P i) x t = c then ch_x1 (fun t => A (64 * k + t)) (ch_sh P i x) t else 0) = ch_bg g L (fun q => if ch_t1 k (ch_V P i) x t = c then ch_fq val (64 * k + t) q * ch_sh P i x else 0) := fun t ht => by
      have ht := List.mem_range.mp ht
      by_cases ht2 : ch_t1 k (ch_V P i) x t = c
      · rw [if_pos ht2]
        show A (64 * k + t) * ch_sh P i x = _
        rw [hA _ (by omega), ← ch_bg_x]
        refine ch_bg_cg g (fun q _ => ?_)
        rw [if_pos ht2]
      · rw [if_neg ht2]
        exact (ch_bg_z g (fun q _ => if_neg ht2)).symm
    rw [ch_bg_cg g e1, ch_bg_ex]
    refine ch_bg_cg g (fun q hm => ?_)
    have h1 := hq q hm
    unfold ch_qi at h1
    unfold ch_H
    by_cases h2 : q.1 = 0 ∧ q.2.1 = k
    · rw [if_pos h2, if_pos ho]
      have e2 : ∀ t, t ∈ List.range 64 → (if ch_t1 k (ch_V P i) x t = c then ch_fq val (64 * k + t) q * ch_sh P i x else 0) = if t = q.2.2.1 then (if 64 * (k + 1) + ch_chg q.2.2.1 (ch_V P i) x = c then val q.2.2.2.1 q.2.2.2.2 * ch_sh P i x else 0) else 0 := fun t ht => by
        by_cases ht2 : t = q.2.2.1
        · rw [if_pos ht2, ht2, ch_fq_y (by unfold ch_cl; omega)]
          rfl
        · rw [if_neg ht2, ch_fq_n (by unfold ch_cl; have := List.mem_range.mp ht; omega), Nat.zero_mul]
          split <;> rfl
      rw [ch_bg_cg g e2, ch_bg_one, if_pos h1.2.2.1]
    · rw [if_neg h2]
      refine ch_bg_z g (fun t ht => ?_)
      have ht := List.mem_range.mp ht
      rw [ch_fq_n (by unfold ch_cl; omega), Nat.zero_mul]
      split <;> rfl
  · rw [if_neg ho]
    refine (ch_bg_z g (fun q _ => ?_)).symm
    unfold ch_H
    by_cases h2 : q.1 = 0 ∧ q.2.1 = k
    · rw [if_pos h2, if_neg ho]
    · rw [if_neg h2]
theorem ch_AR_rnd (w : ch_wf P) (hi : i < ch_n P) (hr : ch_K P i = 1 ∨ ch_K P i = 2) (hval : ∀ w m c, val (w * c) m = val w m * c) (hq : ∀ q, q ∈ L → ch_qi d q) (hA : ch_AR g val d L A) (h : ch_srI g P i al 0 A A') : ch_AR g val d (L.flatMap (ch_cd al P i st)) A' := by
  have hv3 : ch_V P i < 3 := by
    have := (w.2 i hi).1.2.1 (by omega)
    omega
  have hch : ∀ (q : ch_Q), ch_qi d q → q.1 = 0 → ∀ c, (∀ o, o < 4 → q.2.1 < 6 → ¬ 64 * (q.2.1 + 1) + ch_chg q.2.2.1 (ch_V P i) o = c) → ch_bg g (ch_cd al P i st q) (ch_fq val c) = 0 := by
    intro q h1 h0 c hc
    rw [ch_cd_a ⟨hi, hr, h0⟩, ch_bg_fm]
    refine ch_bg_z g (fun o ho => ?_)
    have ho4 : o < 4 := by
      simp only [List.mem_cons, List.not_mem_nil, or_false] at ho
      omega
    rw [ch_tl_r hi hr h0]
    split
    · rename_i hk
      rw [ch_bg_1, ch_fq_n]
      have := hc o ho4 hk.1
      show ¬ 0 * 448 + 64 * (q.2.1 + 1) + ch_chg q.2.2.1 (ch_V P i) o = c
      omega
    · rfl
  have hwt : ∀ (q : ch_Q), ¬ q.1 = 0 → ch_cd al P i st q = [q] := by
    intro q h0
    rw [ch_cd_w (fun z => h0 z.2.2), ch_s0_r hi hr, if_neg h0]
    rfl
  intro c hc
  rw [ch_bg_fm, h c]
  by_cases h1 : 448 ≤ c
  · rw [if_pos h1, hA c hc]
    refine ch_bg_cg g (fun q hm => ?_)
    have h2 := hq q hm
    by_cases h0 : q.1 = 0
    · rw [hch q h2 h0 c (fun o ho hk => ?_), ch_fq_n]
      · unfold ch_qi at h2
        unfold ch_cl
        omega
      · have := ch_chg_lt q.2.2.1 h2.2.2.1 (ch_V P i) hv3 o ho
        omega
    · rw [hwt q h0, ch_bg_1]
  · rw [if_neg h1]
    by_cases h2 : 64 * (0 + 1) ≤ c
    · rw [if_pos h2]
      unfold ch_new
      have e1 : ∀ x, x ∈ List.range 4 → ch_Sx g P i al (c / 64 - 1) (fun t => A (64 * (c / 64 - 1) + t)) x c = ch_bg g L (ch_H val P i al c (c / 64 - 1) x) := fun x _ => ch_Sx_H (by omega) hq hA
      rw [ch_bg_cg g e1, ch_bg_ex]
      refine ch_bg_cg g (fun q hm => ?_)
      have h3 := hq q hm
      by_cases h0 : q.1 = 0
      · by_cases hk : q.2.1 = c / 64 - 1
        · rw [ch_cd_a ⟨hi, hr, h0⟩, ch_bg_fm]
          show ch_bg g [0, 1, 2, 3] _ = _
          refine ch_bg_cg g (fun o ho => ?_)
          rw [ch_tl_r hi hr h0]
          unfold ch_H
          rw [if_pos ⟨h0, hk⟩, ← hk]
          by_cases hok : ch_sh P i o ≠ 0 ∧ al q.2.1 o = true
          · rw [if_pos hok, if_pos (show q.2.1 < 6 ∧ ch_sh P i o ≠ 0 ∧ al q.2.1 o = true from ⟨by omega, hok⟩), ch_bg_1]
            show _ = if 0 * 448 + 64 * (q.2.1 + 1) + ch_chg q.2.2.1 (ch_V P i) o = c then val (q.2.2.2.1 * ch_sh P i o) q.2.2.2.2 else 0
            rw [hval, Nat.zero_mul, Nat.zero_add]
          · rw [if_neg hok, if_neg (fun z => hok z.2)]
            rfl
        · rw [hch q h3 h0 c (fun o ho hk2 => ?_)]
          · refine ch_bg_z g (fun x _ => ?_)
            unfold ch_H
            rw [if_neg (fun z => hk z.2)]
          · have := ch_chg_lt q.2.2.1 h3.2.2.1 (ch_V P i) hv3 o ho
            omega
      · rw [hwt q h0, ch_bg_1, ch_fq_n (by unfold ch_cl; omega)]
        refine ch_bg_z g (fun x _ => ?_)
        unfold ch_H
        rw [if_neg (fun z => h0 z.1)]
    · rw [if_neg h2, if_pos (by omega)]
      refine (ch_bg_z g (fun q hm => ?_)).symm
      have h3 := hq q hm
      by_cases h0 : q.1 = 0
      · exact hch q h3 h0 c (fun o ho hk => by omega)
      · rw [hwt q h0, ch_bg_1, ch_fq_n (by unfold ch_cl; omega)]
end
end
section
/-! own rows: the component carries a program out -/
theorem ch_fm_map {α β : Type} {l : List α} {f : α → List β} {c : α → β} (h : ∀ a, a ∈ l → f a = [c a]) : l.flatMap f = l.map c := by
  induction l with
  | nil => rfl
  | cons a l ih =>
    rw [List.flatMap_cons, h a List.mem_cons_self, ih (fun b hb => h b (List.mem_cons_of_mem a hb))]
    rfl
theorem ch_cd_mem {al : Nat → Nat → Bool} {P : ch_P} {i : Nat} {st : List (Nat × Nat)} {q q' : ch_Q} (h : q' ∈ ch_cd al P i st q) : ∃ o, o < 4 ∧ ch_s0 al P i st q o = .ok q' := by
  have ht : ∀ o, q' ∈ ch_tl (ch_s0 al P i st q o) → ch_s0 al P i st q o = .ok q' := by
    intro o ho
    cases hs : ch_s0 al P i st q o with
    | error e => rw [hs] at ho; cases ho
    | ok q1 =>
      rw [hs] at ho
      have : q' = q1 := List.mem_singleton.mp ho
      rw [this]
  by_cases hr : i < ch_n P ∧ (ch_K P i = 1 ∨ ch_K P i = 2) ∧ q.1 = 0
  · rw [ch_cd_a hr] at h
    obtain ⟨o, ho, h2⟩ := List.mem_flatMap.mp h
    refine ⟨o, ?_, ht o h2⟩
    simp only [List.mem_cons, List.not_mem_nil, or_false] at ho
    omega
  · rw [ch_cd_w hr] at h
    exact ⟨0, by decide, ht 0 h⟩
def ch_XI (g : Bool) (wi : Nat) (P : ch_P) (st : List (Nat × Nat)) (L : List ch_Q) (A B : Nat → Nat) (ba ro : Nat → Int32) : Prop :=
  ch_AR g ch_v1 st.length L A ∧ ch_AR false (ch_v2 wi) st.length L B ∧ ch_RS P st ba ro ∧ ∀ q, q ∈ L → ch_qi st.length q
theorem ch_v1_x : ∀ w m c, ch_v1 (w * c) m = ch_v1 w m * c := fun _ _ _ => rfl
theorem ch_v2_x (wi : Nat) : ∀ w m c, ch_v2 wi (w * c) m = ch_v2 wi w m * c := fun w m c => by
  show w * c * m wi = w * m wi * c
  rw [Nat.mul_right_comm]
theorem ch_XI_qi {al : Nat → Nat → Bool} {P : ch_P} (w : ch_wf P) {i : Nat} {st : List (Nat × Nat)} {L : List ch_Q} (hv : ch_iv P i st) (hd : i < ch_n P ∨ st ≠ []) (h : ∀ q, q ∈ L → ch_qi st.length q) : ∀ q, q ∈ L.flatMap (ch_cd al P i st) → ch_qi (ch_ct P i st).2.length q := by
  intro q hq
  obtain ⟨q1, h1, h2⟩ := List.mem_flatMap.mp hq
  obtain ⟨o, ho, hs⟩ := ch_cd_mem h2
  exact ch_qi_s w hv hd ho (h q1 h1) hs
theorem ch_XI_b {g : Bool} {wi : Nat} {P : ch_P} {st : List (Nat × Nat)} {L : List ch_Q} {A B : Nat → Nat} {ba ro : Nat → Int32} (h : ch_XI g wi P st L A B ba ro) : g = true → ∀ j, j < (st.length + 1) * 448 → A j ≤ 16777216 := fun hg => by
  subst hg
  exact ch_AR_b h.1 h.2.2.2
section
variable {f_height f_size f_opened f_level f_greatestOnly f_watched f_known : Int32} {a_lower a_upper a_low a_high a_weights a_visited a_weightHere a_visitedHere a_atEnd : Nat → Int64} {a_kind a_variable a_share a_openAt a_elseOf a_endOf a_blockAt a_rounds a_forced : Nat → Int32} {g : Bool} {A B wh vh : Nat → Nat} {lv : Int32} {ba ro : Nat → Int32} {P : ch_P} {wi i : Nat} {L : List ch_Q} {post : Int32 → SX → Prop}
theorem ch_endBlk {e : Nat × Nat} {l : List (Nat × Nat)} (w : ch_wf P) (hx : ch_xp P (nI (ch_n P)) a_kind a_variable a_share a_low a_high) (hv : ch_iv P i (e :: l)) (hend : i < ch_n P → ch_K P i = 8) (hX : ch_XI g wi P (e :: l) L A B ba ro)
    (h : ∀ A' B' ro', ch_XI g wi P (ch_eb P i (e :: l)).2 (L.map (ch_e0 P (e :: l))) A' B' ba ro' → post (nI (ch_eb P i (e :: l)).1) (f_height, nI (ch_n P), f_opened, nI (ch_eb P i (e :: l)).2.length, ch_gg g, f_watched, f_known, a_lower, a_upper, a_kind, a_variable, a_share, a_low, a_high, a_openAt, a_elseOf, a_endOf, ch_w A', ch_w B', ba, ro', a_forced, ch_w wh, ch_w vh, a_atEnd)) :
    wpX_endBlock post (f_height, nI (ch_n P), f_opened, nI (l.length + 1), ch_gg g, f_watched, f_known, a_lower, a_upper, a_kind, a_variable, a_share, a_low, a_high, a_openAt, a_elseOf, a_endOf, ch_w A, ch_w B, ba, ro, a_forced, ch_w wh, ch_w vh, a_atEnd) (nI i) := by
  have hn := w.1
  have hl3 : l.length + 1 ≤ 3 := ch_iv_len w hv
  have ht := ch_iv_top hv
  obtain ⟨hA, hB, hR, hQ⟩ := hX
  have hin : vp_in (nI (l.length + 1)) 4 := vp_in_nI (by omega) (by decide)
  have hcl : (nI (l.length + 1)).toNatClampNeg = l.length + 1 := nI_clamp (by omega)
  have hin2 : vp_in (nI e.1) 24 := vp_in_nI (by omega) (by decide)
  have hcl2 : (nI e.1).toNatClampNeg = e.1 := nI_clamp (by omega)
  have hkind := (hx.2 e.1 ht.1).1
  have hblk : ba (nI (l.length + 1)).toNatClampNeg = nI e.1 := by rw [hcl]; exact hR.1
  have hbound : g = true → ∀ j, j < (l.length + 1) * 448 + 448 → A j ≤ 268435456 := fun hg j hj => by
    have h1 : j < (l.length + 1 + 1) * 448 := by rw [Nat.succ_mul (l.length + 1) 448]; exact hj
    subst hg
    exact Nat.le_trans (ch_AR_b hA hQ j h1) (by decide)
  have hexit : ¬ (ch_K P e.1 = 6 ∧ 1 < e.2) → ∀ ro', ch_RS P l ba ro' → ∃ n52, wX_endBlock_52 post (nI i) n52 0 f_height (nI (ch_n P)) f_opened (nI (l.length + 1)) (ch_gg g) f_watched f_known a_lower a_upper a_kind a_variable a_share a_low a_high a_openAt a_elseOf a_endOf (ch_w A) (ch_w B) ba ro' a_forced (ch_w wh) (ch_w vh) a_atEnd := by
    intro hne ro' hR'
    rw [ch_eb_x hne] at h
    refine Exists.intro 449 (ch_en52 (A0 := A) (B0 := B) (by omega) hv.1 hn hbound (fun A' B' h1 h2 => h A' B' ro' ?_) 448 0 A B (by omega) ?_ ?_)
    · have em : L.map (ch_e0 P (e :: l)) = L.map (fun q => if q.1 = l.length + 1 then (0, q.2) else q) := List.map_congr_left (fun q _ => if_neg hne)
      rw [em]
      refine ⟨ch_AR_end hQ hA h1, ch_AR_end hQ hB h2, hR', fun q hq => ?_⟩
      obtain ⟨q1, hq1, rfl⟩ := List.mem_map.mp hq
      have hq2 := hQ q1 hq1
      have hq3 : q1.1 ≤ l.length + 1 := hq2.1
      by_cases hp : q1.1 = l.length + 1
      · rw [if_pos hp]
        exact ⟨Nat.zero_le _, hq2.2⟩
      · rw [if_neg hp]
        exact ⟨by show q1.1 ≤ l.length; omega, hq2.2⟩
    · exact fun j => (if_neg (by omega)).symm
    · exact fun j => (if_neg (by omega)).symm
  refine And.intro hin (nm_r hblk (And.intro hin2 ?_))
  rw [hcl2, hkind]
  by_cases h6 : ch_K P e.1 = 6
  · have hr := ht.2.2.2.2.2 h6
    rw [h6]
    refine br_t rfl (And.intro hin (And.intro hin (fun ro' er => And.intro hin ?_)))
    have hro : ro (l.length + 1) = nI e.2 := hR.2.1 h6
    rw [hcl, hro, show (1 : Int32) = nI 1 from rfl, pk_sub hr.1] at er
    have hrv : ro' (nI (l.length + 1)).toNatClampNeg = nI (e.2 - 1) := by rw [hcl, er, pk_us]
    have hRl : ch_RS P l ba ro' := by rw [er]; exact (ch_RS_u hR.2.2 (by omega)).2
    rw [hrv]
    by_cases h1 : 1 < e.2
    · rw [ch_eb_l ⟨h6, h1⟩] at h
      have em : L.map (ch_e0 P (e :: l)) = L := by
        have e1 : L.map (ch_e0 P (e :: l)) = L.map (fun q => q) := List.map_congr_left (fun q _ => if_pos ⟨h6, h1⟩)
        rw [e1, List.map_id']
      rw [em] at h
      refine br_f (nI_nle (by omega) (by omega)) ?_
      rw [nI_1]
      refine h A B ro' ⟨hA, hB, ⟨hR.1, fun _ => ?_, hRl⟩, hQ⟩
      rw [er, pk_us]
    · refine br_t ?_ (hexit (fun z => h1 z.2) ro' hRl)
      rw [show e.2 - 1 = 0 by omega]
      decide
  · have h4 : ch_K P e.1 = 4 := by
      rcases ht.2.2.1 with z | z
      · exact z
      · exact absurd z h6
    rw [h4]
    exact br_f (by decide) (hexit (fun z => h6 z.1) ro hR.2.2)
theorem ch_ca38 {st : List (Nat × Nat)} (w : ch_wf P) (hx : ch_xp P (nI (ch_n P)) a_kind a_variable a_share a_low a_high) (hv : ch_iv P i st) (hi : i < ch_n P) (hX : ch_XI g wi P st L A B ba ro)
    (h : ∀ A' B' ba' ro' wh' vh', ch_XI g wi P (ch_ct P i st).2 (L.flatMap (ch_cd (ch_al a_forced) P i st)) A' B' ba' ro' → post (nI (ch_ct P i st).1) (f_height, nI (ch_n P), f_opened, nI (ch_ct P i st).2.length, ch_gg g, f_watched, f_known, a_lower, a_upper, a_kind, a_variable, a_share, a_low, a_high, a_openAt, a_elseOf, a_endOf, ch_w A', ch_w B', ba', ro', a_forced, ch_w wh', ch_w vh', a_atEnd)) :
    wX_carry_38 post (nI i) f_height (nI (ch_n P)) f_opened (nI st.length) (ch_gg g) f_watched f_known a_lower a_upper a_kind a_variable a_share a_low a_high a_openAt a_elseOf a_endOf (ch_w A) (ch_w B) ba ro a_forced (ch_w wh) (ch_w vh) a_atEnd := by
  have hn := w.1
  have hq' := ch_XI_qi (al := ch_al a_forced) w hv (Or.inl hi) hX.2.2.2
  have hbd := ch_XI_b hX
  have hbd1 : g = true → ∀ j, j < 448 → A j ≤ 16777216 := fun hg j hj => hbd hg j (by omega)
  have hbd2 : g = true → ∀ j, j < 448 → A j ≤ 268435456 := fun hg j hj => Nat.le_trans (hbd1 hg j hj) (by decide)
  have hl3 : st.length ≤ 3 := ch_iv_len w hv
  obtain ⟨hA, hB, hR, hQ⟩ := hX
  have hxi := hx.2 i hi
  have hw := w.2 i hi
  have hin : vp_in (nI i) 24 := vp_in_nI (by omega) (by decide)
  have hcl : (nI i).toNatClampNeg = i := nI_clamp (by omega)
  have hkd : ∀ k, ch_K P i = k → a_kind (nI i).toNatClampNeg = nI k := fun k hk => by rw [hcl, hxi.1, hk]
  have hnr : ¬ (ch_K P i = 1 ∨ ch_K P i = 2) → ∀ q, ch_cd (ch_al a_forced) P i st q = ch_tl (ch_s0 (ch_al a_forced) P i st q 0) := fun hz q => ch_cd_w (fun z => hz z.2.1)
  refine And.intro hin ?_
  have hK8 := hw.1.1
  by_cases h0 : ch_K P i = 0
  · have hv3 : ch_V P i < 3 := by have := hw.1.2.1 (by omega); omega
    refine nm_r (hkd 0 h0) (br_f (by decide) (br_f (by decide) (br_t rfl (And.intro hin (And.intro hin (And.intro hin ?_))))))
    rw [hcl, hxi.2.1 (by omega)]
    refine ch_setAll hv3 hbd2 (fun A' B' wh' vh' h1 h2 => ?_)
    show post (nI i + 1) _
    rw [nI_1]
    have ect := ch_ct_s (st := st) hi (show ch_K P i ≠ 4 by omega) (show ch_K P i ≠ 5 by omega) (show ch_K P i ≠ 6 by omega) (show ch_K P i ≠ 8 by omega)
    have efm : L.flatMap (ch_cd (ch_al a_forced) P i st) = L.map (fun q => if q.1 = 0 then (0, q.2.1, ch_f0 (ch_V P i) (a_low i) (a_high i) q.2.2.1, q.2.2.2) else q) := ch_fm_map (fun q _ => by
      rw [hnr (by omega), ch_s0_0 hi h0, hxi.2.2.2]
      rfl)
    rw [ect] at h hq'
    rw [efm] at h hq'
    exact h A' B' ba ro wh' vh' ⟨ch_AR_set (ch_f0_lt hv3 _ _) hQ hA h1, ch_AR_set (ch_f0_lt hv3 _ _) hQ hB h2, hR, hq'⟩
  · by_cases h12 : ch_K P i = 1 ∨ ch_K P i = 2
    · have ect := ch_ct_s (st := st) hi (show ch_K P i ≠ 4 by omega) (show ch_K P i ≠ 5 by omega) (show ch_K P i ≠ 6 by omega) (show ch_K P i ≠ 8 by omega)
      rw [ect] at h hq'
      have hstep : wX_carry_117 post (nI i) f_height (nI (ch_n P)) f_opened (nI st.length) (ch_gg g) f_watched f_known a_lower a_upper a_kind a_variable a_share a_low a_high a_openAt a_elseOf a_endOf (ch_w A) (ch_w B) ba ro a_forced (ch_w wh) (ch_w vh) a_atEnd := by
        refine ch_stepAll w hx hi h12 hbd1 (fun A' B' wh' vh' h1 h2 => ?_)
        show post (nI i + 1) _
        rw [nI_1]
        exact h A' B' ba ro wh' vh' ⟨ch_AR_rnd w hi h12 ch_v1_x hQ hA h1, ch_AR_rnd w hi h12 (ch_v2_x wi) hQ hB h2, hR, hq'⟩
      by_cases h1 : ch_K P i = 1
      · exact nm_r (hkd 1 h1) (br_f (by decide) (br_f (by decide) (br_f (by decide) (br_t rfl hstep))))
      · exact nm_r (hkd 2 (by omega)) (br_f (by decide) (br_f (by decide) (br_f (by decide) (br_f (by decide) (br_t rfl hstep)))))
    · by_cases h3 : ch_K P i = 3
      · refine nm_r (hkd 3 h3) (br_f (by decide) (br_f (by decide) (br_f (by decide) (br_f (by decide) (br_f (by decide) (br_t rfl (And.intro hin (And.intro hin ?_))))))))
        rw [hcl]
        refine ch_mvL (fun A' B' h1 h2 => ?_)
        show post (nI i + 1) _
        rw [nI_1]
        have ect := ch_ct_s (st := st) hi (show ch_K P i ≠ 4 by omega) (show ch_K P i ≠ 5 by omega) (show ch_K P i ≠ 6 by omega) (show ch_K P i ≠ 8 by omega)
        have efm : L.flatMap (ch_cd (ch_al a_forced) P i st) = L.flatMap (fun q => if q.1 = 0 ∧ ch_E P i q.2.2.1 = 0 then [] else [q]) := ch_fm_cg (fun q _ => by
          rw [hnr (by omega), ch_s0_3 hi h3]
          by_cases hz : q.1 = 0 ∧ ch_E P i q.2.2.1 = 0
          · rw [if_pos hz, if_pos hz]; rfl
          · rw [if_neg hz, if_neg hz]; rfl)
        have hbt : ∀ s, s < 64 → (ch_bt ((a_low i ||| a_high i) ^^^ (-1)) s = 1 ↔ ch_E P i s = 0) := fun s hs => by
          rw [hxi.2.2.2 s, ← ch_bt_z _ _ hs, ch_l1 (ch_bt_lt _ _)]
        rw [ect] at h hq'
        rw [efm] at h hq'
        exact h A' B' ba ro wh vh ⟨ch_AR_keep hbt hQ hA h1, ch_AR_keep hbt hQ hB h2, hR, hq'⟩
      · by_cases h4 : ch_K P i = 4
        · have hlen : st.length < 3 := by
            rw [ch_rt_len (ch_iv_lt hv hi)]
            exact hw.2.1 (Or.inl h4)
          refine nm_r (hkd 4 h4) (br_f (by decide) (br_f (by decide) (br_f (by decide) (br_f (by decide) (br_f (by decide) (br_f (by decide) (br_t rfl ?_)))))))
          refine ch_begin hlen (fun A1 B1 hz1 hz2 => And.intro hin (And.intro hin ?_))
          rw [hcl]
          have hA1 := ch_AR_begin hQ hA hz1
          have hB1 := ch_AR_begin hQ hB hz2
          have hQ1 : ∀ q, q ∈ L → ch_qi (st.length + 1) q := fun q hq => ⟨by have := (hQ q hq).1; omega, (hQ q hq).2⟩
          have hb1 : g = true → ∀ j, j < (st.length + 1) * 448 + 448 → A1 j ≤ 268435456 := fun hg j hj => by
            subst hg
            exact Nat.le_trans (ch_AR_b hA1 hQ1 j (by rw [Nat.succ_mul (st.length + 1) 448]; exact hj)) (by decide)
          refine ch_mvD (by omega) (by omega) hb1 (fun A' B' h1 h2 => ?_)
          show post (nI i + 1) _
          rw [nI_1]
          have efm : L.flatMap (ch_cd (ch_al a_forced) P i st) = L.map (fun q => if q.1 = 0 ∧ ch_bt ((a_low i ||| a_high i) ^^^ (-1)) q.2.2.1 = 1 then (st.length + 1, q.2) else q) := ch_fm_map (fun q hm => by
            rw [hnr (by omega), ch_s0_4 hi h4]
            have hbt : (ch_bt ((a_low i ||| a_high i) ^^^ (-1)) q.2.2.1 = 1 ↔ ch_E P i q.2.2.1 = 0) := by
              rw [hxi.2.2.2, ← ch_bt_z _ _ (hQ q hm).2.2.1, ch_l1 (ch_bt_lt _ _)]
            by_cases hz : q.1 = 0 ∧ ch_E P i q.2.2.1 = 0
            · rw [if_pos hz, if_pos ⟨hz.1, hbt.mpr hz.2⟩]; rfl
            · rw [if_neg hz, if_neg (fun y => hz ⟨y.1, hbt.mp y.2⟩)]; rfl)
          rw [ch_ct_4 hi h4] at h hq'
          rw [efm] at h hq'
          refine h A' B' _ ro wh vh ⟨ch_AR_mv (by omega) (Nat.le_refl _) hQ1 hA1 h1, ch_AR_mv (by omega) (Nat.le_refl _) hQ1 hB1 h2, ⟨pk_us, fun z => absurd (show ch_K P i = 6 from z) (by omega), (ch_RS_u hR (Nat.lt_succ_self _)).1⟩, hq'⟩
        · by_cases h5 : ch_K P i = 5
          · obtain ⟨b, t, e1, e2⟩ := hw.2.2.1 h5
            have hr := ch_iv_lt hv hi
            rw [e1] at hr
            obtain ⟨r, t2, est, _, _, _⟩ := ch_rt_c2 hr
            have hlen1 : 1 ≤ st.length := by rw [est]; exact Nat.succ_le_succ (Nat.zero_le _)
            refine nm_r (hkd 5 h5) (br_f (by decide) (br_f (by decide) (br_f (by decide) (br_f (by decide) (br_f (by decide) (br_f (by decide) (br_f (by decide) (br_t rfl ?_))))))))
            refine ch_exch hlen1 hl3 (fun A' B' h1 h2 => ?_)
            show post (nI i + 1) _
            rw [nI_1]
            have efm : L.flatMap (ch_cd (ch_al a_forced) P i st) = L.map (fun q => if q.1 = 0 then (st.length, q.2) else if q.1 = st.length then (0, q.2) else q) := ch_fm_map (fun q hm => by
              rw [hnr (by omega), ch_s0_5 hi h5]
              rfl)
            rw [ch_ct_5 hi h5] at h hq'
            rw [efm] at h hq'
            have hml : (ch_mk st).length = st.length := ch_mk_len st
            have hp := h A' B' ba ro wh vh ⟨by show ch_AR _ _ (ch_mk st).length _ _; rw [hml]; exact ch_AR_ex hlen1 hQ hA h1, by show ch_AR _ _ (ch_mk st).length _ _; rw [hml]; exact ch_AR_ex hlen1 hQ hB h2, ?_, hq'⟩
            · have hp2 : post (nI (i + 1)) (f_height, nI (ch_n P), f_opened, nI (ch_mk st).length, ch_gg g, f_watched, f_known, a_lower, a_upper, a_kind, a_variable, a_share, a_low, a_high, a_openAt, a_elseOf, a_endOf, ch_w A', ch_w B', ba, ro, a_forced, ch_w wh, ch_w vh, a_atEnd) := hp
              rw [hml] at hp2
              exact hp2
            · show ch_RS P (ch_mk st) ba ro
              rw [est] at hR
              rw [est]
              exact ⟨hR.1, fun z => absurd (show ch_K P b = 6 from z) (by omega), hR.2.2⟩
          · by_cases h6 : ch_K P i = 6
            · have hlen : st.length < 3 := by
                rw [ch_rt_len (ch_iv_lt hv hi)]
                exact hw.2.1 (Or.inr h6)
              have hin4 : vp_in (nI (st.length + 1)) 4 := vp_in_nI (by omega) (by decide)
              have hcl4 : (nI (st.length + 1)).toNatClampNeg = st.length + 1 := nI_clamp (by omega)
              refine nm_r (hkd 6 h6) (br_f (by decide) (br_f (by decide) (br_f (by decide) (br_f (by decide) (br_f (by decide) (br_f (by decide) (br_f (by decide) (br_f (by decide) (br_t rfl ?_)))))))))
              refine ch_begin hlen (fun A1 B1 hz1 hz2 => And.intro hin (And.intro hin4 (fun ro' er => ?_)))
              rw [hcl, hcl4, hxi.2.2.1 (Or.inr h6)] at er
              rw [nI_1]
              have hQ1 : ∀ q, q ∈ L → ch_qi (st.length + 1) q := fun q hq => ⟨by have := (hQ q hq).1; omega, (hQ q hq).2⟩
              have efm : L.flatMap (ch_cd (ch_al a_forced) P i st) = L := by
                have e1 : L.flatMap (ch_cd (ch_al a_forced) P i st) = L.map (fun q => q) := ch_fm_map (fun q hm => by
                  rw [hnr (by omega), ch_s0_6 hi h6]
                  rfl)
                rw [e1, List.map_id']
              rw [ch_ct_6 hi h6] at h hq'
              rw [efm] at h hq'
              have hRu := (ch_RS_u (x := nI i) hR (Nat.lt_succ_self _)).1
              refine h A1 B1 _ ro' wh vh ⟨ch_AR_begin hQ hA hz1, ch_AR_begin hQ hB hz2, ⟨pk_us, fun _ => ?_, ?_⟩, hq'⟩
              · rw [er, pk_us]
              · rw [er]
                exact (ch_RS_u hRu (Nat.lt_succ_self _)).2
            · by_cases h7 : ch_K P i = 7
              · have hex := ch_rt_loop (ch_iv_lt hv hi) (hw.2.2.2.1 h7)
                obtain ⟨up, e, low, e1, e2, e3, e4⟩ := ch_lp st hex
                have hg := ch_iv_gd w hv
                have hlow : low.length + 1 ≤ st.length := by
                  rw [e1, List.length_append]
                  show low.length + 1 ≤ up.length + (low.length + 1)
                  omega
                refine nm_r (hkd 7 h7) (br_f (by decide) (br_f (by decide) (br_f (by decide) (br_f (by decide) (br_f (by decide) (br_f (by decide) (br_f (by decide) (br_f (by decide) (br_f (by decide) (br_t rfl (Exists.intro (up.length + 1) ?_)))))))))))
                have hb1 : g = true → ∀ j, j < (low.length + 1) * 448 + 448 → A j ≤ 268435456 := fun hg j hj => by
                  have h9 : (low.length + 1) * 448 ≤ st.length * 448 := Nat.mul_le_mul_right _ hlow
                  have h10 : (st.length + 1) * 448 = st.length * 448 + 448 := Nat.succ_mul _ _
                  exact Nat.le_trans (hbd hg j (by rw [h10]; omega)) (by decide)
                have hmv : wX_breakOut_32 (fun u => match u with | (f_height, f_size, f_opened, f_level, f_greatestOnly, f_watched, f_known, a_lower, a_upper, a_kind, a_variable, a_share, a_low, a_high, a_openAt, a_elseOf, a_endOf, a_weights, a_visited, a_blockAt, a_rounds, a_forced, a_weightHere, a_visitedHere, a_atEnd) => post (nI i + 1) (f_height, f_size, f_opened, f_level, f_greatestOnly, f_watched, f_known, a_lower, a_upper, a_kind, a_variable, a_share, a_low, a_high, a_openAt, a_elseOf, a_endOf, a_weights, a_visited, a_blockAt, a_rounds, a_forced, a_weightHere, a_visitedHere, a_atEnd)) (nI (low.length + 1)) f_height (nI (ch_n P)) f_opened (nI st.length) (ch_gg g) f_watched f_known a_lower a_upper a_kind a_variable a_share a_low a_high a_openAt a_elseOf a_endOf (ch_w A) (ch_w B) ba ro a_forced (ch_w wh) (ch_w vh) a_atEnd := by
                  refine ch_mvD (by omega) (by omega) hb1 (fun A' B' h1 h2 => ?_)
                  show post (nI i + 1) _
                  rw [nI_1]
                  have ect := ch_ct_s (st := st) hi h4 h5 h6 (show ch_K P i ≠ 8 by omega)
                  have efm : L.flatMap (ch_cd (ch_al a_forced) P i st) = L.map (fun q => if q.1 = 0 ∧ ch_bt (-1) q.2.2.1 = 1 then (low.length + 1, q.2) else q) := ch_fm_map (fun q hm => by
                    rw [hnr (by omega), ch_s0_7 hi h7, e4]
                    have hbt := ch_bt_m1 _ (hQ q hm).2.2.1
                    by_cases hz : q.1 = 0
                    · rw [if_pos hz, if_pos ⟨hz, hbt⟩]; rfl
                    · rw [if_neg hz, if_neg (fun y => hz y.1)]; rfl)
                  rw [ect] at h hq'
                  rw [efm] at h hq'
                  exact h A' B' ba ro wh vh ⟨ch_AR_mv (by omega) hlow hQ hA h1, ch_AR_mv (by omega) hlow hQ hB h2, hR, hq'⟩
                have hfin := ch_br5 hx hn e3 rfl hmv up (by rw [← e1]; exact hg) (by rw [← e1]; exact hR) e2
                rw [← e1] at hfin
                exact hfin
              · have h8 : ch_K P i = 8 := by omega
                cases st with
                | nil => exact absurd (ch_rt_n (ch_iv_lt hv hi)) (hw.2.2.2.2 h8)
                | cons e l =>
                  refine nm_r (hkd 8 h8) (br_f (by decide) (br_t (by decide) ?_))
                  have efm : L.flatMap (ch_cd (ch_al a_forced) P i (e :: l)) = L.map (ch_e0 P (e :: l)) := ch_fm_map (fun q hm => by
                    rw [hnr (by omega), ch_s0_8 (fun _ => by omega)]
                    rfl)
                  rw [ch_ct_8 hi h8] at h
                  rw [efm] at h
                  exact ch_endBlk w hx hv (fun _ => h8) ⟨hA, hB, hR, hQ⟩ (fun A' B' ro' hX' => h A' B' ba ro' wh vh hX')
end
end
section
/-! own rows: the component's carrying out, from the start to the end; its sums at the end -/
section
variable {f_height f_size f_opened f_level f_greatestOnly f_watched f_known : Int32} {a_lower a_upper a_low a_high a_weights a_visited a_weightHere a_visitedHere a_atEnd : Nat → Int64} {a_kind a_variable a_share a_openAt a_elseOf a_endOf a_blockAt a_rounds a_forced : Nat → Int32} {g : Bool} {A B wh vh : Nat → Nat} {lv : Int32} {ba ro : Nat → Int32} {P : ch_P} {wi i : Nat} {L : List ch_Q}
theorem ch_carry {post : Int32 → SX → Prop} {st : List (Nat × Nat)} (w : ch_wf P) (hx : ch_xp P (nI (ch_n P)) a_kind a_variable a_share a_low a_high) (hv : ch_iv P i st) (hi : i < ch_n P) (hX : ch_XI g wi P st L A B ba ro) (hw : nI i = f_watched ↔ i = wi) (hgw : g = true → i ≠ wi)
    (h : ∀ A' B' ba' ro' wh' vh', ch_XI g wi P (ch_ct P i st).2 (L.flatMap (fun q => ch_cd (ch_al a_forced) P i st (ch_iq P i q))) A' B' ba' ro' → post (nI (ch_ct P i st).1) (f_height, nI (ch_n P), f_opened, nI (ch_ct P i st).2.length, ch_gg g, f_watched, f_known, a_lower, a_upper, a_kind, a_variable, a_share, a_low, a_high, a_openAt, a_elseOf, a_endOf, ch_w A', ch_w B', ba', ro', a_forced, ch_w wh', ch_w vh', a_atEnd)) :
    wpX_carry post (f_height, nI (ch_n P), f_opened, nI st.length, ch_gg g, f_watched, f_known, a_lower, a_upper, a_kind, a_variable, a_share, a_low, a_high, a_openAt, a_elseOf, a_endOf, ch_w A, ch_w B, ba, ro, a_forced, ch_w wh, ch_w vh, a_atEnd) (nI i) := by
  have efm : L.flatMap (fun q => ch_cd (ch_al a_forced) P i st (ch_iq P i q)) = (L.map (ch_iq P i)).flatMap (ch_cd (ch_al a_forced) P i st) := (List.flatMap_map _ _ _).symm
  rw [efm] at h
  obtain ⟨hA, hB, hR, hQ⟩ := hX
  have hQ' : ∀ q, q ∈ L.map (ch_iq P i) → ch_qi st.length q := fun q hq => by
    obtain ⟨q1, hq1, rfl⟩ := List.mem_map.mp hq
    exact ch_qi_iq (hQ q1 hq1)
  by_cases hwi : i = wi
  · have hg : g = false := by
      cases g with
      | false => rfl
      | true => exact absurd hwi (hgw rfl)
    subst hg
    subst hwi
    refine br_t (hw.mpr rfl) (Exists.intro 449 (ch_ca10 (fun B' hB' => ch_ca38 w hx hv hi ⟨ch_AR_iq1 hA, ch_AR_iq3 hi hQ hA hB hB', hR, hQ'⟩ h) 448 0 B (by omega) ?_))
    exact fun j => (if_neg (by omega)).symm
  · exact br_f (fun z => hwi (hw.mp z)) (ch_ca38 w hx hv hi ⟨ch_AR_iq1 hA, ch_AR_iq2 hwi hB, hR, hQ'⟩ h)
theorem ch_co45 {post : SX → Prop} (w : ch_wf P) (hx : ch_xp P (nI (ch_n P)) a_kind a_variable a_share a_low a_high) (hw : ∀ j, j < 24 → (nI j = f_watched ↔ j = wi)) (hgw : g = true → 24 ≤ wi) :
    ∀ (T i t : Nat) (st : List (Nat × Nat)) (L : List ch_Q) (A B wh vh : Nat → Nat) (ba ro : Nat → Int32), ch_iv P i st → ch_mu P i st ≤ T → t + T < 2000 → ch_XI g wi P st L A B ba ro →
    (∀ A' B' ba' ro' wh' vh', ch_AR g ch_v1 0 (ch_rs (ch_al a_forced) P T i st L) A' → ch_AR false (ch_v2 wi) 0 (ch_rs (ch_al a_forced) P T i st L) B' → post (f_height, nI (ch_n P), f_opened, nI 0, ch_gg g, f_watched, f_known, a_lower, a_upper, a_kind, a_variable, a_share, a_low, a_high, a_openAt, a_elseOf, a_endOf, ch_w A', ch_w B', ba', ro', a_forced, ch_w wh', ch_w vh', a_atEnd)) →
    wX_carryOut_45 post (T + 1) (nI i) (nI t) f_height (nI (ch_n P)) f_opened (nI st.length) (ch_gg g) f_watched f_known a_lower a_upper a_kind a_variable a_share a_low a_high a_openAt a_elseOf a_endOf (ch_w A) (ch_w B) ba ro a_forced (ch_w wh) (ch_w vh) a_atEnd := by
  have hn := w.1
  have hdone : ∀ (n T i t : Nat) (st : List (Nat × Nat)) (L : List ch_Q) (A B wh vh : Nat → Nat) (ba ro : Nat → Int32), (ch_n P ≤ i ∧ st.length = 0) → i ≤ ch_n P → t < 2000 → ch_XI g wi P st L A B ba ro →
      (∀ A' B' ba' ro' wh' vh', ch_AR g ch_v1 0 (ch_rs (ch_al a_forced) P T i st L) A' → ch_AR false (ch_v2 wi) 0 (ch_rs (ch_al a_forced) P T i st L) B' → post (f_height, nI (ch_n P), f_opened, nI 0, ch_gg g, f_watched, f_known, a_lower, a_upper, a_kind, a_variable, a_share, a_low, a_high, a_openAt, a_elseOf, a_endOf, ch_w A', ch_w B', ba', ro', a_forced, ch_w wh', ch_w vh', a_atEnd)) →
      wX_carryOut_45 post (n + 1) (nI i) (nI t) f_height (nI (ch_n P)) f_opened (nI st.length) (ch_gg g) f_watched f_known a_lower a_upper a_kind a_variable a_share a_low a_high a_openAt a_elseOf a_endOf (ch_w A) (ch_w B) ba ro a_forced (ch_w wh) (ch_w vh) a_atEnd := by
    intro n T i t st L A B wh vh ba ro hd hi ht hX h
    rw [ch_rs_d hd] at h
    obtain ⟨hA, hB, hR, hQ⟩ := hX
    rw [hd.2] at hA hB
    rw [hd.2]
    exact br_f (nI_ge (a := t) (b := 2000) ht (by decide)) (br_f (nI_nlt hd.1 (by omega)) (br_t (by decide) (h A B ba ro wh vh hA hB)))
  intro T
  induction T with
  | zero =>
    intro i t st L A B wh vh ba ro hv hm ht hX h
    exact hdone 0 0 i t st L A B wh vh ba ro (ch_dn_of w hv (by omega)) hv.1 (by omega) hX h
  | succ T ih =>
    intro i t st L A B wh vh ba ro hv hm ht hX h
    by_cases hd : ch_n P ≤ i ∧ st.length = 0
    · exact hdone (T + 1) (T + 1) i t st L A B wh vh ba ro hd hv.1 (by omega) hX h
    have hnd := ch_nd_of hd
    have hmu := ch_mu_ct w hv hnd
    rw [ch_rs_o hd] at h
    have hiv := ch_iv_ct w hv hnd
    refine br_f (nI_ge (a := t) (b := 2000) (by omega) (by decide)) ?_
    by_cases hi : i < ch_n P
    · refine br_t (nI_lt hi (by omega)) (br_f (nI_ge hi (by omega)) (ch_carry w hx hv hi hX (hw i (by omega)) (fun hg => by have := hgw hg; omega) (fun A' B' ba' ro' wh' vh' hX' => nm_r (nI_1 t) ?_)))
      exact ih _ (t + 1) _ _ A' B' wh' vh' ba' ro' hiv (by omega) (by omega) hX' h
    · cases st with
      | nil => exact absurd rfl (hnd.resolve_left hi)
      | cons e l =>
        have e2 : i = ch_n P := by have := hv.1; omega
        refine br_f (nI_nlt (by omega) (by omega)) (br_f (nI_nle (Nat.succ_pos _) (by have := ch_iv_len w hv; omega)) (br_t (nI_le (by omega) (by have := hv.1; omega)) ?_))
        have efm : L.flatMap (fun q => ch_cd (ch_al a_forced) P i (e :: l) (ch_iq P i q)) = L.map (ch_e0 P (e :: l)) := ch_fm_map (fun q _ => by
          have eq : ch_iq P i q = q := if_neg (fun z => hi z.2)
          rw [eq, ch_cd_w (fun z => hi z.1), ch_s0_8 (fun z => absurd z hi)]
          rfl)
        rw [efm] at h
        rw [ch_ct_e hi] at h hmu hiv
        refine ch_endBlk w hx hv (fun z => absurd z hi) hX (fun A' B' ro' hX' => nm_r (nI_1 t) ?_)
        exact ih _ (t + 1) _ _ A' B' wh vh ba ro' hiv (by omega) (by omega) hX' h
theorem ch_co2 {post : SX → Prop} (w : ch_wf P) (hx : ch_xp P (nI (ch_n P)) a_kind a_variable a_share a_low a_high) (hw : ∀ j, j < 24 → (nI j = f_watched ↔ j = wi)) (hgw : g = true → 24 ≤ wi)
    (h : ∀ A' B' ba' ro' wh' vh', ch_AR g ch_v1 0 (ch_R (ch_al a_forced) P) A' → ch_AR false (ch_v2 wi) 0 (ch_R (ch_al a_forced) P) B' → post (f_height, nI (ch_n P), f_opened, nI 0, ch_gg g, f_watched, f_known, a_lower, a_upper, a_kind, a_variable, a_share, a_low, a_high, a_openAt, a_elseOf, a_endOf, ch_w A', ch_w B', ba', ro', a_forced, ch_w wh', ch_w vh', a_atEnd)) :
    ∀ (d c : Nat) (A B : Nat → Nat), c + d = 1792 → (∀ j, j < c → A j = 0) → (∀ j, j < c → B j = 0) → wX_carryOut_2 post f_height (nI (ch_n P)) f_opened lv (ch_gg g) f_watched f_known (d + 1) (nI c) a_lower a_upper a_kind a_variable a_share a_low a_high a_openAt a_elseOf a_endOf (ch_w A) (ch_w B) ba ro a_forced (ch_w wh) (ch_w vh) a_atEnd := by
  intro d
  induction d with
  | zero =>
    intro c A B hc hA hB
    have e : c = 1792 := by omega
    subst e
    refine br_t (nI_le (a := 1792) (b := 1792) (by omega) (by omega)) (fun a ea => Exists.intro 865 ?_)
    rw [show (1 : Int64) = lN 1 from rfl, ch_w_u] at ea
    rw [ea]
    have hAR : ch_AR g ch_v1 0 [ch_q0] (ch_u A 0 1) := fun c hc => by
      rw [ch_bg_1]
      by_cases h0 : c = 0
      · rw [h0, ch_us]; rfl
      · rw [ch_un h0, hA c (by omega), ch_fq_n]
        show ¬ 0 * 448 + 64 * 0 + 0 = c
        omega
    have hBR : ch_AR false (ch_v2 wi) 0 [ch_q0] B := fun c hc => by
      rw [ch_bg_1, hB c (by omega)]
      unfold ch_fq
      split <;> rfl
    exact ch_co45 w hx hw hgw 864 0 0 [] [ch_q0] (ch_u A 0 1) B wh vh ba ro (ch_iv_0 P) (ch_mu_0 w) (by omega) ⟨hAR, hBR, trivial, fun q hq => by rw [List.mem_singleton.mp hq]; exact ch_q0_qi⟩ h
  | succ d ih =>
    intro c A B hc hA hB
    have hin : vp_in (nI c) 1792 := vp_in_nI (by omega) (by decide)
    have hcl : (nI c).toNatClampNeg = c := nI_clamp (by omega)
    refine br_f (nI_ge (a := c) (b := 1792) (by omega) (by omega)) (And.intro hin (fun a1 e1 => And.intro hin (fun a2 e2 => nm_r (nI_1 c) ?_)))
    rw [hcl, show (0 : Int64) = lN 0 from rfl, ch_w_u] at e1 e2
    rw [e1, e2]
    refine ih (c + 1) _ _ (by omega) (fun j hj => ?_) (fun j hj => ?_)
    · by_cases hjc : j = c
      · rw [hjc, ch_us]
      · rw [ch_un hjc]; exact hA j (by omega)
    · by_cases hjc : j = c
      · rw [hjc, ch_us]
      · rw [ch_un hjc]; exact hB j (by omega)
theorem ch_carryOut {post : SX → Prop} (g : Bool) (wi : Nat) (w : ch_wf P) (hx : ch_xp P (nI (ch_n P)) a_kind a_variable a_share a_low a_high) (hw : ∀ j, j < 24 → (nI j = f_watched ↔ j = wi)) (hgw : g = true → 24 ≤ wi)
    (h : ∀ A' B' ba' ro' wh' vh', ch_AR g ch_v1 0 (ch_R (ch_al a_forced) P) A' → ch_AR false (ch_v2 wi) 0 (ch_R (ch_al a_forced) P) B' → post (f_height, nI (ch_n P), f_opened, nI 0, ch_gg g, f_watched, f_known, a_lower, a_upper, a_kind, a_variable, a_share, a_low, a_high, a_openAt, a_elseOf, a_endOf, ch_w A', ch_w B', ba', ro', a_forced, ch_w wh', ch_w vh', a_atEnd)) :
    wpX_carryOut post (f_height, nI (ch_n P), f_opened, f_level, ch_gg g, f_watched, f_known, a_lower, a_upper, a_kind, a_variable, a_share, a_low, a_high, a_openAt, a_elseOf, a_endOf, a_weights, a_visited, a_blockAt, a_rounds, a_forced, a_weightHere, a_visitedHere, a_atEnd) := by
  obtain ⟨A, rfl⟩ := ch_w_of a_weights
  obtain ⟨B, rfl⟩ := ch_w_of a_visited
  obtain ⟨wh, rfl⟩ := ch_w_of a_weightHere
  obtain ⟨vh, rfl⟩ := ch_w_of a_visitedHere
  exact Exists.intro 1793 (ch_co2 w hx hw hgw h 1792 0 A B (by omega) (fun j hj => by omega) (fun j hj => by omega))
theorem ch_la2 {post : SX → Prop} (h : ∀ fo : Nat → Int32, (∀ j, j < 6 → fo j = -1) → post (f_height, f_size, f_opened, f_level, 0, (-1), f_known, a_lower, a_upper, a_kind, a_variable, a_share, a_low, a_high, a_openAt, a_elseOf, a_endOf, a_weights, a_visited, a_blockAt, a_rounds, fo, a_weightHere, a_visitedHere, a_atEnd)) :
    ∀ (d c : Nat) (fo : Nat → Int32), c + d = 6 → (∀ j, j < c → fo j = -1) → wX_letAll_2 post f_height f_size f_opened f_level f_greatestOnly f_watched f_known (d + 1) (nI c) a_lower a_upper a_kind a_variable a_share a_low a_high a_openAt a_elseOf a_endOf a_weights a_visited a_blockAt a_rounds fo a_weightHere a_visitedHere a_atEnd := by
  intro d
  induction d with
  | zero =>
    intro c fo hc hf
    have e : c = 6 := by omega
    subst e
    exact br_t (by decide) (h fo hf)
  | succ d ih =>
    intro c fo hc hf
    have hin : vp_in (nI c) 6 := vp_in_nI (by omega) (by decide)
    have hcl : (nI c).toNatClampNeg = c := nI_clamp (by omega)
    refine br_f (nI_ge (a := c) (b := 6) (by omega) (by omega)) (And.intro hin (fun a1 e1 => nm_r (nI_1 c) ?_))
    rw [hcl] at e1
    rw [e1]
    refine ih (c + 1) _ (by omega) (fun j hj => ?_)
    by_cases hjc : j = c
    · rw [hjc, pk_us]
    · rw [pk_un hjc]; exact hf j (by omega)
theorem ch_letAll {post : SX → Prop} (h : ∀ fo : Nat → Int32, (∀ j, j < 6 → fo j = -1) → post (f_height, f_size, f_opened, f_level, 0, (-1), f_known, a_lower, a_upper, a_kind, a_variable, a_share, a_low, a_high, a_openAt, a_elseOf, a_endOf, a_weights, a_visited, a_blockAt, a_rounds, fo, a_weightHere, a_visitedHere, a_atEnd)) : wpX_letAll post (f_height, f_size, f_opened, f_level, f_greatestOnly, f_watched, f_known, a_lower, a_upper, a_kind, a_variable, a_share, a_low, a_high, a_openAt, a_elseOf, a_endOf, a_weights, a_visited, a_blockAt, a_rounds, a_forced, a_weightHere, a_visitedHere, a_atEnd) :=
  Exists.intro 7 (ch_la2 h 6 0 a_forced (by omega) (fun j hj => by omega))
theorem ch_mis_e : ∀ k, k < 7 → ((1 : Int64) <<< ((4 * (6 - nI k)).toInt64 &&& 63)) = lN (16 ^ (6 - k)) := by decide +kernel
theorem ch_mis {post : Int64 → Prop} {k : Nat} (hk : k < 7) (h : post (lN (16 ^ (6 - k)))) : wpX_missing post (nI k) := by
  unfold wpX_missing
  rw [ch_mis_e k hk]
  exact h
def ch_SS (A : Nat → Nat) (s k : Nat) : Nat := ch_bg false (List.range k) (fun j => A (64 * j + s) * 16 ^ (6 - j))
theorem ch_fi38 {post : SX → Prop} {J : Int32 → (Nat → Int64) → (Nat → Int64) → (Nat → Int32) → (Nat → Int32) → (Nat → Int32) → (Nat → Int64) → (Nat → Int64) → (Nat → Int32) → (Nat → Int32) → (Nat → Int32) → (Nat → Int64) → (Nat → Int64) → (Nat → Int32) → (Nat → Int32) → (Nat → Int32) → (Nat → Int64) → (Nat → Int64) → (Nat → Int64) → Prop}
    {s : Nat} (hs : s < 64) {ae0 : Nat → Int64} (h : ∀ ae : Nat → Int64, ae s = lN (ch_SS A s 7) → (∀ j, j ≠ s → ae j = ae0 j) → J (nI (s + 1)) a_lower a_upper a_kind a_variable a_share a_low a_high a_openAt a_elseOf a_endOf (ch_w A) (ch_w B) ba ro a_forced (ch_w wh) (ch_w vh) ae) :
    ∀ (d k : Nat) (ae : Nat → Int64), k + d = 7 → ae s = lN (ch_SS A s k) → (∀ j, j ≠ s → ae j = ae0 j) → wX_find_38 post J (nI s) f_height f_size f_opened f_level f_greatestOnly f_watched f_known (d + 1) (nI k) a_lower a_upper a_kind a_variable a_share a_low a_high a_openAt a_elseOf a_endOf (ch_w A) (ch_w B) ba ro a_forced (ch_w wh) (ch_w vh) ae := by
  intro d
  induction d with
  | zero =>
    intro k ae hk h1 h2
    have e : k = 7 := by omega
    subst e
    exact br_t (by decide) (nm_r (nI_1 s) (h ae h1 h2))
  | succ d ih =>
    intro k ae hk h1 h2
    have hin : vp_in (nI s) 64 := vp_in_nI hs (by decide)
    have hcl : (nI s).toNatClampNeg = s := nI_clamp (by omega)
    have hin2 : vp_in (nI (64 * k + s)) 1792 := vp_in_nI (by omega) (by decide)
    have hcl2 : (nI (64 * k + s)).toNatClampNeg = 64 * k + s := nI_clamp (by omega)
    refine br_f (nI_nlt (a := 6) (b := k) (by omega) (by omega)) (And.intro hin ?_)
    rw [ch_64]
    refine And.intro hin2 (ch_mis (by omega) (And.intro hin (fun a1 e1 => nm_r (nI_1 k) ?_)))
    rw [hcl, hcl2, h1, show ch_w A (64 * k + s) = lN (A (64 * k + s)) from rfl, lN_mul, lN_add] at e1
    refine ih (k + 1) a1 (by omega) ?_ (fun j hj => ?_)
    · rw [e1, pk_uLs]
      unfold ch_SS
      rw [ch_bg_s]
      rfl
    · rw [e1, pk_uLn hj]
      exact h2 j hj
theorem ch_fi23 {post : SX → Prop} (h : ∀ ae : Nat → Int64, (∀ s, s < 64 → ae s = lN (ch_SS A s 7)) → post (f_height, f_size, f_opened, f_level, f_greatestOnly, f_watched, f_known, a_lower, a_upper, a_kind, a_variable, a_share, a_low, a_high, a_openAt, a_elseOf, a_endOf, ch_w A, ch_w B, ba, ro, a_forced, ch_w wh, ch_w vh, ae)) :
    ∀ (d s : Nat) (ae : Nat → Int64), s + d = 64 → (∀ j, j < s → ae j = lN (ch_SS A j 7)) → wX_find_23 post f_height f_size f_opened f_level f_greatestOnly f_watched f_known (d + 1) (nI s) a_lower a_upper a_kind a_variable a_share a_low a_high a_openAt a_elseOf a_endOf (ch_w A) (ch_w B) ba ro a_forced (ch_w wh) (ch_w vh) ae := by
  intro d
  induction d with
  | zero =>
    intro s ae hs h1
    have e : s = 64 := by omega
    subst e
    exact br_t (by decide) (h ae h1)
  | succ d ih =>
    intro s ae hs h1
    have hin : vp_in (nI s) 64 := vp_in_nI (by omega) (by decide)
    have hcl : (nI s).toNatClampNeg = s := nI_clamp (by omega)
    refine br_f (nI_ge (a := s) (b := 64) (by omega) (by omega)) (And.intro hin (fun a1 e1 => Exists.intro 8 ?_))
    rw [hcl] at e1
    refine ch_fi38 (by omega) (ae0 := a1) (fun ae' h2 h3 => ih (s + 1) ae' (by omega) (fun j hj => ?_)) 7 0 a1 (by omega) ?_ (fun j _ => rfl)
    · by_cases hjs : j = s
      · rw [hjs]; exact h2
      · rw [h3 j hjs, e1, pk_uLn hjs]
        exact h1 j (by omega)
    · rw [e1, pk_uLs]
      rfl
end
end
section
/-! own rows: the reference's single run -/
def ch_yp (P : ch_P) (f_count : Int32) (a_kinds a_variables a_numbers a_values : Nat → Int32) : Prop :=
  f_count = nI (ch_n P) ∧ ∀ i, i < ch_n P → a_kinds i = nI (ch_K P i) ∧ (ch_K P i ≤ 2 → a_variables i = nI (ch_V P i)) ∧ ((ch_K P i = 1 ∨ ch_K P i = 6) → a_numbers i = nI (ch_S P i)) ∧ ((ch_K P i = 0 ∨ ch_K P i = 3 ∨ ch_K P i = 4) → ∀ s, s < 64 → a_values (64 * i + s) = nI (ch_E P i s))
def ch_YS (P : ch_P) : List (Nat × Nat) → (Nat → Int32) → (Nat → Int32) → Prop
  | [], _, _ => True
  | e :: l, be, le => be l.length = nI e.1 ∧ (ch_K P e.1 = 6 → le l.length = nI e.2) ∧ ch_YS P l be le
theorem ch_YS_u {P : ch_P} {x : Int32} {k : Nat} {be le : Nat → Int32} : ∀ {l : List (Nat × Nat)}, ch_YS P l be le → l.length ≤ k → ch_YS P l (upd be k x) le ∧ ch_YS P l be (upd le k x) := by
  intro l
  induction l with
  | nil => intro _ _; exact ⟨trivial, trivial⟩
  | cons e l ih =>
    intro h hk
    have hk2 : l.length + 1 ≤ k := hk
    have h2 := ih h.2.2 (by omega)
    refine ⟨⟨?_, h.2.1, h2.1⟩, ⟨h.1, ?_, h2.2⟩⟩
    · rw [pk_un (by omega)]
      exact h.1
    · rw [pk_un (by omega)]
      exact h.2.1
theorem ch_YS_a {P : ch_P} {be le : Nat → Int32} {l : List (Nat × Nat)} : ∀ {up : List (Nat × Nat)}, ch_YS P (up ++ l) be le → ch_YS P l be le := by
  intro up
  induction up with
  | nil => exact fun h => h
  | cons u up ih => exact fun h => ih h.2.2
def ch_mr (P : ch_P) (me : Nat → Int32) (m : Nat → Nat) : Prop := ∀ j, j < ch_n P → ch_K P j ≠ 5 → ch_K P j ≠ 8 → me j = nI (m j)
theorem ch_mr_i {P : ch_P} {me : Nat → Int32} {m : Nat → Nat} {i : Nat} (h : ch_mr P me m) : ch_mr P (upd me i (me i + 1)) (ch_inc m i) := by
  intro j hj h5 h8
  by_cases hji : j = i
  · subst hji
    rw [pk_us, h j hj h5 h8, nI_1]
    show nI (m j + 1) = nI (if j = j then m j + 1 else m j)
    rw [if_pos rfl]
  · rw [pk_un hji, h j hj h5 h8]
    show nI (m j) = nI (if j = i then m j + 1 else m j)
    rw [if_neg hji]
theorem ch_mr_e {P : ch_P} {me : Nat → Int32} {m m' : Nat → Nat} {i : Nat} {x : Int32} (h : ch_mr P me m) (hi : ch_K P i = 8) (hm : ∀ j, j < ch_n P → ch_K P j ≠ 8 → m' j = m j) : ch_mr P (upd me i x) m' := by
  intro j hj h5 h8
  by_cases hji : j = i
  · subst hji
    exact absurd hi h8
  · rw [pk_un hji, h j hj h5 h8, hm j hj h8]
theorem ch_kn {x c : Nat} (hx : x ≤ 8) (hc : c ≤ 8) (h : x ≠ c) : ¬ nI x = nI c := fun z => h ((nI_eq (by omega) (by omega)).mp z)
section
variable {f_height f_count f_open f_at f_depth f_state f_steps f_product f_end f_most f_mostRow f_mostSteps : Int32} {a_stack a_kinds a_variables a_numbers a_values a_opened a_begins a_left a_outcomes a_met a_sums : Nat → Int32} {a_visited : Nat → Int64} {P : ch_P} {i : Nat}
theorem ch_yfd80 {post : Int32 → Prop} {J : Int32 → Int32 → Prop} {x2 : Int32} {k i : Nat} (hy : ch_yp P f_count a_kinds a_variables a_numbers a_values) (w : ch_wf P) (hk : k < ch_n P) (hi8 : ch_K P k = 8 → 0 < i)
    (h : J (nI (ch_nx P k i)) (nI (k + 1))) : wY_find_50 post J x2 (nI i) (nI k) f_height f_count f_open f_at f_depth f_state f_steps f_product f_end f_most f_mostRow f_mostSteps a_stack a_kinds a_variables a_numbers a_values a_opened a_begins a_left a_outcomes a_met a_sums a_visited := by
  have hn := w.1
  have hK8 := (w.2 k hk).1.1
  have hin : vp_in (nI k) 24 := vp_in_nI (by omega) (by decide)
  have hcl : (nI k).toNatClampNeg = k := nI_clamp (by omega)
  have hK := (hy.2 k hk).1
  refine And.intro hin ?_
  rw [hcl, hK]
  by_cases h4 : ch_K P k = 4
  · rw [ch_nx_u (Or.inl h4)] at h
    refine br_t (by rw [h4]; rfl) (And.intro hin ?_)
    rw [hcl, hK, h4]
    refine br_f (by decide) (nm_r (nI_1 k) ?_)
    rw [nI_1]
    exact h
  · refine br_f (ch_kn hK8 (c := 4) (by decide) h4) (And.intro hin ?_)
    by_cases h6 : ch_K P k = 6
    · rw [ch_nx_u (Or.inr h6)] at h
      refine br_t (by rw [h6]; rfl) (And.intro hin ?_)
      rw [hcl, hK, h6]
      refine br_f (by decide) (nm_r (nI_1 k) ?_)
      rw [nI_1]
      exact h
    · refine br_f (ch_kn hK8 (c := 6) (by decide) h6) (And.intro hin ?_)
      rw [hcl, hK]
      by_cases h8 : ch_K P k = 8
      · rw [ch_nx_d h8] at h
        obtain ⟨j, rfl⟩ : ∃ j, i = j + 1 := ⟨i - 1, by have := hi8 h8; omega⟩
        refine br_t (by rw [h8]; rfl) (nm_r (nI_pred j) (nm_r (nI_1 k) ?_))
        exact h
      · rw [ch_nx_s h4 h6 h8] at h
        exact br_f (ch_kn hK8 (c := 8) (by decide) h8) (nm_r (nI_1 k) h)
theorem ch_yfd7 {post : Int32 → Prop} {oe : Bool} (hy : ch_yp P f_count a_kinds a_variables a_numbers a_values) (w : ch_wf P) :
    ∀ f i k : Nat, k + f = ch_n P → i ≤ k → post (nI (ch_sc P oe f i k)) → wY_find_7 post (ch_gg oe) f_height f_count f_open f_at f_depth f_state f_steps f_product f_end f_most f_mostRow f_mostSteps a_stack a_kinds a_variables a_numbers a_values a_opened a_begins a_left a_outcomes a_met a_sums a_visited (f + 1) (nI i) (nI k) := by
  have hn := w.1
  intro f
  induction f with
  | zero =>
    intro i k hk hi h
    have e : k = ch_n P := by omega
    subst e
    have h0 : post (nI (ch_n P)) := h
    have hc := hy.1
    subst hc
    exact br_t (nI_le (Nat.le_refl _) (by omega)) h0
  | succ f ih =>
    intro i k hk hi h
    have hkn : k < ch_n P := by omega
    have hin : vp_in (nI k) 24 := vp_in_nI (by omega) (by decide)
    have hcl : (nI k).toNatClampNeg = k := nI_clamp (by omega)
    have hK := (hy.2 k hkn).1
    have hK8 := (w.2 k hkn).1.1
    have hc := hy.1
    have hgo : ¬ (i = 0 ∧ (ch_K P k = 8 ∨ (oe = true ∧ ch_K P k = 5))) → wY_find_50 post (wY_find_7 post (ch_gg oe) f_height f_count f_open f_at f_depth f_state f_steps f_product f_end f_most f_mostRow f_mostSteps a_stack a_kinds a_variables a_numbers a_values a_opened a_begins a_left a_outcomes a_met a_sums a_visited (f + 1)) (ch_gg oe) (nI i) (nI k) f_height f_count f_open f_at f_depth f_state f_steps f_product f_end f_most f_mostRow f_mostSteps a_stack a_kinds a_variables a_numbers a_values a_opened a_begins a_left a_outcomes a_met a_sums a_visited := fun hz => by
      rw [ch_sc_n hz] at h
      refine ch_yfd80 hy w hkn (fun h8 => Nat.pos_of_ne_zero (fun z => hz ⟨z, Or.inl h8⟩)) (ih _ (k + 1) (by omega) ?_ h)
      unfold ch_nx
      split
      · omega
      · split <;> omega
    refine br_f (by rw [hc]; exact nI_ge hkn (by omega)) ?_
    by_cases hi0 : i = 0
    · subst hi0
      refine br_t rfl (And.intro hin ?_)
      rw [hcl, hK]
      by_cases h8 : ch_K P k = 8
      · rw [ch_sc_y (Or.inl h8)] at h
        exact br_t (by rw [h8]; rfl) h
      · refine br_f (ch_kn hK8 (c := 8) (by decide) h8) ?_
        cases oe with
        | false => exact br_t rfl (hgo (fun z => z.2.elim h8 (fun y => absurd y.1 (by decide))))
        | true =>
          refine br_f (by decide) (And.intro hin ?_)
          by_cases h5 : ch_K P k = 5
          · rw [ch_sc_y (Or.inr ⟨rfl, h5⟩)] at h
            exact br_t (by rw [h5]; rfl) h
          · exact br_f (ch_kn hK8 (c := 5) (by decide) h5) (hgo (fun z => z.2.elim h8 (fun y => h5 y.2)))
    · exact br_f (nI_ne0 (by omega) (by omega)) (hgo (fun z => hi0 z.1))
theorem ch_yfind {post : Int32 → Prop} (oe : Bool) {b : Nat} (hy : ch_yp P f_count a_kinds a_variables a_numbers a_values) (w : ch_wf P) (hb : b < ch_n P) (h : post (nI (ch_fd P oe b))) : wpY_find post (f_height, f_count, f_open, f_at, f_depth, f_state, f_steps, f_product, f_end, f_most, f_mostRow, f_mostSteps, a_stack, a_kinds, a_variables, a_numbers, a_values, a_opened, a_begins, a_left, a_outcomes, a_met, a_sums, a_visited) (nI b) (ch_gg oe) := by
  refine nm_r (nI_1 b) (Exists.intro (ch_n P - (b + 1) + 1) ?_)
  exact ch_yfd7 hy w _ 0 (b + 1) (by omega) (Nat.zero_le _) h
theorem ch_ybeh {post : SY → Prop} {k : Nat} (hy : ch_yp P f_count a_kinds a_variables a_numbers a_values) (w : ch_wf P) (hk : k ≤ ch_n P) (h : post (f_height, f_count, f_open, nI (ch_beh P k), f_depth, f_state, f_steps, f_product, f_end, f_most, f_mostRow, f_mostSteps, a_stack, a_kinds, a_variables, a_numbers, a_values, a_opened, a_begins, a_left, a_outcomes, a_met, a_sums, a_visited)) : wpY_goBehind post (f_height, f_count, f_open, f_at, f_depth, f_state, f_steps, f_product, f_end, f_most, f_mostRow, f_mostSteps, a_stack, a_kinds, a_variables, a_numbers, a_values, a_opened, a_begins, a_left, a_outcomes, a_met, a_sums, a_visited) (nI k) := by
  have hn := w.1
  have hc := hy.1
  by_cases hlt : k < ch_n P
  · rw [ch_beh_lt hlt] at h
    exact br_f (by rw [hc]; exact nI_ge hlt (by omega)) (nm_r (nI_1 k) h)
  · rw [ch_beh_ge hlt] at h
    refine br_t (by rw [hc]; exact nI_le (by omega) (by omega)) ?_
    rw [← hc] at h
    exact h
theorem ch_yent {post : SY → Prop} {d b r : Nat} (hd : d < 4) (h : post (f_height, f_count, f_open, f_at, nI (d + 1), f_state, f_steps, f_product, f_end, f_most, f_mostRow, f_mostSteps, a_stack, a_kinds, a_variables, a_numbers, a_values, a_opened, upd a_begins d (nI b), upd a_left d (nI r), a_outcomes, a_met, a_sums, a_visited)) : wpY_enter post (f_height, f_count, f_open, f_at, nI d, f_state, f_steps, f_product, f_end, f_most, f_mostRow, f_mostSteps, a_stack, a_kinds, a_variables, a_numbers, a_values, a_opened, a_begins, a_left, a_outcomes, a_met, a_sums, a_visited) (nI b) (nI r) := by
  have hin : vp_in (nI d) 4 := vp_in_nI hd (by decide)
  have hcl : (nI d).toNatClampNeg = d := nI_clamp (by omega)
  refine And.intro hin (fun a1 e1 => And.intro hin (fun a2 e2 => nm_r (nI_1 d) ?_))
  rw [hcl] at e1 e2
  rw [e1, e2]
  exact h
theorem ch_ygive {post : SY → Prop} {s v x : Nat} (hs : s < 64) (hv : v < 3) (hx : x < 4) (h : post (f_height, f_count, f_open, f_at, f_depth, nI (ch_chg s v x), f_steps, f_product, f_end, f_most, f_mostRow, f_mostSteps, a_stack, a_kinds, a_variables, a_numbers, a_values, a_opened, a_begins, a_left, a_outcomes, a_met, a_sums, a_visited)) : wpY_give post (f_height, f_count, f_open, f_at, f_depth, nI s, f_steps, f_product, f_end, f_most, f_mostRow, f_mostSteps, a_stack, a_kinds, a_variables, a_numbers, a_values, a_opened, a_begins, a_left, a_outcomes, a_met, a_sums, a_visited) (nI v) (nI x) :=
  nm_r (ch_chg_e s hs v hv x hx) h
theorem ch_yeb {post : SY → Prop} {e : Nat × Nat} {l : List (Nat × Nat)} (hy : ch_yp P f_count a_kinds a_variables a_numbers a_values) (w : ch_wf P) (hg : ch_gd P (e :: l)) (hS : ch_YS P (e :: l) a_begins a_left)
    (h : ∀ le : Nat → Int32, ch_YS P (ch_eb P i (e :: l)).2 a_begins le → post (f_height, f_count, f_open, (if ch_K P e.1 = 6 ∧ 1 < e.2 then nI (e.1 + 1) else f_at), nI (ch_eb P i (e :: l)).2.length, f_state, f_steps, f_product, f_end, f_most, f_mostRow, f_mostSteps, a_stack, a_kinds, a_variables, a_numbers, a_values, a_opened, a_begins, le, a_outcomes, a_met, a_sums, a_visited)) : wpY_endBlock post (f_height, f_count, f_open, f_at, nI (l.length + 1), f_state, f_steps, f_product, f_end, f_most, f_mostRow, f_mostSteps, a_stack, a_kinds, a_variables, a_numbers, a_values, a_opened, a_begins, a_left, a_outcomes, a_met, a_sums, a_visited) := by
  have hn := w.1
  have hl3 : l.length + 1 ≤ 3 := hg.1
  have he := hg.2 e List.mem_cons_self
  have hin : vp_in (nI l.length) 4 := vp_in_nI (by omega) (by decide)
  have hcl : (nI l.length).toNatClampNeg = l.length := nI_clamp (by omega)
  have hin2 : vp_in (nI e.1) 24 := vp_in_nI (by omega) (by decide)
  have hcl2 : (nI e.1).toNatClampNeg = e.1 := nI_clamp (by omega)
  have hK := (hy.2 e.1 he.1).1
  have hb : a_begins l.length = nI e.1 := hS.1
  refine nm_r (nI_pred l.length) (And.intro hin ?_)
  rw [hcl, hb, hcl2, hK]
  refine And.intro hin2 ?_
  by_cases h6 : ch_K P e.1 = 6
  · have hr := he.2.2 h6
    have hle : a_left l.length = nI e.2 := hS.2.1 h6
    rw [h6, hle]
    refine br_t rfl (And.intro hin ?_)
    by_cases h1 : 1 < e.2
    · rw [if_pos ⟨h6, h1⟩, ch_eb_l ⟨h6, h1⟩] at h
      refine br_f (nI_ge (a := 1) (b := e.2) h1 (by omega)) (And.intro hin (And.intro hin (fun le' el => And.intro hin (nm_r (nI_1 _) (nm_r (nI_1 _) ?_)))))
      rw [show (1 : Int32) = nI 1 from rfl, pk_sub hr.1] at el
      refine h le' ?_
      rw [el]
      exact ⟨hS.1, fun _ => pk_us, (ch_YS_u hS.2.2 (Nat.le_refl _)).2⟩
    · have hne : ¬ (ch_K P e.1 = 6 ∧ 1 < e.2) := fun z => h1 z.2
      rw [if_neg hne, ch_eb_x hne] at h
      exact br_t (nI_le (a := e.2) (b := 1) (by omega) (by decide)) (h a_left hS.2.2)
  · have hne : ¬ (ch_K P e.1 = 6 ∧ 1 < e.2) := fun z => h6 z.1
    rw [if_neg hne, ch_eb_x hne] at h
    have h4 : ch_K P e.1 = 4 := by
      rcases he.2.1 with z | z
      · exact z
      · exact absurd z h6
    rw [h4]
    exact br_f (by decide) (h a_left hS.2.2)
theorem ch_ybr2 {post : SY → Prop} (hy : ch_yp P f_count a_kinds a_variables a_numbers a_values) (w : ch_wf P) {e : Nat × Nat} {low : List (Nat × Nat)} (h6 : ch_K P e.1 = 6) (hS : ch_YS P (e :: low) a_begins a_left)
    (h : post (f_height, f_count, f_open, nI (ch_beh P (ch_fd P false e.1)), nI low.length, f_state, f_steps, f_product, f_end, f_most, f_mostRow, f_mostSteps, a_stack, a_kinds, a_variables, a_numbers, a_values, a_opened, a_begins, a_left, a_outcomes, a_met, a_sums, a_visited)) :
    ∀ up : List (Nat × Nat), ch_gd P (up ++ e :: low) → ch_YS P (up ++ e :: low) a_begins a_left → (∀ u, u ∈ up → ch_K P u.1 ≠ 6) → wY_breakOff_2 post f_height f_count f_open f_at f_state f_steps f_product f_end f_most f_mostRow f_mostSteps a_stack a_kinds a_variables a_numbers a_values a_opened a_begins a_left a_outcomes a_met a_sums a_visited (up.length + 2) 1 (nI (up ++ e :: low).length) := by
  have hn := w.1
  intro up
  induction up with
  | nil =>
    intro hg _ _
    have hl3 : low.length + 1 ≤ 3 := hg.1
    have he := hg.2 e List.mem_cons_self
    have hin : vp_in (nI low.length) 4 := vp_in_nI (by omega) (by decide)
    have hcl : (nI low.length).toNatClampNeg = low.length := nI_clamp (by omega)
    have hin2 : vp_in (nI e.1) 24 := vp_in_nI (by omega) (by decide)
    have hcl2 : (nI e.1).toNatClampNeg = e.1 := nI_clamp (by omega)
    have hb : a_begins low.length = nI e.1 := hS.1
    have hK := (hy.2 e.1 he.1).1
    show wY_breakOff_2 post f_height f_count f_open f_at f_state f_steps f_product f_end f_most f_mostRow f_mostSteps a_stack a_kinds a_variables a_numbers a_values a_opened a_begins a_left a_outcomes a_met a_sums a_visited 2 1 (nI (low.length + 1))
    have hfin : wY_breakOff_51 post f_height f_count f_open f_at (nI low.length) f_state f_steps f_product f_end f_most f_mostRow f_mostSteps a_stack a_kinds a_variables a_numbers a_values a_opened a_begins a_left a_outcomes a_met a_sums a_visited := by
      refine And.intro hin ?_
      rw [hcl, hb]
      exact ch_yfind false hy w he.1 (ch_ybeh hy w (ch_fd_le he.1) h)
    refine br_f (nI_nle (Nat.succ_pos _) (by omega)) (br_f (by decide) (nm_r (nI_pred low.length) (And.intro hin ?_)))
    rw [hcl, hb, hcl2, hK, h6]
    refine And.intro hin2 (br_t rfl ?_)
    exact br_c (fun _ => hfin) (fun _ => br_t rfl hfin)
  | cons u up ih =>
    intro hg hS2 hu
    have hlen : (u :: up ++ e :: low).length = (up ++ e :: low).length + 1 := rfl
    have hg1 : (u :: up ++ e :: low).length ≤ 3 := hg.1
    have he := hg.2 u List.mem_cons_self
    rw [hlen]
    have hin : vp_in (nI (up ++ e :: low).length) 4 := vp_in_nI (by omega) (by decide)
    have hcl : (nI (up ++ e :: low).length).toNatClampNeg = (up ++ e :: low).length := nI_clamp (by omega)
    have hin2 : vp_in (nI u.1) 24 := vp_in_nI (by omega) (by decide)
    have hcl2 : (nI u.1).toNatClampNeg = u.1 := nI_clamp (by omega)
    have hb : a_begins (up ++ e :: low).length = nI u.1 := hS2.1
    have hK := (hy.2 u.1 he.1).1
    have hku := hu u List.mem_cons_self
    have hk2 := he.2.1
    refine br_f (nI_nle (Nat.succ_pos _) (by omega)) (br_f (by decide) (nm_r (nI_pred _) (And.intro hin ?_)))
    rw [hcl, hb, hcl2, hK, show ch_K P u.1 = 4 by omega]
    refine And.intro hin2 (br_f (by decide) ?_)
    exact ih (ch_gd_t hg) hS2.2.2 (fun v hv => hu v (List.mem_cons_of_mem u hv))
theorem ch_yrnd {post : SY → Prop} {k o : Nat} (hy : ch_yp P f_count a_kinds a_variables a_numbers a_values) (w : ch_wf P) (hi : i < ch_n P) (hr : ch_K P i = 1 ∨ ch_K P i = 2) (hk : k < 6) (ho : a_outcomes k = nI o) (ho4 : o < 4)
    (h : wY_random_70 post (nI i) (nI o) (nI (ch_sh P i o)) f_height f_count f_open f_at f_depth f_state (nI k) f_product f_end f_most f_mostRow f_mostSteps a_stack a_kinds a_variables a_numbers a_values a_opened a_begins a_left a_outcomes a_met a_sums a_visited) : wpY_random post (f_height, f_count, f_open, f_at, f_depth, f_state, nI k, f_product, f_end, f_most, f_mostRow, f_mostSteps, a_stack, a_kinds, a_variables, a_numbers, a_values, a_opened, a_begins, a_left, a_outcomes, a_met, a_sums, a_visited) (nI i) := by
  have hn := w.1
  have hin : vp_in (nI i) 24 := vp_in_nI (by omega) (by decide)
  have hcl : (nI i).toNatClampNeg = i := nI_clamp (by omega)
  have hin6 : vp_in (nI k) 6 := vp_in_nI hk (by decide)
  have hcl6 : (nI k).toNatClampNeg = k := nI_clamp (by omega)
  have hyi := hy.2 i hi
  refine br_f (fun z => absurd ((nI_eq (a := k) (b := 6) (by omega) (by decide)).mp z) (by omega)) (And.intro hin6 (nm_r (e' := nI o) (by rw [hcl6]; exact ho) (And.intro hin ?_)))
  rw [hcl, hyi.1]
  by_cases h2 : ch_K P i = 2
  · have e : ch_sh P i o = 4 := if_pos h2
    rw [e] at h
    rw [h2]
    exact br_f (by decide) h
  · have h1 : ch_K P i = 1 := by omega
    have hS := hyi.2.2.1 (Or.inl h1)
    have hle := (w.2 i hi).1.2.2.1 h1
    have e : ch_sh P i o = if o = 1 then ch_S P i else if o = 0 then 16 - ch_S P i else 0 := if_neg h2
    rw [e] at h
    rw [h1, hS]
    refine br_t rfl ?_
    have ho5 : o = 0 ∨ o = 1 ∨ o = 2 ∨ o = 3 := by omega
    rcases ho5 with rfl | rfl | rfl | rfl
    · refine br_f (by decide) (br_t rfl (And.intro hin ?_))
      rw [show (16 : Int32) = nI 16 from rfl, pk_sub hle]
      exact h
    · exact br_t rfl (And.intro hin h)
    · exact br_f (by decide) (br_f (by decide) h)
    · exact br_f (by decide) (br_f (by decide) h)
end
end
section
/-! own rows: the reference's run follows the rules -/
def ch_code (e : Nat) : Int32 := if e = 2 then -2 else if e = 3 then -3 else -4
def ch_G (P : ch_P) (post : SY → Prop) (f_height f_count f_open f_most f_mostRow f_mostSteps : Int32) (a_stack a_kinds a_variables a_numbers a_values a_opened a_outcomes a_sums : Nat → Int32) (a_visited : Nat → Int64) (t i : Nat) (st : List (Nat × Nat)) (s k w : Nat) (m : Nat → Nat) : Prop :=
  ∀ (n x : Nat) (be le me : Nat → Int32), t < n → x + t ≤ 4000 → ch_YS P st be le → ch_mr P me m → wY_run_53 post n (nI x) f_height f_count f_open (nI i) (nI st.length) (nI s) (nI k) (nI w) 1 f_most f_mostRow f_mostSteps a_stack a_kinds a_variables a_numbers a_values a_opened be le a_outcomes me a_sums a_visited
def ch_D (post : SY → Prop) (f_height f_count f_open f_most f_mostRow f_mostSteps : Int32) (a_stack a_kinds a_variables a_numbers a_values a_opened a_outcomes a_sums : Nat → Int32) (a_visited : Nat → Int64) (e : Nat) : Prop := ∀ (f_at f_depth f_state f_steps f_product : Int32) (a_begins a_left a_met : Nat → Int32), post (f_height, f_count, f_open, f_at, f_depth, f_state, f_steps, f_product, ch_code e, f_most, f_mostRow, f_mostSteps, a_stack, a_kinds, a_variables, a_numbers, a_values, a_opened, a_begins, a_left, a_outcomes, a_met, a_sums, a_visited)
def ch_F (P : ch_P) (post : SY → Prop) (f_height f_count f_open f_most f_mostRow f_mostSteps : Int32) (a_stack a_kinds a_variables a_numbers a_values a_opened a_outcomes a_sums : Nat → Int32) (a_visited : Nat → Int64) (q : ch_Q) : Prop := ∀ (be le me : Nat → Int32), ch_mr P me q.2.2.2.2 → post (f_height, f_count, f_open, nI (ch_n P), nI 0, nI q.2.2.1, nI q.2.1, nI q.2.2.2.1, 0, f_most, f_mostRow, f_mostSteps, a_stack, a_kinds, a_variables, a_numbers, a_values, a_opened, be, le, a_outcomes, me, a_sums, a_visited)
section
variable {f_height f_count f_open f_at f_depth f_state f_steps f_product f_end f_most f_mostRow f_mostSteps : Int32} {a_stack a_kinds a_variables a_numbers a_values a_opened a_begins a_left a_outcomes a_met a_sums : Nat → Int32} {a_visited : Nat → Int64} {P : ch_P} {post : SY → Prop} {o : Nat → Nat}
theorem ch_y0 (hy : ch_yp P f_count a_kinds a_variables a_numbers a_values) (w : ch_wf P) : ch_r0 P (ch_G P post f_height f_count f_open f_most f_mostRow f_mostSteps a_stack a_kinds a_variables a_numbers a_values a_opened a_outcomes a_sums a_visited) := by
  intro t i st s k w' m hi hg hs hk h0 hgo n x be le me hn hx hS hm
  obtain ⟨n', rfl⟩ : ∃ n', n = n' + 1 := ⟨n - 1, by omega⟩
  have hn24 := w.1
  have hyi := hy.2 i hi
  have hin : vp_in (nI i) 24 := vp_in_nI (by omega) (by decide)
  have hcl : (nI i).toNatClampNeg = i := nI_clamp (by omega)
  have hin2 : vp_in (64 * nI i + nI s) 1536 := by rw [ch_64]; exact vp_in_nI (by omega) (by decide)
  have hkd : ∀ c, ch_K P i = c → a_kinds (nI i).toNatClampNeg = nI c := fun c hc => by rw [hcl, hyi.1, hc]
  have hcnt : ¬ f_count ≤ nI i := by rw [hy.1]; exact nI_ge hi (by omega)
  refine br_f (nI_ge (a := x) (b := 4000) (by omega) (by decide)) (br_t rfl (br_f hcnt (And.intro hin (nm_r (hkd _ h0) (And.intro hin2 (fun x3 e3 => nm_r (nI_1 i) (And.intro hin (And.intro hin (fun me' em => ?_)))))))))
  rw [hcl] at em
  have hm' := ch_mr_i (i := i) hm
  rw [← em] at hm'
  rw [ch_64, nI_clamp (by omega)] at e3
  have hx3 := hyi.2.2.2 (Or.inl h0) s hs
  have hw := (w.2 i hi).1
  rw [hx3] at e3
  rw [e3]
  refine br_t rfl (And.intro hin ?_)
  rw [hcl, hyi.2.1 (by omega)]
  exact ch_ygive hs (by have := hw.2.1 (by omega); omega) (by have := hw.2.2.2.2 s; omega) (nm_r (nI_1 x) (hgo n' (x + 1) _ _ _ (by omega) (by omega) hS hm'))
theorem ch_y1 (hy : ch_yp P f_count a_kinds a_variables a_numbers a_values) (w : ch_wf P) (ho : ∀ j, j < 6 → a_outcomes j = nI (o j)) (ho4 : ∀ j, o j < 4) : ch_r1 P o (ch_G P post f_height f_count f_open f_most f_mostRow f_mostSteps a_stack a_kinds a_variables a_numbers a_values a_opened a_outcomes a_sums a_visited) := by
  intro t i st s k w' m hi hg hs hr hk hsh hgo n x be le me hn hx hS hm
  have hv3 : ch_V P i < 3 := by have := (w.2 i hi).1.2.1 (by omega); omega
  have hle := ch_sh_le (o := o k) (w.2 i hi).1 hr
  rcases hr with h1 | h1
  · obtain ⟨n', rfl⟩ : ∃ n', n = n' + 1 := ⟨n - 1, by omega⟩
    have hn24 := w.1
    have hyi := hy.2 i hi
    have hin : vp_in (nI i) 24 := vp_in_nI (by omega) (by decide)
    have hcl : (nI i).toNatClampNeg = i := nI_clamp (by omega)
    have hin2 : vp_in (64 * nI i + nI s) 1536 := by rw [ch_64]; exact vp_in_nI (by omega) (by decide)
    have hkd : ∀ c, ch_K P i = c → a_kinds (nI i).toNatClampNeg = nI c := fun c hc => by rw [hcl, hyi.1, hc]
    have hcnt : ¬ f_count ≤ nI i := by rw [hy.1]; exact nI_ge hi (by omega)
    refine br_f (nI_ge (a := x) (b := 4000) (by omega) (by decide)) (br_t rfl (br_f hcnt (And.intro hin (nm_r (hkd _ h1) (And.intro hin2 (fun x3 e3 => nm_r (nI_1 i) (And.intro hin (And.intro hin (fun me' em => ?_)))))))))
    rw [hcl] at em
    have hm' := ch_mr_i (i := i) hm
    rw [← em] at hm'
    rw [ch_64, nI_clamp (by omega)] at e3
    refine br_f (by decide) (br_t rfl (ch_yrnd hy w hi (Or.inl h1) hk (ho k hk) (ho4 k) (br_f (nI_ne0 (by omega) (by omega)) (nm_r (nI_1 k) (nm_r (pk_mul w' _) (And.intro hin ?_))))))
    rw [hcl, hyi.2.1 (by omega)]
    exact ch_ygive hs hv3 (ho4 k) (nm_r (nI_1 x) (hgo n' (x + 1) _ _ _ (by omega) (by omega) hS hm'))
  · obtain ⟨n', rfl⟩ : ∃ n', n = n' + 1 := ⟨n - 1, by omega⟩
    have hn24 := w.1
    have hyi := hy.2 i hi
    have hin : vp_in (nI i) 24 := vp_in_nI (by omega) (by decide)
    have hcl : (nI i).toNatClampNeg = i := nI_clamp (by omega)
    have hin2 : vp_in (64 * nI i + nI s) 1536 := by rw [ch_64]; exact vp_in_nI (by omega) (by decide)
    have hkd : ∀ c, ch_K P i = c → a_kinds (nI i).toNatClampNeg = nI c := fun c hc => by rw [hcl, hyi.1, hc]
    have hcnt : ¬ f_count ≤ nI i := by rw [hy.1]; exact nI_ge hi (by omega)
    refine br_f (nI_ge (a := x) (b := 4000) (by omega) (by decide)) (br_t rfl (br_f hcnt (And.intro hin (nm_r (hkd _ h1) (And.intro hin2 (fun x3 e3 => nm_r (nI_1 i) (And.intro hin (And.intro hin (fun me' em => ?_)))))))))
    rw [hcl] at em
    have hm' := ch_mr_i (i := i) hm
    rw [← em] at hm'
    rw [ch_64, nI_clamp (by omega)] at e3
    refine br_f (by decide) (br_f (by decide) (br_t rfl (ch_yrnd hy w hi (Or.inr h1) hk (ho k hk) (ho4 k) (br_f (nI_ne0 (by omega) (by omega)) (nm_r (nI_1 k) (nm_r (pk_mul w' _) (And.intro hin ?_)))))))
    rw [hcl, hyi.2.1 (by omega)]
    exact ch_ygive hs hv3 (ho4 k) (nm_r (nI_1 x) (hgo n' (x + 1) _ _ _ (by omega) (by omega) hS hm'))
theorem ch_y16 (hy : ch_yp P f_count a_kinds a_variables a_numbers a_values) (w : ch_wf P) : ch_r16 P (ch_D post f_height f_count f_open f_most f_mostRow f_mostSteps a_stack a_kinds a_variables a_numbers a_values a_opened a_outcomes a_sums a_visited) (ch_G P post f_height f_count f_open f_most f_mostRow f_mostSteps a_stack a_kinds a_variables a_numbers a_values a_opened a_outcomes a_sums a_visited) := by
  intro t i st s k w' m hi hg hs hr hk hD n x be le me hn hx hS hm
  subst hk
  rcases hr with h1 | h1
  · obtain ⟨n', rfl⟩ : ∃ n', n = n' + 1 := ⟨n - 1, by omega⟩
    have hn24 := w.1
    have hyi := hy.2 i hi
    have hin : vp_in (nI i) 24 := vp_in_nI (by omega) (by decide)
    have hcl : (nI i).toNatClampNeg = i := nI_clamp (by omega)
    have hin2 : vp_in (64 * nI i + nI s) 1536 := by rw [ch_64]; exact vp_in_nI (by omega) (by decide)
    have hkd : ∀ c, ch_K P i = c → a_kinds (nI i).toNatClampNeg = nI c := fun c hc => by rw [hcl, hyi.1, hc]
    have hcnt : ¬ f_count ≤ nI i := by rw [hy.1]; exact nI_ge hi (by omega)
    refine br_f (nI_ge (a := x) (b := 4000) (by omega) (by decide)) (br_t rfl (br_f hcnt (And.intro hin (nm_r (hkd _ h1) (And.intro hin2 (fun x3 e3 => nm_r (nI_1 i) (And.intro hin (And.intro hin (fun me' em => ?_)))))))))
    rw [hcl] at em
    have hm' := ch_mr_i (i := i) hm
    rw [← em] at hm'
    rw [ch_64, nI_clamp (by omega)] at e3
    obtain ⟨n'', rfl⟩ : ∃ n'', n' = n'' + 1 := ⟨n' - 1, by omega⟩
    refine br_f (by decide) (br_t rfl (br_t rfl (nm_r (nI_1 x) ?_)))
    exact br_c (fun _ => hD _ _ _ _ _ _ _ _) (fun _ => br_f (by decide) (hD _ _ _ _ _ _ _ _))
  · obtain ⟨n', rfl⟩ : ∃ n', n = n' + 1 := ⟨n - 1, by omega⟩
    have hn24 := w.1
    have hyi := hy.2 i hi
    have hin : vp_in (nI i) 24 := vp_in_nI (by omega) (by decide)
    have hcl : (nI i).toNatClampNeg = i := nI_clamp (by omega)
    have hin2 : vp_in (64 * nI i + nI s) 1536 := by rw [ch_64]; exact vp_in_nI (by omega) (by decide)
    have hkd : ∀ c, ch_K P i = c → a_kinds (nI i).toNatClampNeg = nI c := fun c hc => by rw [hcl, hyi.1, hc]
    have hcnt : ¬ f_count ≤ nI i := by rw [hy.1]; exact nI_ge hi (by omega)
    refine br_f (nI_ge (a := x) (b := 4000) (by omega) (by decide)) (br_t rfl (br_f hcnt (And.intro hin (nm_r (hkd _ h1) (And.intro hin2 (fun x3 e3 => nm_r (nI_1 i) (And.intro hin (And.intro hin (fun me' em => ?_)))))))))
    rw [hcl] at em
    have hm' := ch_mr_i (i := i) hm
    rw [← em] at hm'
    rw [ch_64, nI_clamp (by omega)] at e3
    obtain ⟨n'', rfl⟩ : ∃ n'', n' = n'' + 1 := ⟨n' - 1, by omega⟩
    refine br_f (by decide) (br_f (by decide) (br_t rfl (br_t rfl (nm_r (nI_1 x) ?_))))
    exact br_c (fun _ => hD _ _ _ _ _ _ _ _) (fun _ => br_f (by decide) (hD _ _ _ _ _ _ _ _))
theorem ch_y10 (hy : ch_yp P f_count a_kinds a_variables a_numbers a_values) (w : ch_wf P) (ho : ∀ j, j < 6 → a_outcomes j = nI (o j)) (ho4 : ∀ j, o j < 4) : ch_r10 P o (ch_D post f_height f_count f_open f_most f_mostRow f_mostSteps a_stack a_kinds a_variables a_numbers a_values a_opened a_outcomes a_sums a_visited) (ch_G P post f_height f_count f_open f_most f_mostRow f_mostSteps a_stack a_kinds a_variables a_numbers a_values a_opened a_outcomes a_sums a_visited) := by
  intro t i st s k w' m hi hg hs hr hk hz hD n x be le me hn hx hS hm
  rcases hr with h1 | h1
  · obtain ⟨n', rfl⟩ : ∃ n', n = n' + 1 := ⟨n - 1, by omega⟩
    have hn24 := w.1
    have hyi := hy.2 i hi
    have hin : vp_in (nI i) 24 := vp_in_nI (by omega) (by decide)
    have hcl : (nI i).toNatClampNeg = i := nI_clamp (by omega)
    have hin2 : vp_in (64 * nI i + nI s) 1536 := by rw [ch_64]; exact vp_in_nI (by omega) (by decide)
    have hkd : ∀ c, ch_K P i = c → a_kinds (nI i).toNatClampNeg = nI c := fun c hc => by rw [hcl, hyi.1, hc]
    have hcnt : ¬ f_count ≤ nI i := by rw [hy.1]; exact nI_ge hi (by omega)
    refine br_f (nI_ge (a := x) (b := 4000) (by omega) (by decide)) (br_t rfl (br_f hcnt (And.intro hin (nm_r (hkd _ h1) (And.intro hin2 (fun x3 e3 => nm_r (nI_1 i) (And.intro hin (And.intro hin (fun me' em => ?_)))))))))
    rw [hcl] at em
    have hm' := ch_mr_i (i := i) hm
    rw [← em] at hm'
    rw [ch_64, nI_clamp (by omega)] at e3
    obtain ⟨n'', rfl⟩ : ∃ n'', n' = n'' + 1 := ⟨n' - 1, by omega⟩
    refine br_f (by decide) (br_t rfl (ch_yrnd hy w hi (Or.inl h1) hk (ho k hk) (ho4 k) (br_t (by rw [hz]; rfl) (nm_r (nI_1 x) ?_))))
    exact br_c (fun _ => hD _ _ _ _ _ _ _ _) (fun _ => br_f (by decide) (hD _ _ _ _ _ _ _ _))
  · obtain ⟨n', rfl⟩ : ∃ n', n = n' + 1 := ⟨n - 1, by omega⟩
    have hn24 := w.1
    have hyi := hy.2 i hi
    have hin : vp_in (nI i) 24 := vp_in_nI (by omega) (by decide)
    have hcl : (nI i).toNatClampNeg = i := nI_clamp (by omega)
    have hin2 : vp_in (64 * nI i + nI s) 1536 := by rw [ch_64]; exact vp_in_nI (by omega) (by decide)
    have hkd : ∀ c, ch_K P i = c → a_kinds (nI i).toNatClampNeg = nI c := fun c hc => by rw [hcl, hyi.1, hc]
    have hcnt : ¬ f_count ≤ nI i := by rw [hy.1]; exact nI_ge hi (by omega)
    refine br_f (nI_ge (a := x) (b := 4000) (by omega) (by decide)) (br_t rfl (br_f hcnt (And.intro hin (nm_r (hkd _ h1) (And.intro hin2 (fun x3 e3 => nm_r (nI_1 i) (And.intro hin (And.intro hin (fun me' em => ?_)))))))))
    rw [hcl] at em
    have hm' := ch_mr_i (i := i) hm
    rw [← em] at hm'
    rw [ch_64, nI_clamp (by omega)] at e3
    obtain ⟨n'', rfl⟩ : ∃ n'', n' = n'' + 1 := ⟨n' - 1, by omega⟩
    refine br_f (by decide) (br_f (by decide) (br_t rfl (ch_yrnd hy w hi (Or.inr h1) hk (ho k hk) (ho4 k) (br_t (by rw [hz]; rfl) (nm_r (nI_1 x) ?_)))))
    exact br_c (fun _ => hD _ _ _ _ _ _ _ _) (fun _ => br_f (by decide) (hD _ _ _ _ _ _ _ _))
theorem ch_y30 (hy : ch_yp P f_count a_kinds a_variables a_numbers a_values) (w : ch_wf P) : ch_r30 P (ch_D post f_height f_count f_open f_most f_mostRow f_mostSteps a_stack a_kinds a_variables a_numbers a_values a_opened a_outcomes a_sums a_visited) (ch_G P post f_height f_count f_open f_most f_mostRow f_mostSteps a_stack a_kinds a_variables a_numbers a_values a_opened a_outcomes a_sums a_visited) := by
  intro t i st s k w' m hi hg hs hk h3 hE hD n x be le me hn hx hS hm
  obtain ⟨n', rfl⟩ : ∃ n', n = n' + 1 := ⟨n - 1, by omega⟩
  have hn24 := w.1
  have hyi := hy.2 i hi
  have hin : vp_in (nI i) 24 := vp_in_nI (by omega) (by decide)
  have hcl : (nI i).toNatClampNeg = i := nI_clamp (by omega)
  have hin2 : vp_in (64 * nI i + nI s) 1536 := by rw [ch_64]; exact vp_in_nI (by omega) (by decide)
  have hkd : ∀ c, ch_K P i = c → a_kinds (nI i).toNatClampNeg = nI c := fun c hc => by rw [hcl, hyi.1, hc]
  have hcnt : ¬ f_count ≤ nI i := by rw [hy.1]; exact nI_ge hi (by omega)
  refine br_f (nI_ge (a := x) (b := 4000) (by omega) (by decide)) (br_t rfl (br_f hcnt (And.intro hin (nm_r (hkd _ h3) (And.intro hin2 (fun x3 e3 => nm_r (nI_1 i) (And.intro hin (And.intro hin (fun me' em => ?_)))))))))
  rw [hcl] at em
  have hm' := ch_mr_i (i := i) hm
  rw [← em] at hm'
  rw [ch_64, nI_clamp (by omega)] at e3
  obtain ⟨n'', rfl⟩ : ∃ n'', n' = n'' + 1 := ⟨n' - 1, by omega⟩
  have hx3 := hyi.2.2.2 (Or.inr (Or.inl h3)) s hs
  rw [hx3, hE] at e3
  rw [e3]
  refine br_f (by decide) (br_f (by decide) (br_f (by decide) (br_t rfl (br_t rfl (nm_r (nI_1 x) ?_)))))
  exact br_c (fun _ => hD _ _ _ _ _ _ _ _) (fun _ => br_f (by decide) (hD _ _ _ _ _ _ _ _))
theorem ch_y31 (hy : ch_yp P f_count a_kinds a_variables a_numbers a_values) (w : ch_wf P) : ch_r31 P (ch_G P post f_height f_count f_open f_most f_mostRow f_mostSteps a_stack a_kinds a_variables a_numbers a_values a_opened a_outcomes a_sums a_visited) := by
  intro t i st s k w' m hi hg hs hk h3 hE hgo n x be le me hn hx hS hm
  obtain ⟨n', rfl⟩ : ∃ n', n = n' + 1 := ⟨n - 1, by omega⟩
  have hn24 := w.1
  have hyi := hy.2 i hi
  have hin : vp_in (nI i) 24 := vp_in_nI (by omega) (by decide)
  have hcl : (nI i).toNatClampNeg = i := nI_clamp (by omega)
  have hin2 : vp_in (64 * nI i + nI s) 1536 := by rw [ch_64]; exact vp_in_nI (by omega) (by decide)
  have hkd : ∀ c, ch_K P i = c → a_kinds (nI i).toNatClampNeg = nI c := fun c hc => by rw [hcl, hyi.1, hc]
  have hcnt : ¬ f_count ≤ nI i := by rw [hy.1]; exact nI_ge hi (by omega)
  refine br_f (nI_ge (a := x) (b := 4000) (by omega) (by decide)) (br_t rfl (br_f hcnt (And.intro hin (nm_r (hkd _ h3) (And.intro hin2 (fun x3 e3 => nm_r (nI_1 i) (And.intro hin (And.intro hin (fun me' em => ?_)))))))))
  rw [hcl] at em
  have hm' := ch_mr_i (i := i) hm
  rw [← em] at hm'
  rw [ch_64, nI_clamp (by omega)] at e3
  have hx3 := hyi.2.2.2 (Or.inr (Or.inl h3)) s hs
  have hE3 := (w.2 i hi).1.2.2.2.2 s
  rw [hx3] at e3
  rw [e3]
  exact br_f (by decide) (br_f (by decide) (br_f (by decide) (br_t rfl (br_f (nI_ne0 (by omega) (by omega)) (nm_r (nI_1 x) (hgo n' (x + 1) _ _ _ (by omega) (by omega) hS hm'))))))
theorem ch_y41 (hy : ch_yp P f_count a_kinds a_variables a_numbers a_values) (w : ch_wf P) : ch_r41 P (ch_G P post f_height f_count f_open f_most f_mostRow f_mostSteps a_stack a_kinds a_variables a_numbers a_values a_opened a_outcomes a_sums a_visited) := by
  intro t i st s k w' m hi hg hl hs hk h4 hE hgo n x be le me hn hx hS hm
  obtain ⟨n', rfl⟩ : ∃ n', n = n' + 1 := ⟨n - 1, by omega⟩
  have hn24 := w.1
  have hyi := hy.2 i hi
  have hin : vp_in (nI i) 24 := vp_in_nI (by omega) (by decide)
  have hcl : (nI i).toNatClampNeg = i := nI_clamp (by omega)
  have hin2 : vp_in (64 * nI i + nI s) 1536 := by rw [ch_64]; exact vp_in_nI (by omega) (by decide)
  have hkd : ∀ c, ch_K P i = c → a_kinds (nI i).toNatClampNeg = nI c := fun c hc => by rw [hcl, hyi.1, hc]
  have hcnt : ¬ f_count ≤ nI i := by rw [hy.1]; exact nI_ge hi (by omega)
  refine br_f (nI_ge (a := x) (b := 4000) (by omega) (by decide)) (br_t rfl (br_f hcnt (And.intro hin (nm_r (hkd _ h4) (And.intro hin2 (fun x3 e3 => nm_r (nI_1 i) (And.intro hin (And.intro hin (fun me' em => ?_)))))))))
  rw [hcl] at em
  have hm' := ch_mr_i (i := i) hm
  rw [← em] at hm'
  rw [ch_64, nI_clamp (by omega)] at e3
  have hx3 := hyi.2.2.2 (Or.inr (Or.inr h4)) s hs
  have hE3 := (w.2 i hi).1.2.2.2.2 s
  rw [hx3] at e3
  rw [e3]
  have h1 := (ch_YS_u (x := nI i) hS (Nat.le_refl _)).1
  have h2 := (ch_YS_u (x := nI 1) h1 (Nat.le_refl _)).2
  exact br_f (by decide) (br_f (by decide) (br_f (by decide) (br_f (by decide) (br_t rfl (br_f (nI_ne0 (by omega) (by omega)) (ch_yent (r := 1) (by omega) (nm_r (nI_1 x) (hgo n' (x + 1) _ _ _ (by omega) (by omega) ⟨pk_us, fun z => absurd (show ch_K P i = 6 from z) (by omega), h2⟩ hm'))))))))
theorem ch_y4e (hy : ch_yp P f_count a_kinds a_variables a_numbers a_values) (w : ch_wf P) : ch_r4e P (ch_G P post f_height f_count f_open f_most f_mostRow f_mostSteps a_stack a_kinds a_variables a_numbers a_values a_opened a_outcomes a_sums a_visited) := by
  intro t i st s k w' m hi hg hl hs hk h4 hE hf hf5 hgo n x be le me hn hx hS hm
  obtain ⟨n', rfl⟩ : ∃ n', n = n' + 1 := ⟨n - 1, by omega⟩
  have hn24 := w.1
  have hyi := hy.2 i hi
  have hin : vp_in (nI i) 24 := vp_in_nI (by omega) (by decide)
  have hcl : (nI i).toNatClampNeg = i := nI_clamp (by omega)
  have hin2 : vp_in (64 * nI i + nI s) 1536 := by rw [ch_64]; exact vp_in_nI (by omega) (by decide)
  have hkd : ∀ c, ch_K P i = c → a_kinds (nI i).toNatClampNeg = nI c := fun c hc => by rw [hcl, hyi.1, hc]
  have hcnt : ¬ f_count ≤ nI i := by rw [hy.1]; exact nI_ge hi (by omega)
  refine br_f (nI_ge (a := x) (b := 4000) (by omega) (by decide)) (br_t rfl (br_f hcnt (And.intro hin (nm_r (hkd _ h4) (And.intro hin2 (fun x3 e3 => nm_r (nI_1 i) (And.intro hin (And.intro hin (fun me' em => ?_)))))))))
  rw [hcl] at em
  have hm' := ch_mr_i (i := i) hm
  rw [← em] at hm'
  rw [ch_64, nI_clamp (by omega)] at e3
  have hx3 := hyi.2.2.2 (Or.inr (Or.inr h4)) s hs
  rw [hx3, hE] at e3
  rw [e3]
  have h1 := (ch_YS_u (x := nI i) hS (Nat.le_refl _)).1
  have h2 := (ch_YS_u (x := nI 1) h1 (Nat.le_refl _)).2
  have hinf : vp_in (nI (ch_fd P true i)) 24 := vp_in_nI (by omega) (by decide)
  have hclf : (nI (ch_fd P true i)).toNatClampNeg = ch_fd P true i := nI_clamp (by omega)
  have hcf : ¬ f_count ≤ nI (ch_fd P true i) := by rw [hy.1]; exact nI_ge hf (by omega)
  refine br_f (by decide) (br_f (by decide) (br_f (by decide) (br_f (by decide) (br_t rfl (br_t rfl (ch_yfind true hy w hi (ch_ybeh hy w (Nat.le_of_lt hf) (br_f hcf (And.intro hinf ?_)))))))))
  rw [hclf, (hy.2 _ hf).1, hf5]
  refine br_t rfl (ch_yent (r := 1) (by omega) (nm_r (nI_1 x) ?_))
  rw [ch_beh_lt hf]
  exact hgo n' (x + 1) _ _ _ (by omega) (by omega) ⟨pk_us, fun z => absurd (show ch_K P i = 6 from z) (by omega), h2⟩ hm'
theorem ch_y4n (hy : ch_yp P f_count a_kinds a_variables a_numbers a_values) (w : ch_wf P) : ch_r4n P (ch_G P post f_height f_count f_open f_most f_mostRow f_mostSteps a_stack a_kinds a_variables a_numbers a_values a_opened a_outcomes a_sums a_visited) := by
  intro t i st s k w' m hi hg hl hs hk h4 hE hf hgo n x be le me hn hx hS hm
  obtain ⟨n', rfl⟩ : ∃ n', n = n' + 1 := ⟨n - 1, by omega⟩
  have hn24 := w.1
  have hyi := hy.2 i hi
  have hin : vp_in (nI i) 24 := vp_in_nI (by omega) (by decide)
  have hcl : (nI i).toNatClampNeg = i := nI_clamp (by omega)
  have hin2 : vp_in (64 * nI i + nI s) 1536 := by rw [ch_64]; exact vp_in_nI (by omega) (by decide)
  have hkd : ∀ c, ch_K P i = c → a_kinds (nI i).toNatClampNeg = nI c := fun c hc => by rw [hcl, hyi.1, hc]
  have hcnt : ¬ f_count ≤ nI i := by rw [hy.1]; exact nI_ge hi (by omega)
  refine br_f (nI_ge (a := x) (b := 4000) (by omega) (by decide)) (br_t rfl (br_f hcnt (And.intro hin (nm_r (hkd _ h4) (And.intro hin2 (fun x3 e3 => nm_r (nI_1 i) (And.intro hin (And.intro hin (fun me' em => ?_)))))))))
  rw [hcl] at em
  have hm' := ch_mr_i (i := i) hm
  rw [← em] at hm'
  rw [ch_64, nI_clamp (by omega)] at e3
  have hx3 := hyi.2.2.2 (Or.inr (Or.inr h4)) s hs
  rw [hx3, hE] at e3
  rw [e3]
  have hle := ch_fd_le (oe := true) hi
  have hfin := hgo n' (x + 1) be le me' (by omega) (by omega) hS hm'
  refine br_f (by decide) (br_f (by decide) (br_f (by decide) (br_f (by decide) (br_t rfl (br_t rfl (ch_yfind true hy w hi (ch_ybeh hy w hle ?_)))))))
  by_cases hlt : ch_fd P true i < ch_n P
  · have hinf : vp_in (nI (ch_fd P true i)) 24 := vp_in_nI (by omega) (by decide)
    have hclf : (nI (ch_fd P true i)).toNatClampNeg = ch_fd P true i := nI_clamp (by omega)
    have hcf : ¬ f_count ≤ nI (ch_fd P true i) := by rw [hy.1]; exact nI_ge hlt (by omega)
    refine br_f hcf (And.intro hinf ?_)
    rw [hclf, (hy.2 _ hlt).1]
    exact br_f (ch_kn (w.2 _ hlt).1.1 (c := 5) (by decide) (fun z => hf ⟨hlt, z⟩)) (nm_r (nI_1 x) hfin)
  · have hcf : f_count ≤ nI (ch_fd P true i) := by rw [hy.1]; exact nI_le (by omega) (by omega)
    exact br_t hcf (nm_r (nI_1 x) hfin)
theorem ch_y5 (hy : ch_yp P f_count a_kinds a_variables a_numbers a_values) (w : ch_wf P) : ch_r5 P (ch_G P post f_height f_count f_open f_most f_mostRow f_mostSteps a_stack a_kinds a_variables a_numbers a_values a_opened a_outcomes a_sums a_visited) := by
  intro t i e l s k w' m hi hg hs hk h5 h4 hf hgo n x be le me hn hx hS hm
  obtain ⟨n', rfl⟩ : ∃ n', n = n' + 1 := ⟨n - 1, by omega⟩
  have hn24 := w.1
  have hyi := hy.2 i hi
  have hin : vp_in (nI i) 24 := vp_in_nI (by omega) (by decide)
  have hcl : (nI i).toNatClampNeg = i := nI_clamp (by omega)
  have hin2 : vp_in (64 * nI i + nI s) 1536 := by rw [ch_64]; exact vp_in_nI (by omega) (by decide)
  have hkd : ∀ c, ch_K P i = c → a_kinds (nI i).toNatClampNeg = nI c := fun c hc => by rw [hcl, hyi.1, hc]
  have hcnt : ¬ f_count ≤ nI i := by rw [hy.1]; exact nI_ge hi (by omega)
  refine br_f (nI_ge (a := x) (b := 4000) (by omega) (by decide)) (br_t rfl (br_f hcnt (And.intro hin (nm_r (hkd _ h5) (And.intro hin2 (fun x3 e3 => nm_r (nI_1 i) (And.intro hin (And.intro hin (fun me' em => ?_)))))))))
  rw [hcl] at em
  have hm' := ch_mr_i (i := i) hm
  rw [← em] at hm'
  rw [ch_64, nI_clamp (by omega)] at e3
  refine br_f (by decide) (br_f (by decide) (br_f (by decide) (br_f (by decide) (br_f (by decide) (br_t rfl (ch_yfind false hy w hi (nm_r (nI_1 x) ?_)))))))
  rw [hf]
  exact hgo n' (x + 1) _ _ _ (by omega) (by omega) ⟨hS.1, fun z => absurd (show ch_K P e.1 = 6 from z) (by omega), hS.2.2⟩ hm'
theorem ch_y6 (hy : ch_yp P f_count a_kinds a_variables a_numbers a_values) (w : ch_wf P) : ch_r6 P (ch_G P post f_height f_count f_open f_most f_mostRow f_mostSteps a_stack a_kinds a_variables a_numbers a_values a_opened a_outcomes a_sums a_visited) := by
  intro t i st s k w' m hi hg hl hs hk h6 hgo n x be le me hn hx hS hm
  obtain ⟨n', rfl⟩ : ∃ n', n = n' + 1 := ⟨n - 1, by omega⟩
  have hn24 := w.1
  have hyi := hy.2 i hi
  have hin : vp_in (nI i) 24 := vp_in_nI (by omega) (by decide)
  have hcl : (nI i).toNatClampNeg = i := nI_clamp (by omega)
  have hin2 : vp_in (64 * nI i + nI s) 1536 := by rw [ch_64]; exact vp_in_nI (by omega) (by decide)
  have hkd : ∀ c, ch_K P i = c → a_kinds (nI i).toNatClampNeg = nI c := fun c hc => by rw [hcl, hyi.1, hc]
  have hcnt : ¬ f_count ≤ nI i := by rw [hy.1]; exact nI_ge hi (by omega)
  refine br_f (nI_ge (a := x) (b := 4000) (by omega) (by decide)) (br_t rfl (br_f hcnt (And.intro hin (nm_r (hkd _ h6) (And.intro hin2 (fun x3 e3 => nm_r (nI_1 i) (And.intro hin (And.intro hin (fun me' em => ?_)))))))))
  rw [hcl] at em
  have hm' := ch_mr_i (i := i) hm
  rw [← em] at hm'
  rw [ch_64, nI_clamp (by omega)] at e3
  have h1 := (ch_YS_u (x := nI i) hS (Nat.le_refl _)).1
  have h2 := (ch_YS_u (x := nI (ch_S P i)) h1 (Nat.le_refl _)).2
  refine br_f (by decide) (br_f (by decide) (br_f (by decide) (br_f (by decide) (br_f (by decide) (br_f (by decide) (br_t rfl (And.intro hin ?_)))))))
  rw [hcl, hyi.2.2.1 (Or.inr h6)]
  exact ch_yent (by omega) (nm_r (nI_1 x) (hgo n' (x + 1) _ _ _ (by omega) (by omega) ⟨pk_us, fun _ => pk_us, h2⟩ hm'))
theorem ch_y7 (hy : ch_yp P f_count a_kinds a_variables a_numbers a_values) (w : ch_wf P) : ch_r7 P (ch_G P post f_height f_count f_open f_most f_mostRow f_mostSteps a_stack a_kinds a_variables a_numbers a_values a_opened a_outcomes a_sums a_visited) := by
  intro t i up e low s k w' m hi hg hs hk h7 hup h6 hgo n x be le me hn hx hS hm
  obtain ⟨n', rfl⟩ : ∃ n', n = n' + 1 := ⟨n - 1, by omega⟩
  have hn24 := w.1
  have hyi := hy.2 i hi
  have hin : vp_in (nI i) 24 := vp_in_nI (by omega) (by decide)
  have hcl : (nI i).toNatClampNeg = i := nI_clamp (by omega)
  have hin2 : vp_in (64 * nI i + nI s) 1536 := by rw [ch_64]; exact vp_in_nI (by omega) (by decide)
  have hkd : ∀ c, ch_K P i = c → a_kinds (nI i).toNatClampNeg = nI c := fun c hc => by rw [hcl, hyi.1, hc]
  have hcnt : ¬ f_count ≤ nI i := by rw [hy.1]; exact nI_ge hi (by omega)
  refine br_f (nI_ge (a := x) (b := 4000) (by omega) (by decide)) (br_t rfl (br_f hcnt (And.intro hin (nm_r (hkd _ h7) (And.intro hin2 (fun x3 e3 => nm_r (nI_1 i) (And.intro hin (And.intro hin (fun me' em => ?_)))))))))
  rw [hcl] at em
  have hm' := ch_mr_i (i := i) hm
  rw [← em] at hm'
  rw [ch_64, nI_clamp (by omega)] at e3
  refine br_f (by decide) (br_f (by decide) (br_f (by decide) (br_f (by decide) (br_f (by decide) (br_f (by decide) (br_f (by decide) (br_t rfl (Exists.intro (up.length + 2) ?_))))))))
  exact ch_ybr2 hy w h6 (ch_YS_a hS) (nm_r (nI_1 x) (hgo n' (x + 1) _ _ _ (by omega) (by omega) (ch_YS_a (up := up ++ [e]) (by rw [List.append_assoc]; exact hS)) hm')) up hg hS hup
theorem ch_y8 (hy : ch_yp P f_count a_kinds a_variables a_numbers a_values) (w : ch_wf P) : ch_r8 P (ch_G P post f_height f_count f_open f_most f_mostRow f_mostSteps a_stack a_kinds a_variables a_numbers a_values a_opened a_outcomes a_sums a_visited) := by
  intro t i e l s k w' m m2 hin0 h8 hg hs hk hmm hgo n x be le me hn hx hS hm
  by_cases hi : i < ch_n P
  · have h8' := h8 hi
    obtain ⟨n', rfl⟩ : ∃ n', n = n' + 1 := ⟨n - 1, by omega⟩
    have hn24 := w.1
    have hyi := hy.2 i hi
    have hin : vp_in (nI i) 24 := vp_in_nI (by omega) (by decide)
    have hcl : (nI i).toNatClampNeg = i := nI_clamp (by omega)
    have hin2 : vp_in (64 * nI i + nI s) 1536 := by rw [ch_64]; exact vp_in_nI (by omega) (by decide)
    have hkd : ∀ c, ch_K P i = c → a_kinds (nI i).toNatClampNeg = nI c := fun c hc => by rw [hcl, hyi.1, hc]
    have hcnt : ¬ f_count ≤ nI i := by rw [hy.1]; exact nI_ge hi (by omega)
    refine br_f (nI_ge (a := x) (b := 4000) (by omega) (by decide)) (br_t rfl (br_f hcnt (And.intro hin (nm_r (hkd _ h8') (And.intro hin2 (fun x3 e3 => nm_r (nI_1 i) (And.intro hin (And.intro hin (fun me' em => ?_)))))))))
    rw [hcl] at em
    have hm' := ch_mr_i (i := i) hm
    rw [← em] at hm'
    rw [ch_64, nI_clamp (by omega)] at e3
    have hm2 : ch_mr P me' m2 := by rw [em]; exact ch_mr_e hm h8' hmm
    refine br_f (by decide) (br_f (by decide) (br_f (by decide) (br_f (by decide) (br_f (by decide) (br_f (by decide) (br_f (by decide) (br_f (by decide) (ch_yeb (i := i) hy w hg hS (fun le' hS' => nm_r (nI_1 x) ?_)))))))))
    have hfin := hgo n' (x + 1) _ _ _ (by omega) (by omega) hS' hm2
    by_cases hc : ch_K P e.1 = 6 ∧ 1 < e.2
    · rw [if_pos hc]
      rw [ch_eb_l hc] at hfin ⊢
      exact hfin
    · rw [if_neg hc]
      rw [ch_eb_x hc] at hfin ⊢
      rw [ch_beh_lt hi] at hfin
      exact hfin
  · obtain ⟨n', rfl⟩ : ∃ n', n = n' + 1 := ⟨n - 1, by omega⟩
    have hn24 := w.1
    have ei : i = ch_n P := by omega
    have hcnt : f_count ≤ nI i := by rw [hy.1]; exact nI_le (by omega) (by omega)
    have hl3 : l.length + 1 ≤ 3 := hg.1
    have hm2 : ch_mr P me m2 := fun j hj h5 h8 => by rw [hm j hj h5 h8, hmm j hj h8]
    refine br_f (nI_ge (a := x) (b := 4000) (by omega) (by decide)) (br_t rfl (br_t hcnt (br_f (nI_nle (Nat.succ_pos _) (show l.length + 1 < 2 ^ 31 by omega)) (ch_yeb (i := i) hy w hg hS (fun le' hS' => nm_r (nI_1 x) ?_)))))
    have hfin := hgo n' (x + 1) _ _ _ (by omega) (by omega) hS' hm2
    by_cases hc : ch_K P e.1 = 6 ∧ 1 < e.2
    · rw [if_pos hc]
      rw [ch_eb_l hc] at hfin ⊢
      exact hfin
    · rw [if_neg hc]
      rw [ch_eb_x hc] at hfin ⊢
      rw [ch_beh_ge hi, ← ei] at hfin
      exact hfin
theorem ch_yf (hy : ch_yp P f_count a_kinds a_variables a_numbers a_values) (w : ch_wf P) : ch_rf P (ch_F P post f_height f_count f_open f_most f_mostRow f_mostSteps a_stack a_kinds a_variables a_numbers a_values a_opened a_outcomes a_sums a_visited) (ch_G P post f_height f_count f_open f_most f_mostRow f_mostSteps a_stack a_kinds a_variables a_numbers a_values a_opened a_outcomes a_sums a_visited) := by
  intro t s k w' m hs hk hF n x be le me hn hx hS hm
  obtain ⟨n', rfl⟩ : ∃ n', n = n' + 1 := ⟨n - 1, by omega⟩
  obtain ⟨n'', rfl⟩ : ∃ n'', n' = n'' + 1 := ⟨n' - 1, by omega⟩
  have hn24 := w.1
  have hcnt : f_count ≤ nI (ch_n P) := by rw [hy.1]; exact nI_le (by omega) (by omega)
  refine br_f (nI_ge (a := x) (b := 4000) (by omega) (by decide)) (br_t rfl (br_t hcnt (br_t (by decide) (nm_r (nI_1 x) ?_))))
  exact br_c (fun _ => hF be le me hm) (fun _ => br_f (by decide) (hF be le me hm))
theorem ch_ym : ch_rm (ch_G P post f_height f_count f_open f_most f_mostRow f_mostSteps a_stack a_kinds a_variables a_numbers a_values a_opened a_outcomes a_sums a_visited) := by
  intro t i st s k w' m h n x be le me hn hx
  exact h n x be le me (by omega) (by omega)
end
end
section
/-! own rows: the reference's run, its note, and its work over all rows -/
section
variable {f_height f_count f_open f_at f_depth f_state f_steps f_product f_end f_most f_mostRow f_mostSteps : Int32} {a_stack a_kinds a_variables a_numbers a_values a_opened a_begins a_left a_outcomes a_met a_sums : Nat → Int32} {a_visited : Nat → Int64} {P : ch_P} {post : SY → Prop} {o : Nat → Nat}
theorem ch_yr32 (hy : ch_yp P f_count a_kinds a_variables a_numbers a_values) (w : ch_wf P) (ho : ∀ j, j < 6 → a_outcomes j = nI (o j)) (ho4 : ∀ j, o j < 4) (hD : ∀ e, ch_run ch_ok P o = .error e → ch_D post f_height f_count f_open f_most f_mostRow f_mostSteps a_stack a_kinds a_variables a_numbers a_values a_opened a_outcomes a_sums a_visited e) (hF : ∀ q, ch_run ch_ok P o = .ok q → ch_F P post f_height f_count f_open f_most f_mostRow f_mostSteps a_stack a_kinds a_variables a_numbers a_values a_opened a_outcomes a_sums a_visited q) :
    ∀ (d c : Nat) (me : Nat → Int32), c + d = 24 → (∀ j, j < c → me j = 0) → wY_run_32 post f_height f_count f_open 0 0 0 0 1 1 f_most f_mostRow f_mostSteps (d + 1) (nI c) a_stack a_kinds a_variables a_numbers a_values a_opened a_begins a_left a_outcomes me a_sums a_visited := by
  have hn := w.1
  intro d
  induction d with
  | zero =>
    intro c me hc hm
    have e : c = 24 := by omega
    subst e
    refine br_t (by decide) (Exists.intro 1731 ?_)
    have hG := ch_sim (P := P) w ho4 (ch_y0 hy w) (ch_y1 hy w ho ho4) (ch_y16 hy w) (ch_y10 hy w ho ho4) (ch_y30 hy w) (ch_y31 hy w) (ch_y41 hy w) (ch_y4e hy w) (ch_y4n hy w) (ch_y5 hy w) (ch_y6 hy w) (ch_y7 hy w) (ch_y8 hy w) (ch_yf hy w) (ch_ym (P := P) (post := post)) 864 0 [] ch_q0 0 [] (ch_iv_0 P) (ch_mu_0 w) ch_q0_qi (Or.inl ⟨rfl, rfl, rfl⟩) hD hF
    exact hG 1731 0 a_begins a_left me (by omega) (by omega) trivial (fun j hj _ _ => hm j (by omega))
  | succ d ih =>
    intro c me hc hm
    have hin : vp_in (nI c) 24 := vp_in_nI (by omega) (by decide)
    have hcl : (nI c).toNatClampNeg = c := nI_clamp (by omega)
    refine br_f (nI_ge (a := c) (b := 24) (by omega) (by omega)) (And.intro hin (fun a1 e1 => nm_r (nI_1 c) ?_))
    rw [hcl] at e1
    refine ih (c + 1) a1 (by omega) (fun j hj => ?_)
    rw [e1]
    by_cases hjc : j = c
    · rw [hjc, pk_us]
    · rw [pk_un hjc]; exact hm j (by omega)
theorem ch_yrun (hy : ch_yp P f_count a_kinds a_variables a_numbers a_values) (w : ch_wf P) (ho : ∀ j, j < 6 → a_outcomes j = nI (o j)) (ho4 : ∀ j, o j < 4) (hD : ∀ e, ch_run ch_ok P o = .error e → ch_D post f_height f_count f_open f_most f_mostRow f_mostSteps a_stack a_kinds a_variables a_numbers a_values a_opened a_outcomes a_sums a_visited e) (hF : ∀ q, ch_run ch_ok P o = .ok q → ch_F P post f_height f_count f_open f_most f_mostRow f_mostSteps a_stack a_kinds a_variables a_numbers a_values a_opened a_outcomes a_sums a_visited q) : wpY_run post (f_height, f_count, f_open, f_at, f_depth, f_state, f_steps, f_product, f_end, f_most, f_mostRow, f_mostSteps, a_stack, a_kinds, a_variables, a_numbers, a_values, a_opened, a_begins, a_left, a_outcomes, a_met, a_sums, a_visited) :=
  Exists.intro 25 (ch_yr32 hy w ho ho4 hD hF 24 0 a_met (by omega) (fun j hj => by omega))
theorem ch_yn49 {row Wv : Nat} {vis0 : Nat → Int64} (h : ∀ vis : Nat → Int64, (∀ j, j < 24 → vis j = vis0 j + lN Wv * (a_met j).toInt64) → ((nI Wv ≤ f_most → post (f_height, f_count, f_open, f_at, f_depth, f_state, f_steps, f_product, f_end, f_most, f_mostRow, f_mostSteps, a_stack, a_kinds, a_variables, a_numbers, a_values, a_opened, a_begins, a_left, a_outcomes, a_met, a_sums, vis)) ∧ (¬ nI Wv ≤ f_most → post (f_height, f_count, f_open, f_at, f_depth, f_state, f_steps, f_product, f_end, nI Wv, nI row, f_steps, a_stack, a_kinds, a_variables, a_numbers, a_values, a_opened, a_begins, a_left, a_outcomes, a_met, a_sums, vis)))) (hW : Wv < 2 ^ 31) :
    ∀ (d c : Nat) (vis : Nat → Int64), c + d = 24 → (∀ j, vis j = if j < c then vis0 j + lN Wv * (a_met j).toInt64 else vis0 j) → wY_note_49 post (nI row) (nI Wv) f_height f_count f_open f_at f_depth f_state f_steps f_product f_end f_most f_mostRow f_mostSteps (d + 1) (nI c) a_stack a_kinds a_variables a_numbers a_values a_opened a_begins a_left a_outcomes a_met a_sums vis := by
  intro d
  induction d with
  | zero =>
    intro c vis hc hv
    have e : c = 24 := by omega
    subst e
    exact br_t (by decide) (h vis (fun j hj => by rw [hv j, if_pos hj]))
  | succ d ih =>
    intro c vis hc hv
    have hin : vp_in (nI c) 24 := vp_in_nI (by omega) (by decide)
    have hcl : (nI c).toNatClampNeg = c := nI_clamp (by omega)
    refine br_f (nI_ge (a := c) (b := 24) (by omega) (by omega)) (And.intro hin (And.intro hin (And.intro hin (fun a1 e1 => nm_r (nI_1 c) ?_))))
    rw [hcl, nI_l hW, hv c, if_neg (by omega)] at e1
    refine ih (c + 1) a1 (by omega) (fun j => ?_)
    rw [e1]
    by_cases hjc : j = c
    · rw [hjc, pk_uLs, if_pos (by omega)]
    · rw [pk_uLn hjc, hv j]
      by_cases h1 : j < c
      · rw [if_pos h1, if_pos (by omega)]
      · rw [if_neg h1, if_neg (by omega)]
theorem ch_yn10 {row Wv s : Nat} (hs : s < 64) (hW : Wv < 2 ^ 31) (h : ∀ vis : Nat → Int64, (∀ j, j < 24 → vis j = a_visited j + lN Wv * (a_met j).toInt64) → ((nI Wv ≤ f_most → post (f_height, f_count, f_open, f_at, f_depth, nI s, f_steps, f_product, f_end, f_most, f_mostRow, f_mostSteps, a_stack, a_kinds, a_variables, a_numbers, a_values, a_opened, a_begins, a_left, a_outcomes, a_met, upd a_sums s (a_sums s + nI Wv), vis)) ∧ (¬ nI Wv ≤ f_most → post (f_height, f_count, f_open, f_at, f_depth, nI s, f_steps, f_product, f_end, nI Wv, nI row, f_steps, a_stack, a_kinds, a_variables, a_numbers, a_values, a_opened, a_begins, a_left, a_outcomes, a_met, upd a_sums s (a_sums s + nI Wv), vis)))) :
    ∀ (d k a : Nat), k + d = 6 → a * 16 ^ d = Wv → wY_note_10 post (nI row) f_height f_count f_open f_at f_depth (nI s) f_steps f_product f_end f_most f_mostRow f_mostSteps a_stack a_kinds a_variables a_numbers a_values a_opened a_begins a_left a_outcomes a_met a_sums a_visited (d + 1) (nI a) (nI k) := by
  intro d
  induction d with
  | zero =>
    intro k a hk ha
    have e : k = 6 := by omega
    subst e
    have hin : vp_in (nI s) 64 := vp_in_nI hs (by decide)
    have hcl : (nI s).toNatClampNeg = s := nI_clamp (by omega)
    have ea : a = Wv := by rw [← ha, Nat.pow_zero, Nat.mul_one]
    subst ea
    refine br_t (by decide) (And.intro hin (And.intro hin (fun a1 e1 => Exists.intro 25 ?_)))
    rw [hcl] at e1
    rw [e1]
    exact ch_yn49 h hW 24 0 a_visited (by omega) (fun j => (if_neg (by omega)).symm)
  | succ d ih =>
    intro k a hk ha
    refine br_f (nI_ge (a := k) (b := 6) (by omega) (by omega)) (nm_r (pk_mul 16 a) (nm_r (nI_1 k) (ih (k + 1) (16 * a) (by omega) ?_)))
    rw [← ha, Nat.pow_succ, Nat.mul_comm 16 a, Nat.mul_assoc, Nat.mul_comm 16 (16 ^ d)]
theorem ch_ynote {row Wv s k a : Nat} (hs : s < 64) (hk : k ≤ 6) (hW : Wv < 2 ^ 31) (ha : a * 16 ^ (6 - k) = Wv) (h : ∀ vis : Nat → Int64, (∀ j, j < 24 → vis j = a_visited j + lN Wv * (a_met j).toInt64) → ((nI Wv ≤ f_most → post (f_height, f_count, f_open, f_at, f_depth, nI s, nI k, nI a, f_end, f_most, f_mostRow, f_mostSteps, a_stack, a_kinds, a_variables, a_numbers, a_values, a_opened, a_begins, a_left, a_outcomes, a_met, upd a_sums s (a_sums s + nI Wv), vis)) ∧ (¬ nI Wv ≤ f_most → post (f_height, f_count, f_open, f_at, f_depth, nI s, nI k, nI a, f_end, nI Wv, nI row, nI k, a_stack, a_kinds, a_variables, a_numbers, a_values, a_opened, a_begins, a_left, a_outcomes, a_met, upd a_sums s (a_sums s + nI Wv), vis)))) :
    wpY_note post (f_height, f_count, f_open, f_at, f_depth, nI s, nI k, nI a, f_end, f_most, f_mostRow, f_mostSteps, a_stack, a_kinds, a_variables, a_numbers, a_values, a_opened, a_begins, a_left, a_outcomes, a_met, a_sums, a_visited) (nI row) :=
  Exists.intro (6 - k + 1) (ch_yn10 hs hW h (6 - k) k a (by omega) ha)
end
/-- what a row adds -/
def ch_Fr (P : ch_P) (r : Nat) : List ch_Q := ch_kq r (ch_run ch_ok P (ch_dg r))
def ch_LL (P : ch_P) (r : Nat) : List ch_Q := (List.range r).flatMap (ch_Fr P)
theorem ch_LL_s (P : ch_P) (r : Nat) : ch_LL P (r + 1) = ch_LL P r ++ ch_Fr P r := by
  unfold ch_LL
  rw [List.range_succ, List.flatMap_append, List.flatMap_singleton]
def ch_ws (q : ch_Q) (s : Nat) : Nat := if q.2.2.1 = s then ch_W q else 0
def ch_wv (i : Nat) (q : ch_Q) : Nat := ch_W q * q.2.2.2.2 i
def ch_ms (P : ch_P) (r : Nat) (mr ms : Int32) : Prop := 0 < ch_bg true (ch_LL P r) ch_W → ∃ x q, x < r ∧ mr = nI x ∧ ms = nI q.2.1 ∧ q ∈ ch_Fr P x ∧ ch_W q = ch_bg true (ch_LL P r) ch_W ∧ ∀ y, y < x → ∀ p, p ∈ ch_Fr P y → ch_W p < ch_W q
def ch_WS (P : ch_P) (r : Nat) (sums : Nat → Int32) (vis : Nat → Int64) (mo mr ms : Int32) : Prop :=
  (∀ s, s < 64 → sums s = nI (ch_bg false (ch_LL P r) (fun q => ch_ws q s))) ∧ (∀ i, i < ch_n P → ch_K P i ≠ 5 → ch_K P i ≠ 8 → vis i = lN (ch_bg false (ch_LL P r) (ch_wv i))) ∧ mo = nI (ch_bg true (ch_LL P r) ch_W) ∧ ch_ms P r mr ms
theorem ch_Fr_mem {P : ch_P} {r : Nat} {q : ch_Q} (h : q ∈ ch_Fr P r) : ch_run ch_ok P (ch_dg r) = .ok q ∧ r % 4 ^ (6 - q.2.1) = 0 := ch_kq_mem h
theorem ch_LL_W {P : ch_P} (w : ch_wf P) (r : Nat) : ch_bg true (ch_LL P r) ch_W ≤ 16777216 := by
  refine ch_bg_lub (fun q hq => ?_)
  obtain ⟨x, _, hx⟩ := List.mem_flatMap.mp hq
  exact ch_W_le (ch_run_qi w (ch_dg_lt x) (ch_Fr_mem hx).1)
theorem ch_WS_n {P : ch_P} {r : Nat} {sums : Nat → Int32} {vis : Nat → Int64} {mo mr ms : Int32} (h : ch_WS P r sums vis mo mr ms) (hr : ch_Fr P r = []) : ch_WS P (r + 1) sums vis mo mr ms := by
  have e : ch_LL P (r + 1) = ch_LL P r := by rw [ch_LL_s, hr, List.append_nil]
  unfold ch_WS ch_ms at h ⊢
  rw [e]
  refine ⟨h.1, h.2.1, h.2.2.1, fun z => ?_⟩
  obtain ⟨x, q, h1, h2⟩ := h.2.2.2 z
  exact ⟨x, q, by omega, h2⟩
theorem ch_WS_y {P : ch_P} (w : ch_wf P) {r : Nat} {sums : Nat → Int32} {vis vis' : Nat → Int64} {mo mr ms : Int32} {q : ch_Q} {me : Nat → Int32} (h : ch_WS P r sums vis mo mr ms) (hr : ch_Fr P r = [q]) (hm : ch_mr P me q.2.2.2.2)
    (hv : ∀ j, j < 24 → vis' j = vis j + lN (ch_W q) * (me j).toInt64) :
    (nI (ch_W q) ≤ mo → ch_WS P (r + 1) (upd sums q.2.2.1 (sums q.2.2.1 + nI (ch_W q))) vis' mo mr ms) ∧ (¬ nI (ch_W q) ≤ mo → ch_WS P (r + 1) (upd sums q.2.2.1 (sums q.2.2.1 + nI (ch_W q))) vis' (nI (ch_W q)) (nI r) (nI q.2.1)) := by
  have hn := w.1
  have hq : q ∈ ch_Fr P r := by rw [hr]; exact List.mem_singleton.mpr rfl
  have hrun := (ch_Fr_mem hq).1
  have hqi := ch_run_qi w (ch_dg_lt r) hrun
  have hWq := ch_W_le hqi
  have hML := ch_LL_W w r
  have eL : ch_LL P (r + 1) = ch_LL P r ++ [q] := by rw [ch_LL_s, hr]
  have ebg : ∀ (g : Bool) (F : ch_Q → Nat), ch_bg g (ch_LL P (r + 1)) F = ch_op g (ch_bg g (ch_LL P r) F) (F q) := fun g F => by rw [eL, ch_bg_app, ch_bg_1]
  have hsums : ∀ s, s < 64 → upd sums q.2.2.1 (sums q.2.2.1 + nI (ch_W q)) s = nI (ch_bg false (ch_LL P (r + 1)) (fun q => ch_ws q s)) := by
    intro s hs
    rw [ebg]
    by_cases hsq : s = q.2.2.1
    · subst hsq
      rw [pk_us, h.1 _ hs, nI_add]
      show _ = nI (_ + (if q.2.2.1 = q.2.2.1 then ch_W q else 0))
      rw [if_pos rfl]
    · rw [pk_un hsq, h.1 s hs]
      show _ = nI (_ + (if q.2.2.1 = s then ch_W q else 0))
      rw [if_neg (fun z => hsq z.symm)]
      rfl
  have hvis : ∀ i, i < ch_n P → ch_K P i ≠ 5 → ch_K P i ≠ 8 → vis' i = lN (ch_bg false (ch_LL P (r + 1)) (ch_wv i)) := by
    intro i hi h5 h8
    have hmet := (ch_run_met hrun i).1
    rw [ebg, hv i (by omega), h.2.1 i hi h5 h8, hm i hi h5 h8, nI_l (by omega), lN_mul, lN_add]
    rfl
  constructor
  · intro hle
    rw [h.2.2.1, nI_leI (by omega) (by omega)] at hle
    have e : ch_bg true (ch_LL P (r + 1)) ch_W = ch_bg true (ch_LL P r) ch_W := by
      rw [ebg]
      exact Nat.max_eq_left hle
    refine ⟨hsums, hvis, by rw [e]; exact h.2.2.1, fun z => ?_⟩
    rw [e] at z ⊢
    obtain ⟨x, q1, h1, h2⟩ := h.2.2.2 z
    exact ⟨x, q1, by omega, h2⟩
  · intro hle
    rw [h.2.2.1, nI_leI (by omega) (by omega)] at hle
    have e : ch_bg true (ch_LL P (r + 1)) ch_W = ch_W q := by
      rw [ebg]
      exact Nat.max_eq_right (by omega)
    refine ⟨hsums, hvis, by rw [e], fun _ => ⟨r, q, by omega, rfl, rfl, hq, e.symm, fun y hy p hp => ?_⟩⟩
    have h3 : p ∈ ch_LL P r := List.mem_flatMap.mpr ⟨y, List.mem_range.mpr hy, hp⟩
    have h4 := ch_bg_le (F := ch_W) true h3
    omega
theorem ch_dg_e {r : Nat} (hr : r < 4096) : ∀ j, j < 6 → ((nI r >>> ((10 - (2 * nI j)) &&& 31)) &&& 3) = nI (ch_dg r j) := by
  have key : ∀ (j c : Nat), (((10 - (2 * nI j)) &&& (31 : Int32)).toBitVec.smod 32).toNat = c → 2 ^ c = 4 ^ (5 - j) → ((nI r >>> ((10 - (2 * nI j)) &&& 31)) &&& 3) = nI (ch_dg r j) := fun j c h1 h2 => by
    rw [pk_shrN (by omega) _ c h1, pk_andN (k := 2) (Nat.lt_of_le_of_lt (Nat.div_le_self _ _) (by omega)) (by decide), h2]
    rfl
  intro j hj
  have : j = 0 ∨ j = 1 ∨ j = 2 ∨ j = 3 ∨ j = 4 ∨ j = 5 := by omega
  rcases this with rfl | rfl | rfl | rfl | rfl | rfl
  · exact key 0 10 (by decide) (by decide)
  · exact key 1 8 (by decide) (by decide)
  · exact key 2 6 (by decide) (by decide)
  · exact key 3 4 (by decide) (by decide)
  · exact key 4 2 (by decide) (by decide)
  · exact key 5 0 (by decide) (by decide)
theorem ch_tz_e {r : Nat} (hr : r < 4096) : ∀ k, k ≤ 6 → (nI r &&& (((1 : Int32) <<< ((12 - (2 * nI k)) &&& 31)) - 1)) = nI (r % 4 ^ (6 - k)) := by
  have key : ∀ (k c : Nat), (((1 : Int32) <<< ((12 - (2 * nI k)) &&& 31)) - 1).toBitVec.toNat = 2 ^ c - 1 → 2 ^ c = 4 ^ (6 - k) → (nI r &&& (((1 : Int32) <<< ((12 - (2 * nI k)) &&& 31)) - 1)) = nI (r % 4 ^ (6 - k)) := fun k c h1 h2 => by
    rw [pk_andN (k := c) (by omega) h1, h2]
  intro k hk
  have : k = 0 ∨ k = 1 ∨ k = 2 ∨ k = 3 ∨ k = 4 ∨ k = 5 ∨ k = 6 := by omega
  rcases this with rfl | rfl | rfl | rfl | rfl | rfl | rfl
  · exact key 0 12 (by decide) (by decide)
  · exact key 1 10 (by decide) (by decide)
  · exact key 2 8 (by decide) (by decide)
  · exact key 3 6 (by decide) (by decide)
  · exact key 4 4 (by decide) (by decide)
  · exact key 5 2 (by decide) (by decide)
  · exact key 6 0 (by decide) (by decide)
end
section
/-! own rows: the reference's work over all rows, and what it asks of it -/
theorem ch_code_ne (e : Nat) : ¬ ch_code e = 0 := by
  unfold ch_code
  split
  · decide
  · split <;> decide
section
variable {f_height f_count f_open f_at f_depth f_state f_steps f_product f_end f_most f_mostRow f_mostSteps : Int32} {a_stack a_kinds a_variables a_numbers a_values a_opened a_begins a_left a_outcomes a_met a_sums : Nat → Int32} {a_visited : Nat → Int64} {P : ch_P} {post : SY → Prop}
theorem ch_yw52 {J : Int32 → Int32 → Int32 → Int32 → Int32 → Int32 → Int32 → Int32 → Int32 → Int32 → Int32 → Int32 → Int32 → (Nat → Int32) → (Nat → Int32) → (Nat → Int32) → (Nat → Int32) → (Nat → Int32) → (Nat → Int32) → (Nat → Int32) → (Nat → Int32) → (Nat → Int32) → (Nat → Int32) → (Nat → Int32) → (Nat → Int64) → Prop}
    {r : Nat} (hr : r < 4096) (hy : ch_yp P f_count a_kinds a_variables a_numbers a_values) (w : ch_wf P) (hWS : ch_WS P r a_sums a_visited f_most f_mostRow f_mostSteps)
    (h : ∀ (f_at f_depth f_state f_steps f_product f_end f_most f_mostRow f_mostSteps : Int32) (a_begins a_left a_outcomes a_met a_sums : Nat → Int32) (a_visited : Nat → Int64), ch_WS P (r + 1) a_sums a_visited f_most f_mostRow f_mostSteps → J (nI (r + 1)) f_height f_count f_open f_at f_depth f_state f_steps f_product f_end f_most f_mostRow f_mostSteps a_stack a_kinds a_variables a_numbers a_values a_opened a_begins a_left a_outcomes a_met a_sums a_visited) :
    ∀ (d c : Nat) (ou : Nat → Int32), c + d = 6 → (∀ j, j < c → ou j = nI (ch_dg r j)) → wY_work_52 post J (nI r) f_height f_count f_open f_at f_depth f_state f_steps f_product f_end f_most f_mostRow f_mostSteps (d + 1) (nI c) a_stack a_kinds a_variables a_numbers a_values a_opened a_begins a_left ou a_met a_sums a_visited := by
  intro d
  induction d with
  | zero =>
    intro c ou hc ho
    have e : c = 6 := by omega
    subst e
    refine br_t (by decide) (ch_yrun hy w ho (ch_dg_lt r) (fun e he => ?_) (fun q hq => ?_))
    · intro x1 x2 x3 x4 x5 x6 x7 x8
      have hFr : ch_Fr P r = [] := by unfold ch_Fr; rw [he]; rfl
      exact br_f (ch_code_ne e) (nm_r (nI_1 r) (h _ _ _ _ _ _ _ _ _ _ _ _ _ _ _ (ch_WS_n hWS hFr)))
    · intro be le me hm
      have hqi := ch_run_qi w (ch_dg_lt r) hq
      have hc := ch_tz_e hr q.2.1 hqi.2.1
      by_cases hz : r % 4 ^ (6 - q.2.1) = 0
      · have hFr : ch_Fr P r = [q] := by unfold ch_Fr; rw [hq]; exact if_pos hz
        have hWl := ch_W_le hqi
        refine br_t rfl (br_t (by rw [hc, hz]; rfl) (ch_ynote (Wv := ch_W q) hqi.2.2.1 hqi.2.1 (by omega) rfl (fun vis hv => ?_)))
        have h2 := ch_WS_y w hWS hFr hm hv
        exact ⟨fun z => nm_r (nI_1 r) (h _ _ _ _ _ _ _ _ _ _ _ _ _ _ _ (h2.1 z)), fun z => nm_r (nI_1 r) (h _ _ _ _ _ _ _ _ _ _ _ _ _ _ _ (h2.2 z))⟩
      · have hFr : ch_Fr P r = [] := by unfold ch_Fr; rw [hq]; exact if_neg hz
        have hle : r % 4 ^ (6 - q.2.1) ≤ r := Nat.mod_le _ _
        refine br_t rfl (br_f (by rw [hc]; exact nI_ne0 (by omega) (by omega)) (nm_r (nI_1 r) (h _ _ _ _ _ _ _ _ _ _ _ _ _ _ _ (ch_WS_n hWS hFr))))
  | succ d ih =>
    intro c ou hc ho
    have hin : vp_in (nI c) 6 := vp_in_nI (by omega) (by decide)
    have hcl : (nI c).toNatClampNeg = c := nI_clamp (by omega)
    refine br_f (nI_ge (a := c) (b := 6) (by omega) (by omega)) (And.intro hin (fun a1 e1 => nm_r (nI_1 c) ?_))
    rw [hcl, ch_dg_e hr c (by omega)] at e1
    refine ih (c + 1) a1 (by omega) (fun j hj => ?_)
    rw [e1]
    by_cases hjc : j = c
    · rw [hjc, pk_us]
    · rw [pk_un hjc]; exact ho j (by omega)
theorem ch_yw43 (hy : ch_yp P f_count a_kinds a_variables a_numbers a_values) (w : ch_wf P)
    (h : ∀ (f_at f_depth f_state f_steps f_product f_end f_most f_mostRow f_mostSteps : Int32) (a_begins a_left a_outcomes a_met a_sums : Nat → Int32) (a_visited : Nat → Int64), ch_WS P 4096 a_sums a_visited f_most f_mostRow f_mostSteps → post (f_height, f_count, f_open, f_at, f_depth, f_state, f_steps, f_product, f_end, f_most, f_mostRow, f_mostSteps, a_stack, a_kinds, a_variables, a_numbers, a_values, a_opened, a_begins, a_left, a_outcomes, a_met, a_sums, a_visited)) :
    ∀ (d r : Nat) (f_at f_depth f_state f_steps f_product f_end f_most f_mostRow f_mostSteps : Int32) (a_begins a_left a_outcomes a_met a_sums : Nat → Int32) (a_visited : Nat → Int64), r + d = 4096 → ch_WS P r a_sums a_visited f_most f_mostRow f_mostSteps → wY_work_43 post (d + 1) (nI r) f_height f_count f_open f_at f_depth f_state f_steps f_product f_end f_most f_mostRow f_mostSteps a_stack a_kinds a_variables a_numbers a_values a_opened a_begins a_left a_outcomes a_met a_sums a_visited := by
  intro d
  induction d with
  | zero =>
    intro r x1 x2 x3 x4 x5 x6 x7 x8 x9 y1 y2 y3 y4 y5 y6 hr hW
    have e : r = 4096 := by omega
    subst e
    exact br_t (nI_le (a := 4096) (b := 4096) (by omega) (by omega)) (h _ _ _ _ _ _ _ _ _ _ _ _ _ _ _ hW)
  | succ d ih =>
    intro r x1 x2 x3 x4 x5 x6 x7 x8 x9 y1 y2 y3 y4 y5 y6 hr hW
    refine br_f (nI_ge (a := r) (b := 4096) (by omega) (by omega)) (Exists.intro 7 ?_)
    exact ch_yw52 (by omega) hy w hW (fun z1 z2 z3 z4 z5 z6 z7 z8 z9 u1 u2 u3 u4 u5 u6 hW2 => ih (r + 1) z1 z2 z3 z4 z5 z6 z7 z8 z9 u1 u2 u3 u4 u5 u6 (by omega) hW2) 6 0 y3 (by omega) (fun j hj => by omega)
theorem ch_yw2 (hy : ch_yp P f_count a_kinds a_variables a_numbers a_values) (w : ch_wf P)
    (h : ∀ (f_at f_depth f_state f_steps f_product f_end f_most f_mostRow f_mostSteps : Int32) (a_begins a_left a_outcomes a_met a_sums : Nat → Int32) (a_visited : Nat → Int64), ch_WS P 4096 a_sums a_visited f_most f_mostRow f_mostSteps → post (f_height, f_count, f_open, f_at, f_depth, f_state, f_steps, f_product, f_end, f_most, f_mostRow, f_mostSteps, a_stack, a_kinds, a_variables, a_numbers, a_values, a_opened, a_begins, a_left, a_outcomes, a_met, a_sums, a_visited)) :
    ∀ (d c : Nat) (su : Nat → Int32) (vi : Nat → Int64), c + d = 64 → (∀ j, j < c → su j = 0) → (∀ j, j < 24 → j < c → vi j = 0) → wY_work_2 post f_height f_count f_open f_at f_depth f_state f_steps f_product f_end f_most f_mostRow f_mostSteps (d + 1) (nI c) a_stack a_kinds a_variables a_numbers a_values a_opened a_begins a_left a_outcomes a_met su vi := by
  have hn := w.1
  intro d
  induction d with
  | zero =>
    intro c su vi hc hs hv
    have e : c = 64 := by omega
    subst e
    refine br_t (by decide) (Exists.intro 4097 ?_)
    refine ch_yw43 hy w h 4096 0 _ _ _ _ _ _ _ _ _ _ _ _ _ _ _ (by omega) ⟨fun s hs2 => hs s hs2, fun i hi _ _ => hv i (by omega) (by omega), rfl, fun z => absurd z (Nat.lt_irrefl 0)⟩
  | succ d ih =>
    intro c su vi hc hs hv
    have hin : vp_in (nI c) 64 := vp_in_nI (by omega) (by decide)
    have hcl : (nI c).toNatClampNeg = c := nI_clamp (by omega)
    have er : nI c - nI c / 24 * 24 = nI (c % 24) := pk_rem (d := 24) (by omega) (by decide) (by decide)
    have hin2 : vp_in (nI (c % 24)) 24 := vp_in_nI (Nat.mod_lt _ (by decide)) (by decide)
    have hcl2 : (nI (c % 24)).toNatClampNeg = c % 24 := nI_clamp (by omega)
    refine br_f (nI_ge (a := c) (b := 64) (by omega) (by omega)) (And.intro hin (fun a1 e1 => And.intro (by decide) ?_))
    rw [er, hcl2]
    refine And.intro hin2 (fun a2 e2 => nm_r (nI_1 c) ?_)
    rw [hcl] at e1
    refine ih (c + 1) a1 a2 (by omega) (fun j hj => ?_) (fun j hj hj2 => ?_)
    · rw [e1]
      by_cases hjc : j = c
      · rw [hjc, pk_us]
      · rw [pk_un hjc]; exact hs j (by omega)
    · rw [e2]
      by_cases hjc : j = c % 24
      · rw [hjc, pk_uLs]
      · rw [pk_uLn hjc]
        exact hv j hj (by omega)
theorem ch_ywork (hy : ch_yp P f_count a_kinds a_variables a_numbers a_values) (w : ch_wf P)
    (h : ∀ (f_at f_depth f_state f_steps f_product f_end f_most f_mostRow f_mostSteps : Int32) (a_begins a_left a_outcomes a_met a_sums : Nat → Int32) (a_visited : Nat → Int64), ch_WS P 4096 a_sums a_visited f_most f_mostRow f_mostSteps → post (f_height, f_count, f_open, f_at, f_depth, f_state, f_steps, f_product, f_end, f_most, f_mostRow, f_mostSteps, a_stack, a_kinds, a_variables, a_numbers, a_values, a_opened, a_begins, a_left, a_outcomes, a_met, a_sums, a_visited)) : wpY_work post (f_height, f_count, f_open, f_at, f_depth, f_state, f_steps, f_product, f_end, f_most, f_mostRow, f_mostSteps, a_stack, a_kinds, a_variables, a_numbers, a_values, a_opened, a_begins, a_left, a_outcomes, a_met, a_sums, a_visited) :=
  Exists.intro 65 (ch_yw2 hy w h 64 0 a_sums a_visited (by omega) (fun j hj => by omega) (fun j _ hj => by omega))
end
theorem ch_LL_R (P : ch_P) : ch_LL P 4096 = ch_R ch_ok P := (ch_R_eq ch_ok P).symm
def ch_sum (P : ch_P) (s : Nat) : Nat := ch_bg false (ch_R ch_ok P) (fun q => ch_ws q s)
/-- the sum over the states that a question takes -/
def ch_tot (P : ch_P) (c : Nat → Bool) (N : Nat) : Nat := ch_bg false (List.range N) (fun s => if c s = true then ch_sum P s else 0)
theorem ch_tot_le {P : ch_P} (w : ch_wf P) (c : Nat → Bool) : ch_tot P c 64 ≤ 16777216 := by
  refine Nat.le_trans ?_ (ch_R_ms (al := ch_ok) w)
  unfold ch_tot
  have e1 : ∀ s, s ∈ List.range 64 → (if c s = true then ch_sum P s else 0) = ch_bg false (ch_R ch_ok P) (fun q => if c s = true then ch_ws q s else 0) := fun s _ => by
    by_cases hc : c s = true
    · rw [if_pos hc]
      refine ch_bg_cg false (fun q _ => ?_)
      rw [if_pos hc]
    · rw [if_neg hc]
      exact (ch_bg_z false (fun q _ => if_neg hc)).symm
  rw [ch_bg_cg false e1, ch_bg_ex]
  refine ch_bg_leS (fun q hq => ?_)
  have e2 : ∀ s, s ∈ List.range 64 → (if c s = true then ch_ws q s else 0) = if s = q.2.2.1 then (if c q.2.2.1 = true then ch_W q else 0) else 0 := fun s _ => by
    unfold ch_ws
    by_cases hs : s = q.2.2.1
    · rw [if_pos hs, hs, if_pos rfl]
    · have hs2 : ¬ q.2.2.1 = s := fun z => hs z.symm
      rw [if_neg hs, if_neg hs2]
      split <;> rfl
  rw [ch_bg_cg false e2, ch_bg_one]
  split
  · split
    · exact Nat.le_refl _
    · exact Nat.zero_le _
  · exact Nat.zero_le _
def ch_vin (v k w l : Nat) (s : Nat) : Bool := decide (s / 4 ^ v % 4 = k ∧ s / 4 ^ w % 4 = l)
def ch_all (_ : Nat) : Bool := true
section
variable {f_height f_count f_open f_at f_depth f_state f_steps f_product f_end f_most f_mostRow f_mostSteps : Int32} {a_stack a_kinds a_variables a_numbers a_values a_opened a_begins a_left a_outcomes a_met a_sums : Nat → Int32} {a_visited : Nat → Int64} {P : ch_P}
theorem ch_yval {post : Int32 → Prop} {s v : Nat} (hs : s < 64) (hv : v < 3) (h : post (nI (s / 4 ^ v % 4))) : wpY_valueIn post (f_height, f_count, f_open, f_at, f_depth, f_state, f_steps, f_product, f_end, f_most, f_mostRow, f_mostSteps, a_stack, a_kinds, a_variables, a_numbers, a_values, a_opened, a_begins, a_left, a_outcomes, a_met, a_sums, a_visited) (nI s) (nI v) := by
  unfold wpY_valueIn
  dsimp only
  rw [ch_val_e s hs v hv]
  exact h
theorem ch_yto6 {post : Int32 → Prop} {v k u l : Nat} (hv : v < 3) (hk : k < 4) (hu : u < 3) (hl : l < 4) (hsum : ∀ s, s < 64 → a_sums s = nI (ch_sum P s)) (h : post (nI (ch_tot P (ch_vin v k u l) 64))) :
    ∀ d s : Nat, s + d = 64 → wY_total_6 post (nI v) (nI k) (nI u) (nI l) f_height f_count f_open f_at f_depth f_state f_steps f_product f_end f_most f_mostRow f_mostSteps a_stack a_kinds a_variables a_numbers a_values a_opened a_begins a_left a_outcomes a_met a_sums a_visited (d + 1) (nI (ch_tot P (ch_vin v k u l) s)) (nI s) := by
  intro d
  induction d with
  | zero =>
    intro s hs
    have e : s = 64 := by omega
    subst e
    exact br_t (by decide) h
  | succ d ih =>
    intro s hs
    have hs64 : s < 64 := by omega
    have hin : vp_in (nI s) 64 := vp_in_nI hs64 (by decide)
    have hcl : (nI s).toNatClampNeg = s := nI_clamp (by omega)
    have hi := ih (s + 1) (by omega)
    have es : ch_tot P (ch_vin v k u l) (s + 1) = ch_tot P (ch_vin v k u l) s + (if ch_vin v k u l s = true then ch_sum P s else 0) := ch_bg_s false s _
    have b1 : s / 4 ^ v % 4 < 4 := Nat.mod_lt _ (by decide)
    have b2 : s / 4 ^ u % 4 < 4 := Nat.mod_lt _ (by decide)
    refine br_f (nI_ge (a := s) (b := 64) hs64 (by omega)) (ch_yval hs64 hv ?_)
    by_cases h1 : s / 4 ^ v % 4 = k
    · refine br_t (by rw [h1]) (ch_yval hs64 hu ?_)
      by_cases h2 : s / 4 ^ u % 4 = l
      · refine br_t (by rw [h2]) (And.intro hin ?_)
        rw [hcl, hsum s hs64]
        have hc : ch_vin v k u l s = true := decide_eq_true ⟨h1, h2⟩
        rw [es, if_pos hc] at hi
        exact nm_r (nI_add _ _) (nm_r (nI_1 s) hi)
      · have hc : ¬ ch_vin v k u l s = true := fun z => h2 (of_decide_eq_true z).2
        rw [es, if_neg hc] at hi
        exact br_f (fun z => h2 ((nI_eq (by omega) (by omega)).mp z)) (nm_r (nI_1 s) hi)
    · have hc : ¬ ch_vin v k u l s = true := fun z => h1 (of_decide_eq_true z).1
      rw [es, if_neg hc] at hi
      exact br_f (fun z => h1 ((nI_eq (by omega) (by omega)).mp z)) (nm_r (nI_1 s) hi)
theorem ch_ytotal {post : Int32 → Prop} {v k u l : Nat} (hv : v < 3) (hk : k < 4) (hu : u < 3) (hl : l < 4) (hsum : ∀ s, s < 64 → a_sums s = nI (ch_sum P s)) (h : post (nI (ch_tot P (ch_vin v k u l) 64))) : wpY_total post (f_height, f_count, f_open, f_at, f_depth, f_state, f_steps, f_product, f_end, f_most, f_mostRow, f_mostSteps, a_stack, a_kinds, a_variables, a_numbers, a_values, a_opened, a_begins, a_left, a_outcomes, a_met, a_sums, a_visited) (nI v) (nI k) (nI u) (nI l) :=
  Exists.intro 65 (ch_yto6 hv hk hu hl hsum h 64 0 (by omega))
theorem ch_ywh4 {post : Int32 → Prop} (hsum : ∀ s, s < 64 → a_sums s = nI (ch_sum P s)) (h : post (nI (ch_tot P ch_all 64))) :
    ∀ d s : Nat, s + d = 64 → wY_whole_4 post f_height f_count f_open f_at f_depth f_state f_steps f_product f_end f_most f_mostRow f_mostSteps a_stack a_kinds a_variables a_numbers a_values a_opened a_begins a_left a_outcomes a_met a_sums a_visited (d + 1) (nI (ch_tot P ch_all s)) (nI s) := by
  intro d
  induction d with
  | zero =>
    intro s hs
    have e : s = 64 := by omega
    subst e
    exact br_t (by decide) h
  | succ d ih =>
    intro s hs
    have hs64 : s < 64 := by omega
    have hin : vp_in (nI s) 64 := vp_in_nI hs64 (by decide)
    have hcl : (nI s).toNatClampNeg = s := nI_clamp (by omega)
    have hi := ih (s + 1) (by omega)
    have es : ch_tot P ch_all (s + 1) = ch_tot P ch_all s + ch_sum P s := ch_bg_s false s _
    refine br_f (nI_ge (a := s) (b := 64) hs64 (by omega)) (And.intro hin ?_)
    rw [hcl, hsum s hs64]
    rw [es] at hi
    exact nm_r (nI_add _ _) (nm_r (nI_1 s) hi)
theorem ch_ywhole {post : Int32 → Prop} (hsum : ∀ s, s < 64 → a_sums s = nI (ch_sum P s)) (h : post (nI (ch_tot P ch_all 64))) : wpY_whole post (f_height, f_count, f_open, f_at, f_depth, f_state, f_steps, f_product, f_end, f_most, f_mostRow, f_mostSteps, a_stack, a_kinds, a_variables, a_numbers, a_values, a_opened, a_begins, a_left, a_outcomes, a_met, a_sums, a_visited) :=
  Exists.intro 65 (ch_ywh4 hsum h 64 0 (by omega))
end
end
section
/-! own rows: the component's sums -/
theorem ch_s0_al {al al' : Nat → Nat → Bool} {P : ch_P} {i : Nat} {st : List (Nat × Nat)} {q : ch_Q} {o : Nat} (h : ∀ k, k < 6 → ∀ o, al k o = al' k o) : ch_s0 al P i st q o = ch_s0 al' P i st q o := by
  by_cases hi : i < ch_n P
  · by_cases hr : ch_K P i = 1 ∨ ch_K P i = 2
    · rw [ch_s0_r hi hr, ch_s0_r hi hr]
      by_cases h6 : 6 ≤ q.2.1
      · rw [if_pos h6, if_pos h6]
      · rw [h q.2.1 (by omega) o]
    · unfold ch_s0
      rw [if_neg hr, if_neg hr]
  · unfold ch_s0
    rw [if_neg hi, if_neg hi]
theorem ch_cd_al {al al' : Nat → Nat → Bool} {P : ch_P} {i : Nat} {st : List (Nat × Nat)} {q : ch_Q} (h : ∀ k, k < 6 → ∀ o, al k o = al' k o) : ch_cd al P i st q = ch_cd al' P i st q := by
  unfold ch_cd
  have e : (fun o => ch_tl (ch_s0 al P i st q o)) = fun o => ch_tl (ch_s0 al' P i st q o) := funext fun o => by rw [ch_s0_al h]
  rw [e, ch_s0_al h]
theorem ch_rs_al {al al' : Nat → Nat → Bool} {P : ch_P} (h : ∀ k, k < 6 → ∀ o, al k o = al' k o) : ∀ (T i : Nat) (st : List (Nat × Nat)) (L : List ch_Q), ch_rs al P T i st L = ch_rs al' P T i st L := by
  intro T
  induction T with
  | zero => intro i st L; rfl
  | succ T ih =>
    intro i st L
    by_cases hd : ch_n P ≤ i ∧ st.length = 0
    · rw [ch_rs_d hd, ch_rs_d hd]
    · rw [ch_rs_o hd, ch_rs_o hd, ih]
      have e : (fun q => ch_cd al P i st (ch_iq P i q)) = fun q => ch_cd al' P i st (ch_iq P i q) := funext fun q => ch_cd_al h
      rw [e]
theorem ch_R_al {al al' : Nat → Nat → Bool} {P : ch_P} (h : ∀ k, k < 6 → ∀ o, al k o = al' k o) : ch_R al P = ch_R al' P := ch_rs_al h 864 0 [] [ch_q0]
theorem ch_al_free {fo : Nat → Int32} (h : ∀ j, j < 6 → fo j = -1) : ∀ k, k < 6 → ∀ o, ch_al fo k o = ch_ok k o := fun k hk o => decide_eq_true (Or.inl (by rw [h k hk]; decide))
theorem ch_AE {P : ch_P} (w : ch_wf P) {A : Nat → Nat} (h : ch_AR false ch_v1 0 (ch_R ch_ok P) A) {s : Nat} (hs : s < 64) : ch_SS A s 7 = ch_sum P s := by
  unfold ch_SS ch_sum
  have e1 : ∀ k, k ∈ List.range 7 → A (64 * k + s) * 16 ^ (6 - k) = ch_bg false (ch_R ch_ok P) (fun q => ch_fq ch_v1 (64 * k + s) q * 16 ^ (6 - k)) := fun k hk => by
    have hk := List.mem_range.mp hk
    rw [h _ (by omega), ← ch_bg_x]
  rw [ch_bg_cg false e1, ch_bg_ex]
  refine ch_bg_cg false (fun q hq => ?_)
  have h1 := ch_R_qi w hq
  unfold ch_qi at h1
  have e2 : ∀ k, k ∈ List.range 7 → ch_fq ch_v1 (64 * k + s) q * 16 ^ (6 - k) = if k = q.2.1 then ch_ws q s else 0 := fun k hk => by
    have hk := List.mem_range.mp hk
    unfold ch_ws
    by_cases hkq : k = q.2.1
    · rw [if_pos hkq]
      by_cases hsq : q.2.2.1 = s
      · rw [if_pos hsq, ch_fq_y (by unfold ch_cl; omega), hkq]
        rfl
      · rw [if_neg hsq, ch_fq_n (by unfold ch_cl; omega), Nat.zero_mul]
    · rw [if_neg hkq, ch_fq_n (by unfold ch_cl; omega), Nat.zero_mul]
  rw [ch_bg_cg false e2, ch_bg_one, if_pos (by omega)]
theorem ch_AEv {P : ch_P} (w : ch_wf P) {wi : Nat} {B : Nat → Nat} (h : ch_AR false (ch_v2 wi) 0 (ch_R ch_ok P) B) : ch_bg false (List.range 448) (fun c => B c * 16 ^ (6 - c / 64)) = ch_bg false (ch_R ch_ok P) (ch_wv wi) := by
  have e1 : ∀ c, c ∈ List.range 448 → B c * 16 ^ (6 - c / 64) = ch_bg false (ch_R ch_ok P) (fun q => ch_fq (ch_v2 wi) c q * 16 ^ (6 - c / 64)) := fun c hc => by
    have hc := List.mem_range.mp hc
    rw [h _ (by omega), ← ch_bg_x]
  rw [ch_bg_cg false e1, ch_bg_ex]
  refine ch_bg_cg false (fun q hq => ?_)
  have h1 := ch_R_qi w hq
  unfold ch_qi at h1
  have e2 : ∀ c, c ∈ List.range 448 → ch_fq (ch_v2 wi) c q * 16 ^ (6 - c / 64) = if c = ch_cl q then ch_wv wi q else 0 := fun c hc => by
    by_cases hcq : c = ch_cl q
    · rw [if_pos hcq, ch_fq_y hcq.symm]
      have e3 : c / 64 = q.2.1 := by rw [hcq]; unfold ch_cl; omega
      rw [e3]
      show q.2.2.2.1 * q.2.2.2.2 wi * 16 ^ (6 - q.2.1) = q.2.2.2.1 * 16 ^ (6 - q.2.1) * q.2.2.2.2 wi
      rw [Nat.mul_right_comm]
    · rw [if_neg hcq, ch_fq_n (fun z => hcq z.symm), Nat.zero_mul]
  rw [ch_bg_cg false e2, ch_bg_one, if_pos (by unfold ch_cl; omega)]
theorem ch_AEm {P : ch_P} (w : ch_wf P) {al : Nat → Nat → Bool} {A : Nat → Nat} (h : ch_AR true ch_v1 0 (ch_R al P) A) : ch_bg true (List.range 448) (fun c => A c * 16 ^ (6 - c / 64)) = ch_bg true (ch_R al P) ch_W := by
  have e1 : ∀ c, c ∈ List.range 448 → A c * 16 ^ (6 - c / 64) = ch_bg true (ch_R al P) (fun q => ch_fq ch_v1 c q * 16 ^ (6 - c / 64)) := fun c hc => by
    have hc := List.mem_range.mp hc
    rw [h _ (by omega), ← ch_bg_x]
  rw [ch_bg_cg true e1, ch_bg_ex]
  refine ch_bg_cg true (fun q hq => ?_)
  have h1 := ch_R_qi w hq
  unfold ch_qi at h1
  have e2 : ∀ c, c ∈ List.range 448 → ch_fq ch_v1 c q * 16 ^ (6 - c / 64) = if c = ch_cl q then ch_W q else 0 := fun c hc => by
    by_cases hcq : c = ch_cl q
    · rw [if_pos hcq, ch_fq_y hcq.symm]
      have e3 : c / 64 = q.2.1 := by rw [hcq]; unfold ch_cl; omega
      rw [e3]
      rfl
    · rw [if_neg hcq, ch_fq_n (fun z => hcq z.symm), Nat.zero_mul]
  rw [ch_bg_cg true e2, ch_bg_one, if_pos (by unfold ch_cl; omega)]
def ch_kn2 (P : ch_P) (f_known : Int32) (a_atEnd : Nat → Int64) : Prop := ¬ f_known = 0 ∧ ∀ s, s < 64 → a_atEnd s = lN (ch_sum P s)
def ch_kn1 (P : ch_P) (f_known : Int32) (a_atEnd : Nat → Int64) : Prop := ¬ f_known = 0 → ∀ s, s < 64 → a_atEnd s = lN (ch_sum P s)
theorem ch_kn2_1 {P : ch_P} {f_known : Int32} {a_atEnd : Nat → Int64} (h : ch_kn2 P f_known a_atEnd) : ch_kn1 P f_known a_atEnd := fun _ => h.2
section
variable {f_height f_size f_opened f_level f_greatestOnly f_watched f_known : Int32} {a_lower a_upper a_low a_high a_weights a_visited a_weightHere a_visitedHere a_atEnd : Nat → Int64} {a_kind a_variable a_share a_openAt a_elseOf a_endOf a_blockAt a_rounds a_forced : Nat → Int32} {P : ch_P}
theorem ch_find {post : SX → Prop} (w : ch_wf P) (hx : ch_xp P f_size a_kind a_variable a_share a_low a_high) (hk : ch_kn1 P f_known a_atEnd)
    (h : ∀ (f_level f_greatestOnly f_watched f_known : Int32) (a_weights a_visited : Nat → Int64) (a_blockAt a_rounds a_forced : Nat → Int32) (a_weightHere a_visitedHere a_atEnd : Nat → Int64), ch_kn2 P f_known a_atEnd →
      post (f_height, f_size, f_opened, f_level, f_greatestOnly, f_watched, f_known, a_lower, a_upper, a_kind, a_variable, a_share, a_low, a_high, a_openAt, a_elseOf, a_endOf, a_weights, a_visited, a_blockAt, a_rounds, a_forced, a_weightHere, a_visitedHere, a_atEnd)) : wpX_find post (f_height, f_size, f_opened, f_level, f_greatestOnly, f_watched, f_known, a_lower, a_upper, a_kind, a_variable, a_share, a_low, a_high, a_openAt, a_elseOf, a_endOf, a_weights, a_visited, a_blockAt, a_rounds, a_forced, a_weightHere, a_visitedHere, a_atEnd) := by
  have hs := hx.1
  subst hs
  refine br_c (fun h0 => ?_) (fun h0 => h _ _ _ _ _ _ _ _ _ _ _ _ ⟨h0, hk h0⟩)
  refine ch_letAll (fun fo hfo => ch_carryOut false 99 w hx (fun j hj => ⟨fun z => absurd z (ch_neg1 (by omega)), fun z => by omega⟩) (fun z => nomatch z) (fun A' B' ba' ro' wh' vh' hA hB => ?_))
  rw [ch_R_al (ch_al_free hfo)] at hA
  refine Exists.intro 65 (ch_fi23 (fun ae hae => h _ _ _ _ _ _ _ _ _ _ _ _ ⟨by decide, fun s hs => ?_⟩) 64 0 a_atEnd (by omega) (fun j hj => by omega))
  rw [hae s hs, ch_AE w hA hs]
theorem ch_su8 {post : Int64 → SX → Prop} (hat : ∀ s, s < 64 → a_atEnd s = lN (ch_sum P s)) (h : post (lN (ch_tot P ch_all 64)) (f_height, f_size, f_opened, f_level, f_greatestOnly, f_watched, f_known, a_lower, a_upper, a_kind, a_variable, a_share, a_low, a_high, a_openAt, a_elseOf, a_endOf, a_weights, a_visited, a_blockAt, a_rounds, a_forced, a_weightHere, a_visitedHere, a_atEnd)) :
    ∀ d s : Nat, s + d = 64 → wX_sum_8 post f_height f_size f_opened f_level f_greatestOnly f_watched f_known a_lower a_upper a_kind a_variable a_share a_low a_high a_openAt a_elseOf a_endOf a_weights a_visited a_blockAt a_rounds a_forced a_weightHere a_visitedHere a_atEnd (d + 1) (lN (ch_tot P ch_all s)) (nI s) := by
  intro d
  induction d with
  | zero =>
    intro s hs
    have e : s = 64 := by omega
    subst e
    exact br_t (by decide) h
  | succ d ih =>
    intro s hs
    have hs64 : s < 64 := by omega
    have hin : vp_in (nI s) 64 := vp_in_nI hs64 (by decide)
    have hcl : (nI s).toNatClampNeg = s := nI_clamp (by omega)
    have hi := ih (s + 1) (by omega)
    have es : ch_tot P ch_all (s + 1) = ch_tot P ch_all s + ch_sum P s := ch_bg_s false s _
    refine br_f (nI_ge (a := s) (b := 64) hs64 (by omega)) (And.intro hin ?_)
    rw [hcl, hat s hs64]
    rw [es] at hi
    exact nm_r (lN_add _ _) (nm_r (nI_1 s) hi)
theorem ch_xsum {post : Int64 → SX → Prop} (w : ch_wf P) (hx : ch_xp P f_size a_kind a_variable a_share a_low a_high) (hk : ch_kn1 P f_known a_atEnd)
    (h : ∀ (f_level f_greatestOnly f_watched f_known : Int32) (a_weights a_visited : Nat → Int64) (a_blockAt a_rounds a_forced : Nat → Int32) (a_weightHere a_visitedHere a_atEnd : Nat → Int64), ch_kn2 P f_known a_atEnd →
      post (lN (ch_tot P ch_all 64)) (f_height, f_size, f_opened, f_level, f_greatestOnly, f_watched, f_known, a_lower, a_upper, a_kind, a_variable, a_share, a_low, a_high, a_openAt, a_elseOf, a_endOf, a_weights, a_visited, a_blockAt, a_rounds, a_forced, a_weightHere, a_visitedHere, a_atEnd)) : wpX_sum post (f_height, f_size, f_opened, f_level, f_greatestOnly, f_watched, f_known, a_lower, a_upper, a_kind, a_variable, a_share, a_low, a_high, a_openAt, a_elseOf, a_endOf, a_weights, a_visited, a_blockAt, a_rounds, a_forced, a_weightHere, a_visitedHere, a_atEnd) :=
  ch_find w hx hk (fun _ _ _ _ _ _ _ _ _ _ _ _ hk2 => Exists.intro 65 (ch_su8 hk2.2 (h _ _ _ _ _ _ _ _ _ _ _ _ hk2) 64 0 (by omega)))
theorem ch_xval {post : Int32 → Prop} {s v : Nat} (hs : s < 64) (hv : v < 3) (h : post (nI (s / 4 ^ v % 4))) : wpX_valueIn post (nI s) (nI v) := by
  unfold wpX_valueIn
  rw [ch_val_e s hs v hv]
  exact h
theorem ch_so10 {post : Int64 → SX → Prop} {v k u l : Nat} (hv : v < 3) (hk : k < 4) (hu : u < 3) (hl : l < 4) (hat : ∀ s, s < 64 → a_atEnd s = lN (ch_sum P s)) (h : post (lN (ch_tot P (ch_vin v k u l) 64)) (f_height, f_size, f_opened, f_level, f_greatestOnly, f_watched, f_known, a_lower, a_upper, a_kind, a_variable, a_share, a_low, a_high, a_openAt, a_elseOf, a_endOf, a_weights, a_visited, a_blockAt, a_rounds, a_forced, a_weightHere, a_visitedHere, a_atEnd)) :
    ∀ d s : Nat, s + d = 64 → wX_sumOf_10 post (nI v) (nI k) (nI u) (nI l) f_height f_size f_opened f_level f_greatestOnly f_watched f_known a_lower a_upper a_kind a_variable a_share a_low a_high a_openAt a_elseOf a_endOf a_weights a_visited a_blockAt a_rounds a_forced a_weightHere a_visitedHere a_atEnd (d + 1) (lN (ch_tot P (ch_vin v k u l) s)) (nI s) := by
  intro d
  induction d with
  | zero =>
    intro s hs
    have e : s = 64 := by omega
    subst e
    exact br_t (by decide) h
  | succ d ih =>
    intro s hs
    have hs64 : s < 64 := by omega
    have hin : vp_in (nI s) 64 := vp_in_nI hs64 (by decide)
    have hcl : (nI s).toNatClampNeg = s := nI_clamp (by omega)
    have hi := ih (s + 1) (by omega)
    have es : ch_tot P (ch_vin v k u l) (s + 1) = ch_tot P (ch_vin v k u l) s + (if ch_vin v k u l s = true then ch_sum P s else 0) := ch_bg_s false s _
    have b1 : s / 4 ^ v % 4 < 4 := Nat.mod_lt _ (by decide)
    have b2 : s / 4 ^ u % 4 < 4 := Nat.mod_lt _ (by decide)
    have e0 : ∀ x : Nat, lN x + 0 = lN (x + 0) := fun x => lN_add x 0
    refine br_f (nI_ge (a := s) (b := 64) hs64 (by omega)) (ch_xval hs64 hv (ch_xval hs64 hu ?_))
    by_cases h1 : s / 4 ^ v % 4 = k
    · refine br_t (by rw [h1]) ?_
      by_cases h2 : s / 4 ^ u % 4 = l
      · refine br_t (by rw [h2]) (And.intro hin ?_)
        rw [hcl, hat s hs64]
        have hc : ch_vin v k u l s = true := decide_eq_true ⟨h1, h2⟩
        rw [es, if_pos hc] at hi
        exact nm_r (lN_add _ _) (nm_r (nI_1 s) hi)
      · have hc : ¬ ch_vin v k u l s = true := fun z => h2 (of_decide_eq_true z).2
        rw [es, if_neg hc] at hi
        exact br_f (fun z => h2 ((nI_eq (by omega) (by omega)).mp z)) (nm_r (e0 _) (nm_r (nI_1 s) hi))
    · have hc : ¬ ch_vin v k u l s = true := fun z => h1 (of_decide_eq_true z).1
      rw [es, if_neg hc] at hi
      exact br_f (fun z => h1 ((nI_eq (by omega) (by omega)).mp z)) (nm_r (e0 _) (nm_r (nI_1 s) hi))
theorem ch_xsumOf {post : Int64 → SX → Prop} {v k u l : Nat} (hv : v < 3) (hkk : k < 4) (hu : u < 3) (hl : l < 4) (w : ch_wf P) (hx : ch_xp P f_size a_kind a_variable a_share a_low a_high) (hk : ch_kn1 P f_known a_atEnd)
    (h : ∀ (f_level f_greatestOnly f_watched f_known : Int32) (a_weights a_visited : Nat → Int64) (a_blockAt a_rounds a_forced : Nat → Int32) (a_weightHere a_visitedHere a_atEnd : Nat → Int64), ch_kn2 P f_known a_atEnd →
      post (lN (ch_tot P (ch_vin v k u l) 64)) (f_height, f_size, f_opened, f_level, f_greatestOnly, f_watched, f_known, a_lower, a_upper, a_kind, a_variable, a_share, a_low, a_high, a_openAt, a_elseOf, a_endOf, a_weights, a_visited, a_blockAt, a_rounds, a_forced, a_weightHere, a_visitedHere, a_atEnd)) : wpX_sumOf post (f_height, f_size, f_opened, f_level, f_greatestOnly, f_watched, f_known, a_lower, a_upper, a_kind, a_variable, a_share, a_low, a_high, a_openAt, a_elseOf, a_endOf, a_weights, a_visited, a_blockAt, a_rounds, a_forced, a_weightHere, a_visitedHere, a_atEnd) (nI v) (nI k) (nI u) (nI l) :=
  ch_find w hx hk (fun _ _ _ _ _ _ _ _ _ _ _ _ hk2 => Exists.intro 65 (ch_so10 hv hkk hu hl hk2.2 (h _ _ _ _ _ _ _ _ _ _ _ _ hk2) 64 0 (by omega)))
end
end
section
/-! own rows: the relation -/
def ch_OA : List (Nat × Nat) → (Nat → Int32) → Prop
  | [], _ => True
  | e :: l, oa => oa l.length = nI e.1 ∧ ch_OA l oa
def ch_EO (P : ch_P) (a_elseOf a_endOf : Nat → Int32) : Prop := ∀ b, b < ch_n P → (ch_K P b = 4 ∨ ch_K P b = 6) →
  a_endOf b = (if ch_fd P false b < ch_n P then nI (ch_fd P false b) else -1) ∧ (ch_K P b = 4 → a_elseOf b = (if ch_fd P true b < ch_n P ∧ ch_K P (ch_fd P true b) = 5 then nI (ch_fd P true b) else -1))
def ch_sk (ht : Nat) (a_lower a_upper : Nat → Int64) (ya_stack : Nat → Int32) : Prop := ∀ e s, e < ht → s < 64 → ya_stack (64 * e + s) = nI (ch_v (a_lower e) (a_upper e) s)
def ch_op3 (P : ch_P) (f_opened : Int32) (a_openAt a_elseOf a_endOf : Nat → Int32) : Prop := f_opened = nI (ch_st P (ch_n P)).length ∧ ch_OA (ch_st P (ch_n P)) a_openAt ∧ ch_EO P a_elseOf a_endOf
def ch_Rl (P : ch_P) (ht : Nat) (f_height f_size f_opened f_known : Int32) (a_lower a_upper : Nat → Int64) (a_kind a_variable a_share : Nat → Int32) (a_low a_high : Nat → Int64) (a_openAt a_elseOf a_endOf : Nat → Int32) (a_atEnd : Nat → Int64) (yf_height yf_count : Int32) (ya_stack ya_kinds ya_variables ya_numbers ya_values : Nat → Int32) : Prop :=
  ch_wf P ∧ ht ≤ 6 ∧ f_height = nI ht ∧ yf_height = nI ht ∧ ch_xp P f_size a_kind a_variable a_share a_low a_high ∧ ch_yp P yf_count ya_kinds ya_variables ya_numbers ya_values ∧ ch_sk ht a_lower a_upper ya_stack ∧ ch_op3 P f_opened a_openAt a_elseOf a_endOf ∧ ch_kn1 P f_known a_atEnd
def i_Rel (_ : Nat) (u : SX) (v : SY) : Prop := match u with
  | (f_height, f_size, f_opened, f_level, f_greatestOnly, f_watched, f_known, a_lower, a_upper, a_kind, a_variable, a_share, a_low, a_high, a_openAt, a_elseOf, a_endOf, a_weights, a_visited, a_blockAt, a_rounds, a_forced, a_weightHere, a_visitedHere, a_atEnd) => match v with
    | (yf_height, yf_count, yf_open, yf_at, yf_depth, yf_state, yf_steps, yf_product, yf_end, yf_most, yf_mostRow, yf_mostSteps, ya_stack, ya_kinds, ya_variables, ya_numbers, ya_values, ya_opened, ya_begins, ya_left, ya_outcomes, ya_met, ya_sums, ya_visited) => ∃ P ht, ch_Rl P ht f_height f_size f_opened f_known a_lower a_upper a_kind a_variable a_share a_low a_high a_openAt a_elseOf a_endOf a_atEnd yf_height yf_count ya_stack ya_kinds ya_variables ya_numbers ya_values
theorem i_up {k : Nat} {u : SX} {v : SY} (h : i_Rel k u v) : i_Rel (k + 5) u v := h
theorem ch_el {k : Nat} {Q : SX → SY → Prop} {u : SX} {v : SY} (h : ∀ (f_height : Int32) (f_size : Int32) (f_opened : Int32) (f_level : Int32) (f_greatestOnly : Int32) (f_watched : Int32) (f_known : Int32) (a_lower : Nat → Int64) (a_upper : Nat → Int64) (a_kind : Nat → Int32) (a_variable : Nat → Int32) (a_share : Nat → Int32) (a_low : Nat → Int64) (a_high : Nat → Int64) (a_openAt : Nat → Int32) (a_elseOf : Nat → Int32) (a_endOf : Nat → Int32) (a_weights : Nat → Int64) (a_visited : Nat → Int64) (a_blockAt : Nat → Int32) (a_rounds : Nat → Int32) (a_forced : Nat → Int32) (a_weightHere : Nat → Int64) (a_visitedHere : Nat → Int64) (a_atEnd : Nat → Int64) (yf_height : Int32) (yf_count : Int32) (yf_open : Int32) (yf_at : Int32) (yf_depth : Int32) (yf_state : Int32) (yf_steps : Int32) (yf_product : Int32) (yf_end : Int32) (yf_most : Int32) (yf_mostRow : Int32) (yf_mostSteps : Int32) (ya_stack : Nat → Int32) (ya_kinds : Nat → Int32) (ya_variables : Nat → Int32) (ya_numbers : Nat → Int32) (ya_values : Nat → Int32) (ya_opened : Nat → Int32) (ya_begins : Nat → Int32) (ya_left : Nat → Int32) (ya_outcomes : Nat → Int32) (ya_met : Nat → Int32) (ya_sums : Nat → Int32) (ya_visited : Nat → Int64) (P : ch_P) (ht : Nat), ch_Rl P ht f_height f_size f_opened f_known a_lower a_upper a_kind a_variable a_share a_low a_high a_openAt a_elseOf a_endOf a_atEnd yf_height yf_count ya_stack ya_kinds ya_variables ya_numbers ya_values → Q (f_height, f_size, f_opened, f_level, f_greatestOnly, f_watched, f_known, a_lower, a_upper, a_kind, a_variable, a_share, a_low, a_high, a_openAt, a_elseOf, a_endOf, a_weights, a_visited, a_blockAt, a_rounds, a_forced, a_weightHere, a_visitedHere, a_atEnd) (yf_height, yf_count, yf_open, yf_at, yf_depth, yf_state, yf_steps, yf_product, yf_end, yf_most, yf_mostRow, yf_mostSteps, ya_stack, ya_kinds, ya_variables, ya_numbers, ya_values, ya_opened, ya_begins, ya_left, ya_outcomes, ya_met, ya_sums, ya_visited)) (I : i_Rel k u v) : Q u v :=
  match u, v, I with
  | (f_height, f_size, f_opened, f_level, f_greatestOnly, f_watched, f_known, a_lower, a_upper, a_kind, a_variable, a_share, a_low, a_high, a_openAt, a_elseOf, a_endOf, a_weights, a_visited, a_blockAt, a_rounds, a_forced, a_weightHere, a_visitedHere, a_atEnd), (yf_height, yf_count, yf_open, yf_at, yf_depth, yf_state, yf_steps, yf_product, yf_end, yf_most, yf_mostRow, yf_mostSteps, ya_stack, ya_kinds, ya_variables, ya_numbers, ya_values, ya_opened, ya_begins, ya_left, ya_outcomes, ya_met, ya_sums, ya_visited), ⟨P, ht, hR⟩ => h _ _ _ _ _ _ _ _ _ _ _ _ _ _ _ _ _ _ _ _ _ _ _ _ _ _ _ _ _ _ _ _ _ _ _ _ _ _ _ _ _ _ _ _ _ _ _ _ _ P ht hR
theorem ch_inR {k : Nat} {f_height f_size f_opened f_level f_greatestOnly f_watched f_known : Int32} {a_lower a_upper a_low a_high a_weights a_visited a_weightHere a_visitedHere a_atEnd : Nat → Int64} {a_kind a_variable a_share a_openAt a_elseOf a_endOf a_blockAt a_rounds a_forced : Nat → Int32} {yf_height yf_count yf_open yf_at yf_depth yf_state yf_steps yf_product yf_end yf_most yf_mostRow yf_mostSteps : Int32} {ya_stack ya_kinds ya_variables ya_numbers ya_values ya_opened ya_begins ya_left ya_outcomes ya_met ya_sums : Nat → Int32} {ya_visited : Nat → Int64} {P : ch_P} {ht : Nat} (h : ch_Rl P ht f_height f_size f_opened f_known a_lower a_upper a_kind a_variable a_share a_low a_high a_openAt a_elseOf a_endOf a_atEnd yf_height yf_count ya_stack ya_kinds ya_variables ya_numbers ya_values) : i_Rel k (f_height, f_size, f_opened, f_level, f_greatestOnly, f_watched, f_known, a_lower, a_upper, a_kind, a_variable, a_share, a_low, a_high, a_openAt, a_elseOf, a_endOf, a_weights, a_visited, a_blockAt, a_rounds, a_forced, a_weightHere, a_visitedHere, a_atEnd) (yf_height, yf_count, yf_open, yf_at, yf_depth, yf_state, yf_steps, yf_product, yf_end, yf_most, yf_mostRow, yf_mostSteps, ya_stack, ya_kinds, ya_variables, ya_numbers, ya_values, ya_opened, ya_begins, ya_left, ya_outcomes, ya_met, ya_sums, ya_visited) := ⟨P, ht, h⟩
theorem ch_isv (p : Int32) : (∃ v, v < 3 ∧ p = nI v) ∨ (p < 0 ∨ 2 < p) := by
  by_cases h : p < 0
  · exact Or.inr (Or.inl h)
  · by_cases h2 : 2 < p
    · exact Or.inr (Or.inr h2)
    · obtain ⟨j, hj, e⟩ := nI_of2 (M := 2) (n := 2) (by decide) h (Int32.not_lt.mp h2)
      exact Or.inl ⟨j, by omega, e⟩
theorem ch_isk (p : Int32) : (∃ v, v < 4 ∧ p = nI v) ∨ (p < 0 ∨ 3 < p) := by
  by_cases h : p < 0
  · exact Or.inr (Or.inl h)
  · by_cases h2 : 3 < p
    · exact Or.inr (Or.inr h2)
    · obtain ⟨j, hj, e⟩ := nI_of2 (M := 3) (n := 3) (by decide) h (Int32.not_lt.mp h2)
      exact Or.inl ⟨j, by omega, e⟩
theorem ch_b0 {p : Int32} {c : Int32} {A : Prop} {B : Prop} (h : p < 0 ∨ c < p) (a : A) : (p < 0 → A) ∧ (¬ p < 0 → ((c < p → A) ∧ (¬ c < p → B))) := by
  by_cases h0 : p < 0
  · exact br_t h0 a
  · exact br_f h0 (br_t (h.resolve_left h0) a)
theorem ch_b1 {v c : Nat} {A B : Prop} (hv : v ≤ c) (hc : c < 2 ^ 31) (b : B) : (nI v < 0 → A) ∧ (¬ nI v < 0 → ((nI c < nI v → A) ∧ (¬ nI c < nI v → B))) :=
  br_f (nI_pos (by omega)) (br_f (nI_nlt hv hc) b)
theorem ch_xv1 {post : Int32 → Prop} {v : Nat} (hv : v < 3) (h : post 1) : wpX_isVariable post (nI v) := ch_b1 (c := 2) (by omega) (by decide) h
theorem ch_xv0 {post : Int32 → Prop} {p : Int32} (hp : p < 0 ∨ 2 < p) (h : post 0) : wpX_isVariable post p := ch_b0 hp h
theorem ch_xk1 {post : Int32 → Prop} {v : Nat} (hv : v < 4) (h : post 1) : wpX_isValue post (nI v) := ch_b1 (c := 3) (by omega) (by decide) h
theorem ch_xk0 {post : Int32 → Prop} {p : Int32} (hp : p < 0 ∨ 3 < p) (h : post 0) : wpX_isValue post p := ch_b0 hp h
section
variable {f_height f_count f_open f_at f_depth f_state f_steps f_product f_end f_most f_mostRow f_mostSteps : Int32} {a_stack a_kinds a_variables a_numbers a_values a_opened a_begins a_left a_outcomes a_met a_sums : Nat → Int32} {a_visited : Nat → Int64}
theorem ch_yv1 {post : Int32 → Prop} {v : Nat} (hv : v < 3) (h : post 1) : wpY_isVariable post (f_height, f_count, f_open, f_at, f_depth, f_state, f_steps, f_product, f_end, f_most, f_mostRow, f_mostSteps, a_stack, a_kinds, a_variables, a_numbers, a_values, a_opened, a_begins, a_left, a_outcomes, a_met, a_sums, a_visited) (nI v) := ch_b1 (c := 2) (by omega) (by decide) h
theorem ch_yv0 {post : Int32 → Prop} {p : Int32} (hp : p < 0 ∨ 2 < p) (h : post 0) : wpY_isVariable post (f_height, f_count, f_open, f_at, f_depth, f_state, f_steps, f_product, f_end, f_most, f_mostRow, f_mostSteps, a_stack, a_kinds, a_variables, a_numbers, a_values, a_opened, a_begins, a_left, a_outcomes, a_met, a_sums, a_visited) p := ch_b0 hp h
theorem ch_yk1 {post : Int32 → Prop} {v : Nat} (hv : v < 4) (h : post 1) : wpY_isValue post (f_height, f_count, f_open, f_at, f_depth, f_state, f_steps, f_product, f_end, f_most, f_mostRow, f_mostSteps, a_stack, a_kinds, a_variables, a_numbers, a_values, a_opened, a_begins, a_left, a_outcomes, a_met, a_sums, a_visited) (nI v) := ch_b1 (c := 3) (by omega) (by decide) h
theorem ch_yk0 {post : Int32 → Prop} {p : Int32} (hp : p < 0 ∨ 3 < p) (h : post 0) : wpY_isValue post (f_height, f_count, f_open, f_at, f_depth, f_state, f_steps, f_product, f_end, f_most, f_mostRow, f_mostSteps, a_stack, a_kinds, a_variables, a_numbers, a_values, a_opened, a_begins, a_left, a_outcomes, a_met, a_sums, a_visited) p := ch_b0 hp h
end
theorem ch_WSs {P : ch_P} {sums : Nat → Int32} {vis : Nat → Int64} {mo mr ms : Int32} (h : ch_WS P 4096 sums vis mo mr ms) : ∀ s, s < 64 → sums s = nI (ch_sum P s) := fun s hs => by
  rw [h.1 s hs, ch_LL_R]
  rfl
end
section
/-! own rows: weights, joint weights, expected values -/
theorem i_vc_weight {k : Nat} {u : SX} {v : SY} (I : i_Rel k u v) (hk : k + 5 ≤ 2560) : wpX_weight (fun r u' => wpY_weight (fun r' v' => r' = r ∧ i_Rel (k + 5) u' v') v) u := by
  refine ch_el (Q := fun u v => wpX_weight (fun r u' => wpY_weight (fun r' v' => r' = r ∧ i_Rel (k + 5) u' v') v) u) ?_ I
  intro f_height f_size f_opened f_level f_greatestOnly f_watched f_known a_lower a_upper a_kind a_variable a_share a_low a_high a_openAt a_elseOf a_endOf a_weights a_visited a_blockAt a_rounds a_forced a_weightHere a_visitedHere a_atEnd yf_height yf_count yf_open yf_at yf_depth yf_state yf_steps yf_product yf_end yf_most yf_mostRow yf_mostSteps ya_stack ya_kinds ya_variables ya_numbers ya_values ya_opened ya_begins ya_left ya_outcomes ya_met ya_sums ya_visited P ht hR
  have hR0 := hR
  obtain ⟨w, hht, hh, hyh, hx, hy, hst, hop, hk1⟩ := hR
  unfold wpX_weight
  refine ch_xsum w hx hk1 (fun _ _ _ _ _ _ _ _ _ _ _ _ hk2 => ?_)
  unfold wpY_weight
  refine ch_ywork hy w (fun _ _ _ _ _ _ _ _ _ _ _ _ _ _ _ hWS => ch_ywhole (ch_WSs hWS) ?_)
  exact ⟨(lN_i _).symm, ch_inR ⟨w, hht, hh, hyh, hx, hy, hst, hop, ch_kn2_1 hk2⟩⟩
def ch_bad (p0 p1 p2 p3 : Int32) : Prop := (p0 < 0 ∨ 2 < p0) ∨ (p1 < 0 ∨ 3 < p1) ∨ (p2 < 0 ∨ 2 < p2) ∨ (p3 < 0 ∨ 3 < p3)
theorem ch_gob (p0 p1 p2 p3 : Int32) : (∃ a b c d, a < 3 ∧ b < 4 ∧ c < 3 ∧ d < 4 ∧ p0 = nI a ∧ p1 = nI b ∧ p2 = nI c ∧ p3 = nI d) ∨ ch_bad p0 p1 p2 p3 := by
  rcases ch_isv p0 with ⟨a, ha, e0⟩ | h0
  · rcases ch_isk p1 with ⟨b, hb, e1⟩ | h1
    · rcases ch_isv p2 with ⟨c, hc, e2⟩ | h2
      · rcases ch_isk p3 with ⟨d, hd, e3⟩ | h3
        · exact Or.inl ⟨a, b, c, d, ha, hb, hc, hd, e0, e1, e2, e3⟩
        · exact Or.inr (Or.inr (Or.inr (Or.inr h3)))
      · exact Or.inr (Or.inr (Or.inr (Or.inl h2)))
    · exact Or.inr (Or.inr (Or.inl h1))
  · exact Or.inr (Or.inl h0)
section
variable {f_height f_size f_opened f_level f_greatestOnly f_watched f_known : Int32} {a_lower a_upper a_low a_high a_weights a_visited a_weightHere a_visitedHere a_atEnd : Nat → Int64} {a_kind a_variable a_share a_openAt a_elseOf a_endOf a_blockAt a_rounds a_forced : Nat → Int32} {P : ch_P}
theorem ch_xj0 {post : Int32 → SX → Prop} {p0 p1 p2 p3 : Int32} (hb : ch_bad p0 p1 p2 p3) (h : post (-1) (f_height, f_size, f_opened, f_level, f_greatestOnly, f_watched, f_known, a_lower, a_upper, a_kind, a_variable, a_share, a_low, a_high, a_openAt, a_elseOf, a_endOf, a_weights, a_visited, a_blockAt, a_rounds, a_forced, a_weightHere, a_visitedHere, a_atEnd)) : wpX_joint post (f_height, f_size, f_opened, f_level, f_greatestOnly, f_watched, f_known, a_lower, a_upper, a_kind, a_variable, a_share, a_low, a_high, a_openAt, a_elseOf, a_endOf, a_weights, a_visited, a_blockAt, a_rounds, a_forced, a_weightHere, a_visitedHere, a_atEnd) p0 p1 p2 p3 := by
  unfold wpX_joint
  rcases ch_isv p0 with ⟨a, ha, rfl⟩ | h0
  · refine ch_xv1 ha (br_f (by decide) ?_)
    rcases ch_isk p1 with ⟨b, hb1, rfl⟩ | h1
    · refine ch_xk1 hb1 (br_f (by decide) ?_)
      rcases ch_isv p2 with ⟨c, hc, rfl⟩ | h2
      · refine ch_xv1 hc (br_f (by decide) ?_)
        rcases ch_isk p3 with ⟨d, hd, rfl⟩ | h3
        · have n1 := nI_pos (n := a) (by omega)
          have n2 := nI_pos (n := b) (by omega)
          have n3 := nI_pos (n := c) (by omega)
          have n4 := nI_pos (n := d) (by omega)
          have m1 := nI_nlt (a := 2) (b := a) (by omega) (by decide)
          have m2 := nI_nlt (a := 3) (b := b) (by omega) (by decide)
          have m3 := nI_nlt (a := 2) (b := c) (by omega) (by decide)
          have m4 := nI_nlt (a := 3) (b := d) (by omega) (by decide)
          rcases hb with hb | hb | hb | hb
          · exact (hb.elim n1 m1).elim
          · exact (hb.elim n2 m2).elim
          · exact (hb.elim n3 m3).elim
          · exact (hb.elim n4 m4).elim
        · exact ch_xk0 h3 (br_t rfl h)
      · exact ch_xv0 h2 (br_t rfl h)
    · exact ch_xk0 h1 (br_t rfl h)
  · exact ch_xv0 h0 (br_t rfl h)
theorem ch_xj1 {post : Int32 → SX → Prop} {a b c d : Nat} (ha : a < 3) (hb : b < 4) (hc : c < 3) (hd : d < 4) (w : ch_wf P) (hx : ch_xp P f_size a_kind a_variable a_share a_low a_high) (hk : ch_kn1 P f_known a_atEnd)
    (h : ∀ (f_level f_greatestOnly f_watched f_known : Int32) (a_weights a_visited : Nat → Int64) (a_blockAt a_rounds a_forced : Nat → Int32) (a_weightHere a_visitedHere a_atEnd : Nat → Int64), ch_kn2 P f_known a_atEnd → post (nI (ch_tot P (ch_vin a b c d) 64)) (f_height, f_size, f_opened, f_level, f_greatestOnly, f_watched, f_known, a_lower, a_upper, a_kind, a_variable, a_share, a_low, a_high, a_openAt, a_elseOf, a_endOf, a_weights, a_visited, a_blockAt, a_rounds, a_forced, a_weightHere, a_visitedHere, a_atEnd)) : wpX_joint post (f_height, f_size, f_opened, f_level, f_greatestOnly, f_watched, f_known, a_lower, a_upper, a_kind, a_variable, a_share, a_low, a_high, a_openAt, a_elseOf, a_endOf, a_weights, a_visited, a_blockAt, a_rounds, a_forced, a_weightHere, a_visitedHere, a_atEnd) (nI a) (nI b) (nI c) (nI d) := by
  unfold wpX_joint
  refine ch_xv1 ha (br_f (by decide) (ch_xk1 hb (br_f (by decide) (ch_xv1 hc (br_f (by decide) (ch_xk1 hd (br_f (by decide) ?_)))))))
  refine ch_xsumOf ha hb hc hd w hx hk (fun _ _ _ _ _ _ _ _ _ _ _ _ hk2 => ?_)
  show post (lN (ch_tot P (ch_vin a b c d) 64)).toInt32 _
  rw [lN_i]
  exact h _ _ _ _ _ _ _ _ _ _ _ _ hk2
theorem ch_xw {post : Int32 → SX → Prop} {p0 p1 : Int32} (h : wpX_joint post (f_height, f_size, f_opened, f_level, f_greatestOnly, f_watched, f_known, a_lower, a_upper, a_kind, a_variable, a_share, a_low, a_high, a_openAt, a_elseOf, a_endOf, a_weights, a_visited, a_blockAt, a_rounds, a_forced, a_weightHere, a_visitedHere, a_atEnd) p0 p1 p0 p1) : wpX_weightOf post (f_height, f_size, f_opened, f_level, f_greatestOnly, f_watched, f_known, a_lower, a_upper, a_kind, a_variable, a_share, a_low, a_high, a_openAt, a_elseOf, a_endOf, a_weights, a_visited, a_blockAt, a_rounds, a_forced, a_weightHere, a_visitedHere, a_atEnd) p0 p1 := by
  unfold wpX_weightOf
  unfold wpX_joint at h
  rcases ch_isv p0 with ⟨a, ha, rfl⟩ | h0
  · have hn : ¬ nI a < 0 := nI_pos (by omega)
    have hn2 : ¬ (2 : Int32) < nI a := nI_nlt (a := 2) (b := a) (by omega) (by decide)
    refine ch_xv1 ha (br_f (by decide) ?_)
    have h1 := ((h.2 hn).2 hn2).2 (by decide)
    rcases ch_isk p1 with ⟨b, hb, rfl⟩ | hk
    · have hm : ¬ nI b < 0 := nI_pos (by omega)
      have hm2 : ¬ (3 : Int32) < nI b := nI_nlt (a := 3) (b := b) (by omega) (by decide)
      refine ch_xk1 hb (br_f (by decide) ?_)
      have h2 := ((h1.2 hm).2 hm2).2 (by decide)
      have h3 := ((h2.2 hn).2 hn2).2 (by decide)
      exact ((h3.2 hm).2 hm2).2 (by decide)
    · refine ch_xk0 hk (br_t rfl ?_)
      by_cases hk0 : p1 < 0
      · exact (h1.1 hk0).1 rfl
      · exact ((h1.2 hk0).1 (hk.resolve_left hk0)).1 rfl
  · refine ch_xv0 h0 (br_t rfl ?_)
    by_cases hk0 : p0 < 0
    · exact (h.1 hk0).1 rfl
    · exact ((h.2 hk0).1 (h0.resolve_left hk0)).1 rfl
end
section
variable {f_height f_count f_open f_at f_depth f_state f_steps f_product f_end f_most f_mostRow f_mostSteps : Int32} {a_stack a_kinds a_variables a_numbers a_values a_opened a_begins a_left a_outcomes a_met a_sums : Nat → Int32} {a_visited : Nat → Int64} {P : ch_P}
theorem ch_yj0 {post : Int32 → SY → Prop} {p0 p1 p2 p3 : Int32} (hb : ch_bad p0 p1 p2 p3) (h : post (-1) (f_height, f_count, f_open, f_at, f_depth, f_state, f_steps, f_product, f_end, f_most, f_mostRow, f_mostSteps, a_stack, a_kinds, a_variables, a_numbers, a_values, a_opened, a_begins, a_left, a_outcomes, a_met, a_sums, a_visited)) : wpY_joint post (f_height, f_count, f_open, f_at, f_depth, f_state, f_steps, f_product, f_end, f_most, f_mostRow, f_mostSteps, a_stack, a_kinds, a_variables, a_numbers, a_values, a_opened, a_begins, a_left, a_outcomes, a_met, a_sums, a_visited) p0 p1 p2 p3 := by
  unfold wpY_joint
  rcases ch_isv p0 with ⟨a, ha, rfl⟩ | h0
  · refine ch_yv1 ha (br_f (by decide) ?_)
    rcases ch_isk p1 with ⟨b, hb1, rfl⟩ | h1
    · refine ch_yk1 hb1 (br_f (by decide) ?_)
      rcases ch_isv p2 with ⟨c, hc, rfl⟩ | h2
      · refine ch_yv1 hc (br_f (by decide) ?_)
        rcases ch_isk p3 with ⟨d, hd, rfl⟩ | h3
        · have n1 := nI_pos (n := a) (by omega)
          have n2 := nI_pos (n := b) (by omega)
          have n3 := nI_pos (n := c) (by omega)
          have n4 := nI_pos (n := d) (by omega)
          have m1 := nI_nlt (a := 2) (b := a) (by omega) (by decide)
          have m2 := nI_nlt (a := 3) (b := b) (by omega) (by decide)
          have m3 := nI_nlt (a := 2) (b := c) (by omega) (by decide)
          have m4 := nI_nlt (a := 3) (b := d) (by omega) (by decide)
          rcases hb with hb | hb | hb | hb
          · exact (hb.elim n1 m1).elim
          · exact (hb.elim n2 m2).elim
          · exact (hb.elim n3 m3).elim
          · exact (hb.elim n4 m4).elim
        · exact ch_yk0 h3 (br_t rfl h)
      · exact ch_yv0 h2 (br_t rfl h)
    · exact ch_yk0 h1 (br_t rfl h)
  · exact ch_yv0 h0 (br_t rfl h)
theorem ch_yj1 {post : Int32 → SY → Prop} {a b c d : Nat} (ha : a < 3) (hb : b < 4) (hc : c < 3) (hd : d < 4) (hy : ch_yp P f_count a_kinds a_variables a_numbers a_values) (w : ch_wf P)
    (h : ∀ (f_at f_depth f_state f_steps f_product f_end f_most f_mostRow f_mostSteps : Int32) (a_begins a_left a_outcomes a_met a_sums : Nat → Int32) (a_visited : Nat → Int64), post (nI (ch_tot P (ch_vin a b c d) 64)) (f_height, f_count, f_open, f_at, f_depth, f_state, f_steps, f_product, f_end, f_most, f_mostRow, f_mostSteps, a_stack, a_kinds, a_variables, a_numbers, a_values, a_opened, a_begins, a_left, a_outcomes, a_met, a_sums, a_visited)) : wpY_joint post (f_height, f_count, f_open, f_at, f_depth, f_state, f_steps, f_product, f_end, f_most, f_mostRow, f_mostSteps, a_stack, a_kinds, a_variables, a_numbers, a_values, a_opened, a_begins, a_left, a_outcomes, a_met, a_sums, a_visited) (nI a) (nI b) (nI c) (nI d) := by
  unfold wpY_joint
  refine ch_yv1 ha (br_f (by decide) (ch_yk1 hb (br_f (by decide) (ch_yv1 hc (br_f (by decide) (ch_yk1 hd (br_f (by decide) ?_)))))))
  exact ch_ywork hy w (fun _ _ _ _ _ _ _ _ _ _ _ _ _ _ _ hWS => ch_ytotal ha hb hc hd (ch_WSs hWS) (h _ _ _ _ _ _ _ _ _ _ _ _ _ _ _))
end
theorem i_vc_joint {k : Nat} {u : SX} {v : SY} (I : i_Rel k u v) (hk : k + 5 ≤ 2560) (v1 : Int32) (v2 : Int32) (v3 : Int32) (v4 : Int32) : wpX_joint (fun r u' => wpY_joint (fun r' v' => r' = r ∧ i_Rel (k + 5) u' v') v v1 v2 v3 v4) u v1 v2 v3 v4 := by
  refine ch_el (Q := fun u v => wpX_joint (fun r u' => wpY_joint (fun r' v' => r' = r ∧ i_Rel (k + 5) u' v') v v1 v2 v3 v4) u v1 v2 v3 v4) ?_ I
  intro f_height f_size f_opened f_level f_greatestOnly f_watched f_known a_lower a_upper a_kind a_variable a_share a_low a_high a_openAt a_elseOf a_endOf a_weights a_visited a_blockAt a_rounds a_forced a_weightHere a_visitedHere a_atEnd yf_height yf_count yf_open yf_at yf_depth yf_state yf_steps yf_product yf_end yf_most yf_mostRow yf_mostSteps ya_stack ya_kinds ya_variables ya_numbers ya_values ya_opened ya_begins ya_left ya_outcomes ya_met ya_sums ya_visited P ht hR
  have hR0 := hR
  obtain ⟨w, hht, hh, hyh, hx, hy, hst, hop, hk1⟩ := hR
  rcases ch_gob v1 v2 v3 v4 with ⟨a, b, c, d, ha, hb, hc, hd, rfl, rfl, rfl, rfl⟩ | hb
  · exact ch_xj1 ha hb hc hd w hx hk1 (fun _ _ _ _ _ _ _ _ _ _ _ _ hk2 => ch_yj1 ha hb hc hd hy w (fun _ _ _ _ _ _ _ _ _ _ _ _ _ _ _ => ⟨rfl, ch_inR ⟨w, hht, hh, hyh, hx, hy, hst, hop, ch_kn2_1 hk2⟩⟩))
  · exact ch_xj0 hb (ch_yj0 hb ⟨rfl, ch_inR hR0⟩)
theorem i_vc_weightOf {k : Nat} {u : SX} {v : SY} (I : i_Rel k u v) (hk : k + 5 ≤ 2560) (v1 : Int32) (v2 : Int32) : wpX_weightOf (fun r u' => wpY_weightOf (fun r' v' => r' = r ∧ i_Rel (k + 5) u' v') v v1 v2) u v1 v2 := by
  refine ch_el (Q := fun u v => wpX_weightOf (fun r u' => wpY_weightOf (fun r' v' => r' = r ∧ i_Rel (k + 5) u' v') v v1 v2) u v1 v2) ?_ I
  intro f_height f_size f_opened f_level f_greatestOnly f_watched f_known a_lower a_upper a_kind a_variable a_share a_low a_high a_openAt a_elseOf a_endOf a_weights a_visited a_blockAt a_rounds a_forced a_weightHere a_visitedHere a_atEnd yf_height yf_count yf_open yf_at yf_depth yf_state yf_steps yf_product yf_end yf_most yf_mostRow yf_mostSteps ya_stack ya_kinds ya_variables ya_numbers ya_values ya_opened ya_begins ya_left ya_outcomes ya_met ya_sums ya_visited P ht hR
  have hR0 := hR
  obtain ⟨w, hht, hh, hyh, hx, hy, hst, hop, hk1⟩ := hR
  refine ch_xw ?_
  unfold wpY_weightOf
  rcases ch_gob v1 v2 v1 v2 with ⟨a, b, c, d, ha, hb, hc, hd, e1, e2, e3, e4⟩ | hb
  · subst e1 e2
    exact ch_xj1 ha hb ha hb w hx hk1 (fun _ _ _ _ _ _ _ _ _ _ _ _ hk2 => ch_yj1 ha hb ha hb hy w (fun _ _ _ _ _ _ _ _ _ _ _ _ _ _ _ => ⟨rfl, ch_inR ⟨w, hht, hh, hyh, hx, hy, hst, hop, ch_kn2_1 hk2⟩⟩))
  · exact ch_xj0 hb (ch_yj0 hb ⟨rfl, ch_inR hR0⟩)
def ch_exq (P : ch_P) (v N : Nat) : Nat := ch_bg false (List.range N) (fun s => ch_sum P s * (s / 4 ^ v % 4))
section
variable {f_height f_size f_opened f_level f_greatestOnly f_watched f_known : Int32} {a_lower a_upper a_low a_high a_weights a_visited a_weightHere a_visitedHere a_atEnd : Nat → Int64} {a_kind a_variable a_share a_openAt a_elseOf a_endOf a_blockAt a_rounds a_forced : Nat → Int32} {P : ch_P}
theorem ch_xe18 {post : Int32 → SX → Prop} {v : Nat} (hv : v < 3) (hat : ∀ s, s < 64 → a_atEnd s = lN (ch_sum P s)) (h : post (nI (ch_exq P v 64)) (f_height, f_size, f_opened, f_level, f_greatestOnly, f_watched, f_known, a_lower, a_upper, a_kind, a_variable, a_share, a_low, a_high, a_openAt, a_elseOf, a_endOf, a_weights, a_visited, a_blockAt, a_rounds, a_forced, a_weightHere, a_visitedHere, a_atEnd)) :
    ∀ d s : Nat, s + d = 64 → wX_expected_18 post (nI v) f_height f_size f_opened f_level f_greatestOnly f_watched f_known a_lower a_upper a_kind a_variable a_share a_low a_high a_openAt a_elseOf a_endOf a_weights a_visited a_blockAt a_rounds a_forced a_weightHere a_visitedHere a_atEnd (d + 1) (lN (ch_exq P v s)) (nI s) := by
  intro d
  induction d with
  | zero =>
    intro s hs
    have e : s = 64 := by omega
    subst e
    rw [← lN_i] at h
    exact br_t (by decide) h
  | succ d ih =>
    intro s hs
    have hs64 : s < 64 := by omega
    have hin : vp_in (nI s) 64 := vp_in_nI hs64 (by decide)
    have hcl : (nI s).toNatClampNeg = s := nI_clamp (by omega)
    have hi := ih (s + 1) (by omega)
    have es : ch_exq P v (s + 1) = ch_exq P v s + ch_sum P s * (s / 4 ^ v % 4) := ch_bg_s false s _
    have b1 : s / 4 ^ v % 4 < 4 := Nat.mod_lt _ (by decide)
    refine br_f (nI_ge (a := s) (b := 64) hs64 (by omega)) (And.intro hin (ch_xval hs64 hv ?_))
    rw [hcl, hat s hs64, nI_l (by omega), lN_mul]
    rw [es] at hi
    exact nm_r (lN_add _ _) (nm_r (nI_1 s) hi)
end
section
variable {f_height f_count f_open f_at f_depth f_state f_steps f_product f_end f_most f_mostRow f_mostSteps : Int32} {a_stack a_kinds a_variables a_numbers a_values a_opened a_begins a_left a_outcomes a_met a_sums : Nat → Int32} {a_visited : Nat → Int64} {P : ch_P}
theorem ch_ye18 {post : Int32 → SY → Prop} {v : Nat} (hv : v < 3) (hat : ∀ s, s < 64 → a_sums s = nI (ch_sum P s)) (h : post (nI (ch_exq P v 64)) (f_height, f_count, f_open, f_at, f_depth, f_state, f_steps, f_product, f_end, f_most, f_mostRow, f_mostSteps, a_stack, a_kinds, a_variables, a_numbers, a_values, a_opened, a_begins, a_left, a_outcomes, a_met, a_sums, a_visited)) :
    ∀ d s : Nat, s + d = 64 → wY_expected_18 post (nI v) f_height f_count f_open f_at f_depth f_state f_steps f_product f_end f_most f_mostRow f_mostSteps a_stack a_kinds a_variables a_numbers a_values a_opened a_begins a_left a_outcomes a_met a_sums a_visited (d + 1) (nI (ch_exq P v s)) (nI s) := by
  intro d
  induction d with
  | zero =>
    intro s hs
    have e : s = 64 := by omega
    subst e
    exact br_t (by decide) h
  | succ d ih =>
    intro s hs
    have hs64 : s < 64 := by omega
    have hin : vp_in (nI s) 64 := vp_in_nI hs64 (by decide)
    have hcl : (nI s).toNatClampNeg = s := nI_clamp (by omega)
    have hi := ih (s + 1) (by omega)
    have es : ch_exq P v (s + 1) = ch_exq P v s + ch_sum P s * (s / 4 ^ v % 4) := ch_bg_s false s _
    refine br_f (nI_ge (a := s) (b := 64) hs64 (by omega)) (And.intro hin (ch_yval hs64 hv ?_))
    rw [hcl, hat s hs64, pk_mul]
    rw [es] at hi
    exact nm_r (nI_add _ _) (nm_r (nI_1 s) hi)
end
theorem i_vc_expected {k : Nat} {u : SX} {v : SY} (I : i_Rel k u v) (hk : k + 5 ≤ 2560) (v1 : Int32) : wpX_expected (fun r u' => wpY_expected (fun r' v' => r' = r ∧ i_Rel (k + 5) u' v') v v1) u v1 := by
  refine ch_el (Q := fun u v => wpX_expected (fun r u' => wpY_expected (fun r' v' => r' = r ∧ i_Rel (k + 5) u' v') v v1) u v1) ?_ I
  intro f_height f_size f_opened f_level f_greatestOnly f_watched f_known a_lower a_upper a_kind a_variable a_share a_low a_high a_openAt a_elseOf a_endOf a_weights a_visited a_blockAt a_rounds a_forced a_weightHere a_visitedHere a_atEnd yf_height yf_count yf_open yf_at yf_depth yf_state yf_steps yf_product yf_end yf_most yf_mostRow yf_mostSteps ya_stack ya_kinds ya_variables ya_numbers ya_values ya_opened ya_begins ya_left ya_outcomes ya_met ya_sums ya_visited P ht hR
  have hR0 := hR
  obtain ⟨w, hht, hh, hyh, hx, hy, hst, hop, hk1⟩ := hR
  unfold wpX_expected
  unfold wpY_expected
  rcases ch_isv v1 with ⟨a, ha, rfl⟩ | h0
  · refine ch_xv1 ha (br_f (by decide) (ch_find w hx hk1 (fun _ _ _ _ _ _ _ _ _ _ _ _ hk2 => Exists.intro 65 ?_)))
    refine ch_xe18 ha hk2.2 (ch_yv1 ha (br_f (by decide) (ch_ywork hy w (fun _ _ _ _ _ _ _ _ _ _ _ _ _ _ _ hWS => Exists.intro 65 ?_)))) 64 0 (by omega)
    exact ch_ye18 ha (ch_WSs hWS) ⟨rfl, ch_inR ⟨w, hht, hh, hyh, hx, hy, hst, hop, ch_kn2_1 hk2⟩⟩ 64 0 (by omega)
  · exact ch_xv0 h0 (br_t rfl (ch_yv0 h0 (br_t rfl ⟨rfl, ch_inR hR0⟩)))
theorem i_vc_statements {k : Nat} {u : SX} {v : SY} (I : i_Rel k u v) (hk : k + 5 ≤ 2560) : wpX_statements (fun r => wpY_statements (fun r' => r' = r ∧ i_Rel (k + 5) u v) v) u := by
  refine ch_el (Q := fun u v => wpX_statements (fun r => wpY_statements (fun r' => r' = r ∧ i_Rel (k + 5) u v) v) u) ?_ I
  intro f_height f_size f_opened f_level f_greatestOnly f_watched f_known a_lower a_upper a_kind a_variable a_share a_low a_high a_openAt a_elseOf a_endOf a_weights a_visited a_blockAt a_rounds a_forced a_weightHere a_visitedHere a_atEnd yf_height yf_count yf_open yf_at yf_depth yf_state yf_steps yf_product yf_end yf_most yf_mostRow yf_mostSteps ya_stack ya_kinds ya_variables ya_numbers ya_values ya_opened ya_begins ya_left ya_outcomes ya_met ya_sums ya_visited P ht hR
  have hR0 := hR
  obtain ⟨w, hht, hh, hyh, hx, hy, hst, hop, hk1⟩ := hR
  exact ⟨hy.1.trans hx.1.symm, ch_inR hR0⟩
theorem i_vc_pop {k : Nat} {u : SX} {v : SY} (I : i_Rel k u v) (hk : k + 5 ≤ 2560) : wpX_pop (fun r u' => wpY_pop (fun r' v' => r' = r ∧ i_Rel (k + 5) u' v') v) u := by
  refine ch_el (Q := fun u v => wpX_pop (fun r u' => wpY_pop (fun r' v' => r' = r ∧ i_Rel (k + 5) u' v') v) u) ?_ I
  intro f_height f_size f_opened f_level f_greatestOnly f_watched f_known a_lower a_upper a_kind a_variable a_share a_low a_high a_openAt a_elseOf a_endOf a_weights a_visited a_blockAt a_rounds a_forced a_weightHere a_visitedHere a_atEnd yf_height yf_count yf_open yf_at yf_depth yf_state yf_steps yf_product yf_end yf_most yf_mostRow yf_mostSteps ya_stack ya_kinds ya_variables ya_numbers ya_values ya_opened ya_begins ya_left ya_outcomes ya_met ya_sums ya_visited P ht hR
  have hR0 := hR
  obtain ⟨w, hht, hh, hyh, hx, hy, hst, hop, hk1⟩ := hR
  subst hh hyh
  cases ht with
  | zero => exact br_t rfl (br_t rfl ⟨rfl, ch_inR hR0⟩)
  | succ ht =>
    exact br_f (nI_ne0 (by omega) (by omega)) (nm_r (nI_pred ht) (br_f (nI_ne0 (by omega) (by omega)) (nm_r (nI_pred ht) ⟨rfl, ch_inR ⟨w, by omega, rfl, rfl, hx, hy, fun e s he hs => hst e s (by omega) hs, hop, hk1⟩⟩)))
theorem ch_wf_0 (P : ch_P) : ch_wf (0, P.2) := ⟨Nat.zero_le _, fun q hq => absurd hq (Nat.not_lt_zero q)⟩
theorem i_vc_clear {k : Nat} {u : SX} {v : SY} (I : i_Rel k u v) (hk : k + 5 ≤ 2560) : wpX_clear (fun u' => wpY_clear (fun v' => i_Rel (k + 5) u' v') v) u := by
  refine ch_el (Q := fun u v => wpX_clear (fun u' => wpY_clear (fun v' => i_Rel (k + 5) u' v') v) u) ?_ I
  intro f_height f_size f_opened f_level f_greatestOnly f_watched f_known a_lower a_upper a_kind a_variable a_share a_low a_high a_openAt a_elseOf a_endOf a_weights a_visited a_blockAt a_rounds a_forced a_weightHere a_visitedHere a_atEnd yf_height yf_count yf_open yf_at yf_depth yf_state yf_steps yf_product yf_end yf_most yf_mostRow yf_mostSteps ya_stack ya_kinds ya_variables ya_numbers ya_values ya_opened ya_begins ya_left ya_outcomes ya_met ya_sums ya_visited P ht hR
  have hR0 := hR
  obtain ⟨w, hht, hh, hyh, hx, hy, hst, hop, hk1⟩ := hR
  show i_Rel (k + 5) (0, 0, 0, f_level, f_greatestOnly, f_watched, 0, a_lower, a_upper, a_kind, a_variable, a_share, a_low, a_high, a_openAt, a_elseOf, a_endOf, a_weights, a_visited, a_blockAt, a_rounds, a_forced, a_weightHere, a_visitedHere, a_atEnd) (0, 0, yf_open, yf_at, yf_depth, yf_state, yf_steps, yf_product, yf_end, yf_most, yf_mostRow, yf_mostSteps, ya_stack, ya_kinds, ya_variables, ya_numbers, ya_values, ya_opened, ya_begins, ya_left, ya_outcomes, ya_met, ya_sums, ya_visited)
  exact ch_inR (P := (0, P.2)) (ht := 0) ⟨ch_wf_0 P, by omega, rfl, rfl, ⟨rfl, fun i hi => absurd hi (Nat.not_lt_zero i)⟩, ⟨rfl, fun i hi => absurd hi (Nat.not_lt_zero i)⟩, fun e s he hs => by omega, ⟨rfl, trivial, fun b hb => absurd hb (Nat.not_lt_zero b)⟩, fun z => absurd rfl z⟩
theorem i_vc0 : wpX_init (fun u => wpY_init (fun v => i_Rel 0 u v)) := by
  show i_Rel 0 (0, 0, 0, 0, 0, (-1), 0, (fun _ => 0), (fun _ => 0), (fun _ => 0), (fun _ => 0), (fun _ => 0), (fun _ => 0), (fun _ => 0), (fun _ => 0), (fun _ => 0), (fun _ => 0), (fun _ => 0), (fun _ => 0), (fun _ => 0), (fun _ => 0), (fun _ => 0), (fun _ => 0), (fun _ => 0), (fun _ => 0)) (0, 0, 0, 0, 0, 0, 0, 0, 0, 0, 0, 0, (fun _ => 0), (fun _ => 0), (fun _ => 0), (fun _ => 0), (fun _ => 0), (fun _ => 0), (fun _ => 0), (fun _ => 0), (fun _ => 0), (fun _ => 0), (fun _ => 0), (fun _ => 0))
  exact ch_inR (P := (0, fun _ => 0, fun _ => 0, fun _ => 0, fun _ _ => 0)) (ht := 0) ⟨⟨Nat.zero_le _, fun q hq => absurd hq (Nat.not_lt_zero q)⟩, by omega, rfl, rfl, ⟨rfl, fun i hi => absurd hi (Nat.not_lt_zero i)⟩, ⟨rfl, fun i hi => absurd hi (Nat.not_lt_zero i)⟩, fun e s he hs => by omega, ⟨rfl, trivial, fun b hb => absurd hb (Nat.not_lt_zero b)⟩, fun z => absurd rfl z⟩
end
section
/-! own rows: parts in lowest terms, independence, visits, tuning -/
theorem ch_half {a b f : Nat} (h0 : 0 < a) (hab : a ≤ b) (h : a * b < 2 ^ (f + 1)) : b % a * a < 2 ^ f := by
  have h1 := Nat.mod_lt b h0
  have h2 := Nat.div_add_mod b a
  have h3 : 1 ≤ b / a := (Nat.le_div_iff_mul_le h0).mpr (by omega)
  have h4 : a * 1 ≤ a * (b / a) := Nat.mul_le_mul_left a h3
  have h5 : 2 * (b % a) ≤ b := by omega
  have h6 : 2 * (b % a) * a ≤ b * a := Nat.mul_le_mul_right a h5
  rw [Nat.mul_assoc, Nat.mul_comm b a] at h6
  rw [Nat.pow_succ] at h
  omega
theorem ch_xdiv9 {post : Int64 → Prop} : ∀ (f a b i : Nat), a ≤ b → b < 2 ^ 31 → a * b < 2 ^ f → i + f < 100 → post (lN (Nat.gcd a b)) → wX_divisor_9 post (f + 1) (lN a) (lN b) (nI i) := by
  intro f
  induction f with
  | zero =>
    intro a b i hab hb hm hi h
    have ha : a = 0 := by
      have h1 : a * b = 0 := by omega
      rcases Nat.mul_eq_zero.mp h1 with z | z
      · exact z
      · omega
    subst ha
    rw [Nat.gcd_zero_left] at h
    exact br_f (nI_ge (a := i) (b := 100) (by omega) (by decide)) (br_t rfl h)
  | succ f ih =>
    intro a b i hab hb hm hi h
    refine br_f (nI_ge (a := i) (b := 100) (by omega) (by decide)) ?_
    by_cases ha : a = 0
    · subst ha
      rw [Nat.gcd_zero_left] at h
      exact br_t rfl h
    · have hne : ¬ lN a = 0 := fun z => ha ((lN_eq (a := a) (b := 0) (by omega) (by decide)).mp z)
      have hlt := Nat.mod_lt b (show 0 < a by omega)
      rw [Nat.gcd_rec] at h
      exact br_f hne (And.intro hne (nm_r (pk_lRem (by omega) (by omega) (by omega)) (nm_r (nI_1 i) (ih (b % a) a (i + 1) (by omega) (by omega) (ch_half (by omega) hab hm) (by omega) h))))
theorem ch_xdiv {post : Int64 → Prop} {a b : Nat} (hab : a ≤ b) (hb : b ≤ 16777216) (h : post (lN (Nat.gcd a b))) : wpX_divisor post (lN a) (lN b) := by
  have hm : a * b < 2 ^ 49 := Nat.lt_of_le_of_lt (Nat.mul_le_mul (Nat.le_trans hab hb) hb) (by decide)
  exact Exists.intro 50 (ch_xdiv9 49 a b 0 hab (by omega) hm (by omega) h)
section
variable {f_height f_count f_open f_at f_depth f_state f_steps f_product f_end f_most f_mostRow f_mostSteps : Int32} {a_stack a_kinds a_variables a_numbers a_values a_opened a_begins a_left a_outcomes a_met a_sums : Nat → Int32} {a_visited : Nat → Int64} {P : ch_P}
theorem ch_ydiv5 {post : Int32 → Prop} : ∀ (n a b : Nat), a < n → a < 2 ^ 31 → b < 2 ^ 31 → post (nI (Nat.gcd a b)) → wY_divisor_5 post f_height f_count f_open f_at f_depth f_state f_steps f_product f_end f_most f_mostRow f_mostSteps a_stack a_kinds a_variables a_numbers a_values a_opened a_begins a_left a_outcomes a_met a_sums a_visited n (nI b) (nI a) := by
  intro n
  induction n with
  | zero => intro a b hn; omega
  | succ n ih =>
    intro a b hn ha hb h
    by_cases h0 : a = 0
    · subst h0
      rw [Nat.gcd_zero_left] at h
      exact br_t (by decide) h
    · have hlt := Nat.mod_lt b (show 0 < a by omega)
      rw [Nat.gcd_rec] at h
      exact br_f (nI_nle (by omega) ha) (And.intro (nI_ne0 (by omega) ha) (nm_r (pk_rem hb (by omega) ha) (ih (b % a) a (by omega) (by omega) ha h)))
theorem ch_ydiv {post : Int32 → Prop} {a b : Nat} (ha : a < 2 ^ 31) (hb : b < 2 ^ 31) (h : post (nI (Nat.gcd a b))) : wpY_divisor post (f_height, f_count, f_open, f_at, f_depth, f_state, f_steps, f_product, f_end, f_most, f_mostRow, f_mostSteps, a_stack, a_kinds, a_variables, a_numbers, a_values, a_opened, a_begins, a_left, a_outcomes, a_met, a_sums, a_visited) (nI b) (nI a) :=
  Exists.intro (a + 1) (ch_ydiv5 (a + 1) a b (by omega) ha hb h)
theorem ch_yred0 {post : Int32 → SY → Prop} {p0 p1 p2 : Int32} (hb : (p0 < 0 ∨ 2 < p0) ∨ ((∃ a, a < 3 ∧ p0 = nI a) ∧ (p1 < 0 ∨ 3 < p1))) (h : post (-1) (f_height, f_count, f_open, f_at, f_depth, f_state, f_steps, f_product, f_end, f_most, f_mostRow, f_mostSteps, a_stack, a_kinds, a_variables, a_numbers, a_values, a_opened, a_begins, a_left, a_outcomes, a_met, a_sums, a_visited)) : wpY_reduced post (f_height, f_count, f_open, f_at, f_depth, f_state, f_steps, f_product, f_end, f_most, f_mostRow, f_mostSteps, a_stack, a_kinds, a_variables, a_numbers, a_values, a_opened, a_begins, a_left, a_outcomes, a_met, a_sums, a_visited) p0 p1 p2 := by
  unfold wpY_reduced
  rcases hb with h0 | ⟨⟨a, ha, rfl⟩, h1⟩
  · exact ch_yv0 h0 (br_t rfl h)
  · exact ch_yv1 ha (br_f (by decide) (ch_yk0 h1 (br_t rfl h)))
def ch_red (P : ch_P) (a b : Nat) (up : Bool) : Int32 :=
  if ch_tot P ch_all 64 = 0 then -2 else nI ((if up = true then ch_tot P (ch_vin a b a b) 64 else ch_tot P ch_all 64) / Nat.gcd (ch_tot P (ch_vin a b a b) 64) (ch_tot P ch_all 64))
theorem ch_yred1 {post : Int32 → SY → Prop} {a b : Nat} (up : Bool) (ha : a < 3) (hb : b < 4) (hy : ch_yp P f_count a_kinds a_variables a_numbers a_values) (w : ch_wf P)
    (h : ∀ (f_at f_depth f_state f_steps f_product f_end f_most f_mostRow f_mostSteps : Int32) (a_begins a_left a_outcomes a_met a_sums : Nat → Int32) (a_visited : Nat → Int64), post (ch_red P a b up) (f_height, f_count, f_open, f_at, f_depth, f_state, f_steps, f_product, f_end, f_most, f_mostRow, f_mostSteps, a_stack, a_kinds, a_variables, a_numbers, a_values, a_opened, a_begins, a_left, a_outcomes, a_met, a_sums, a_visited)) : wpY_reduced post (f_height, f_count, f_open, f_at, f_depth, f_state, f_steps, f_product, f_end, f_most, f_mostRow, f_mostSteps, a_stack, a_kinds, a_variables, a_numbers, a_values, a_opened, a_begins, a_left, a_outcomes, a_met, a_sums, a_visited) (nI a) (nI b) (ch_gg up) := by
  unfold wpY_reduced
  refine ch_yv1 ha (br_f (by decide) (ch_yk1 hb (br_f (by decide) (ch_ywork hy w (fun _ _ _ _ _ _ _ _ _ _ _ _ _ _ _ hWS => ch_ywhole (ch_WSs hWS) ?_)))))
  have hp := h
  unfold ch_red at hp
  have hle1 := ch_tot_le w ch_all
  have hle2 := ch_tot_le w (ch_vin a b a b)
  by_cases h0 : ch_tot P ch_all 64 = 0
  · rw [if_pos h0] at hp
    rw [h0]
    exact br_t rfl (hp _ _ _ _ _ _ _ _ _ _ _ _ _ _ _)
  · rw [if_neg h0] at hp
    have hg : 0 < Nat.gcd (ch_tot P (ch_vin a b a b) 64) (ch_tot P ch_all 64) := Nat.gcd_pos_of_pos_right _ (by omega)
    have hgl : Nat.gcd (ch_tot P (ch_vin a b a b) 64) (ch_tot P ch_all 64) ≤ ch_tot P ch_all 64 := Nat.le_of_dvd (by omega) (Nat.gcd_dvd_right _ _)
    refine br_f (nI_ne0 (by omega) (by omega)) (ch_ytotal ha hb ha hb (ch_WSs hWS) (ch_ydiv (by omega) (by omega) (br_f (nI_ne0 hg (by omega)) ?_)))
    cases up with
    | false =>
      refine br_t rfl (And.intro (nI_ne0 hg (by omega)) ?_)
      rw [pk_div (by omega) hg (by omega)]
      exact hp _ _ _ _ _ _ _ _ _ _ _ _ _ _ _
    | true =>
      refine br_f (by decide) (And.intro (nI_ne0 hg (by omega)) ?_)
      rw [pk_div (by omega) hg (by omega)]
      exact hp _ _ _ _ _ _ _ _ _ _ _ _ _ _ _
end
theorem ch_tot_mono (P : ch_P) (c : Nat → Bool) : ch_tot P c 64 ≤ ch_tot P ch_all 64 := by
  refine ch_bg_leS (fun s _ => ?_)
  show (if c s = true then ch_sum P s else 0) ≤ (if true = true then ch_sum P s else 0)
  rw [if_pos rfl]
  split
  · exact Nat.le_refl _
  · exact Nat.zero_le _
section
variable {f_height f_size f_opened f_level f_greatestOnly f_watched f_known : Int32} {a_lower a_upper a_low a_high a_weights a_visited a_weightHere a_visitedHere a_atEnd : Nat → Int64} {a_kind a_variable a_share a_openAt a_elseOf a_endOf a_blockAt a_rounds a_forced : Nat → Int32} {P : ch_P}
theorem ch_xtop {post : Int32 → SX → Prop} {a b : Nat} (ha : a < 3) (hb : b < 4) (w : ch_wf P) (hx : ch_xp P f_size a_kind a_variable a_share a_low a_high) (hk : ch_kn1 P f_known a_atEnd)
    (h : ∀ (f_level f_greatestOnly f_watched f_known : Int32) (a_weights a_visited : Nat → Int64) (a_blockAt a_rounds a_forced : Nat → Int32) (a_weightHere a_visitedHere a_atEnd : Nat → Int64), ch_kn1 P f_known a_atEnd → post (ch_red P a b true) (f_height, f_size, f_opened, f_level, f_greatestOnly, f_watched, f_known, a_lower, a_upper, a_kind, a_variable, a_share, a_low, a_high, a_openAt, a_elseOf, a_endOf, a_weights, a_visited, a_blockAt, a_rounds, a_forced, a_weightHere, a_visitedHere, a_atEnd)) : wpX_top post (f_height, f_size, f_opened, f_level, f_greatestOnly, f_watched, f_known, a_lower, a_upper, a_kind, a_variable, a_share, a_low, a_high, a_openAt, a_elseOf, a_endOf, a_weights, a_visited, a_blockAt, a_rounds, a_forced, a_weightHere, a_visitedHere, a_atEnd) (nI a) (nI b) := by
  unfold wpX_top
  have hle1 := ch_tot_le w ch_all
  have hle2 := ch_tot_le w (ch_vin a b a b)
  have hmo := ch_tot_mono P (ch_vin a b a b)
  refine ch_xv1 ha (br_f (by decide) (ch_xk1 hb (br_f (by decide) (ch_xsum w hx hk (fun _ _ _ _ _ _ _ _ _ _ _ _ hk2 => ?_)))))
  have hp := h
  unfold ch_red at hp
  by_cases h0 : ch_tot P ch_all 64 = 0
  · rw [if_pos h0] at hp
    rw [h0]
    exact br_t rfl (hp _ _ _ _ _ _ _ _ _ _ _ _ (ch_kn2_1 hk2))
  · rw [if_neg h0] at hp
    have hg : 0 < Nat.gcd (ch_tot P (ch_vin a b a b) 64) (ch_tot P ch_all 64) := Nat.gcd_pos_of_pos_right _ (by omega)
    have hgl : Nat.gcd (ch_tot P (ch_vin a b a b) 64) (ch_tot P ch_all 64) ≤ ch_tot P ch_all 64 := Nat.le_of_dvd (by omega) (Nat.gcd_dvd_right _ _)
    have hne : ¬ lN (ch_tot P ch_all 64) = 0 := fun z => h0 ((lN_eq (b := 0) (by omega) (by decide)).mp z)
    have hne2 : ¬ lN (Nat.gcd (ch_tot P (ch_vin a b a b) 64) (ch_tot P ch_all 64)) = 0 := fun z => absurd ((lN_eq (b := 0) (by omega) (by decide)).mp z) (by omega)
    refine br_f hne (ch_xsumOf ha hb ha hb w hx (ch_kn2_1 hk2) (fun _ _ _ _ _ _ _ _ _ _ _ _ hk3 => ch_xdiv hmo hle1 (br_f hne2 (And.intro hne2 ?_))))
    rw [pk_lDiv (by omega) hg (by omega), lN_i]
    exact hp _ _ _ _ _ _ _ _ _ _ _ _ (ch_kn2_1 hk3)
theorem ch_xbot {post : Int32 → SX → Prop} {a b : Nat} (ha : a < 3) (hb : b < 4) (w : ch_wf P) (hx : ch_xp P f_size a_kind a_variable a_share a_low a_high) (hk : ch_kn1 P f_known a_atEnd)
    (h : ∀ (f_level f_greatestOnly f_watched f_known : Int32) (a_weights a_visited : Nat → Int64) (a_blockAt a_rounds a_forced : Nat → Int32) (a_weightHere a_visitedHere a_atEnd : Nat → Int64), ch_kn1 P f_known a_atEnd → post (ch_red P a b false) (f_height, f_size, f_opened, f_level, f_greatestOnly, f_watched, f_known, a_lower, a_upper, a_kind, a_variable, a_share, a_low, a_high, a_openAt, a_elseOf, a_endOf, a_weights, a_visited, a_blockAt, a_rounds, a_forced, a_weightHere, a_visitedHere, a_atEnd)) : wpX_bottom post (f_height, f_size, f_opened, f_level, f_greatestOnly, f_watched, f_known, a_lower, a_upper, a_kind, a_variable, a_share, a_low, a_high, a_openAt, a_elseOf, a_endOf, a_weights, a_visited, a_blockAt, a_rounds, a_forced, a_weightHere, a_visitedHere, a_atEnd) (nI a) (nI b) := by
  unfold wpX_bottom
  have hle1 := ch_tot_le w ch_all
  have hle2 := ch_tot_le w (ch_vin a b a b)
  have hmo := ch_tot_mono P (ch_vin a b a b)
  refine ch_xv1 ha (br_f (by decide) (ch_xk1 hb (br_f (by decide) (ch_xsum w hx hk (fun _ _ _ _ _ _ _ _ _ _ _ _ hk2 => ?_)))))
  have hp := h
  unfold ch_red at hp
  by_cases h0 : ch_tot P ch_all 64 = 0
  · rw [if_pos h0] at hp
    rw [h0]
    exact br_t rfl (hp _ _ _ _ _ _ _ _ _ _ _ _ (ch_kn2_1 hk2))
  · rw [if_neg h0] at hp
    have hg : 0 < Nat.gcd (ch_tot P (ch_vin a b a b) 64) (ch_tot P ch_all 64) := Nat.gcd_pos_of_pos_right _ (by omega)
    have hgl : Nat.gcd (ch_tot P (ch_vin a b a b) 64) (ch_tot P ch_all 64) ≤ ch_tot P ch_all 64 := Nat.le_of_dvd (by omega) (Nat.gcd_dvd_right _ _)
    have hne : ¬ lN (ch_tot P ch_all 64) = 0 := fun z => h0 ((lN_eq (b := 0) (by omega) (by decide)).mp z)
    have hne2 : ¬ lN (Nat.gcd (ch_tot P (ch_vin a b a b) 64) (ch_tot P ch_all 64)) = 0 := fun z => absurd ((lN_eq (b := 0) (by omega) (by decide)).mp z) (by omega)
    refine br_f hne (ch_xsumOf ha hb ha hb w hx (ch_kn2_1 hk2) (fun _ _ _ _ _ _ _ _ _ _ _ _ hk3 => ch_xdiv hmo hle1 (br_f hne2 (And.intro hne2 ?_))))
    rw [pk_lDiv (by omega) hg (by omega), lN_i]
    exact hp _ _ _ _ _ _ _ _ _ _ _ _ (ch_kn2_1 hk3)
theorem ch_xtop0 {post : Int32 → SX → Prop} {p0 p1 : Int32} (hb : (p0 < 0 ∨ 2 < p0) ∨ ((∃ a, a < 3 ∧ p0 = nI a) ∧ (p1 < 0 ∨ 3 < p1))) (h : post (-1) (f_height, f_size, f_opened, f_level, f_greatestOnly, f_watched, f_known, a_lower, a_upper, a_kind, a_variable, a_share, a_low, a_high, a_openAt, a_elseOf, a_endOf, a_weights, a_visited, a_blockAt, a_rounds, a_forced, a_weightHere, a_visitedHere, a_atEnd)) : wpX_top post (f_height, f_size, f_opened, f_level, f_greatestOnly, f_watched, f_known, a_lower, a_upper, a_kind, a_variable, a_share, a_low, a_high, a_openAt, a_elseOf, a_endOf, a_weights, a_visited, a_blockAt, a_rounds, a_forced, a_weightHere, a_visitedHere, a_atEnd) p0 p1 := by
  unfold wpX_top
  rcases hb with h0 | ⟨⟨a, ha, rfl⟩, h1⟩
  · exact ch_xv0 h0 (br_t rfl h)
  · exact ch_xv1 ha (br_f (by decide) (ch_xk0 h1 (br_t rfl h)))
theorem ch_xbot0 {post : Int32 → SX → Prop} {p0 p1 : Int32} (hb : (p0 < 0 ∨ 2 < p0) ∨ ((∃ a, a < 3 ∧ p0 = nI a) ∧ (p1 < 0 ∨ 3 < p1))) (h : post (-1) (f_height, f_size, f_opened, f_level, f_greatestOnly, f_watched, f_known, a_lower, a_upper, a_kind, a_variable, a_share, a_low, a_high, a_openAt, a_elseOf, a_endOf, a_weights, a_visited, a_blockAt, a_rounds, a_forced, a_weightHere, a_visitedHere, a_atEnd)) : wpX_bottom post (f_height, f_size, f_opened, f_level, f_greatestOnly, f_watched, f_known, a_lower, a_upper, a_kind, a_variable, a_share, a_low, a_high, a_openAt, a_elseOf, a_endOf, a_weights, a_visited, a_blockAt, a_rounds, a_forced, a_weightHere, a_visitedHere, a_atEnd) p0 p1 := by
  unfold wpX_bottom
  rcases hb with h0 | ⟨⟨a, ha, rfl⟩, h1⟩
  · exact ch_xv0 h0 (br_t rfl h)
  · exact ch_xv1 ha (br_f (by decide) (ch_xk0 h1 (br_t rfl h)))
end
theorem ch_gob2 (p0 p1 : Int32) : (∃ a b, a < 3 ∧ b < 4 ∧ p0 = nI a ∧ p1 = nI b) ∨ ((p0 < 0 ∨ 2 < p0) ∨ ((∃ a, a < 3 ∧ p0 = nI a) ∧ (p1 < 0 ∨ 3 < p1))) := by
  rcases ch_isv p0 with ⟨a, ha, e0⟩ | h0
  · rcases ch_isk p1 with ⟨b, hb, e1⟩ | h1
    · exact Or.inl ⟨a, b, ha, hb, e0, e1⟩
    · exact Or.inr (Or.inr ⟨⟨a, ha, e0⟩, h1⟩)
  · exact Or.inr (Or.inl h0)
theorem i_vc_top {k : Nat} {u : SX} {v : SY} (I : i_Rel k u v) (hk : k + 5 ≤ 2560) (v1 : Int32) (v2 : Int32) : wpX_top (fun r u' => wpY_top (fun r' v' => r' = r ∧ i_Rel (k + 5) u' v') v v1 v2) u v1 v2 := by
  refine ch_el (Q := fun u v => wpX_top (fun r u' => wpY_top (fun r' v' => r' = r ∧ i_Rel (k + 5) u' v') v v1 v2) u v1 v2) ?_ I
  intro f_height f_size f_opened f_level f_greatestOnly f_watched f_known a_lower a_upper a_kind a_variable a_share a_low a_high a_openAt a_elseOf a_endOf a_weights a_visited a_blockAt a_rounds a_forced a_weightHere a_visitedHere a_atEnd yf_height yf_count yf_open yf_at yf_depth yf_state yf_steps yf_product yf_end yf_most yf_mostRow yf_mostSteps ya_stack ya_kinds ya_variables ya_numbers ya_values ya_opened ya_begins ya_left ya_outcomes ya_met ya_sums ya_visited P ht hR
  have hR0 := hR
  obtain ⟨w, hht, hh, hyh, hx, hy, hst, hop, hk1⟩ := hR
  unfold wpY_top
  rcases ch_gob2 v1 v2 with ⟨a, b, ha, hb, rfl, rfl⟩ | hb
  · exact ch_xtop ha hb w hx hk1 (fun _ _ _ _ _ _ _ _ _ _ _ _ hk2 => ch_yred1 true ha hb hy w (fun _ _ _ _ _ _ _ _ _ _ _ _ _ _ _ => ⟨rfl, ch_inR ⟨w, hht, hh, hyh, hx, hy, hst, hop, hk2⟩⟩))
  · exact ch_xtop0 hb (ch_yred0 hb ⟨rfl, ch_inR hR0⟩)
theorem i_vc_bottom {k : Nat} {u : SX} {v : SY} (I : i_Rel k u v) (hk : k + 5 ≤ 2560) (v1 : Int32) (v2 : Int32) : wpX_bottom (fun r u' => wpY_bottom (fun r' v' => r' = r ∧ i_Rel (k + 5) u' v') v v1 v2) u v1 v2 := by
  refine ch_el (Q := fun u v => wpX_bottom (fun r u' => wpY_bottom (fun r' v' => r' = r ∧ i_Rel (k + 5) u' v') v v1 v2) u v1 v2) ?_ I
  intro f_height f_size f_opened f_level f_greatestOnly f_watched f_known a_lower a_upper a_kind a_variable a_share a_low a_high a_openAt a_elseOf a_endOf a_weights a_visited a_blockAt a_rounds a_forced a_weightHere a_visitedHere a_atEnd yf_height yf_count yf_open yf_at yf_depth yf_state yf_steps yf_product yf_end yf_most yf_mostRow yf_mostSteps ya_stack ya_kinds ya_variables ya_numbers ya_values ya_opened ya_begins ya_left ya_outcomes ya_met ya_sums ya_visited P ht hR
  have hR0 := hR
  obtain ⟨w, hht, hh, hyh, hx, hy, hst, hop, hk1⟩ := hR
  unfold wpY_bottom
  rcases ch_gob2 v1 v2 with ⟨a, b, ha, hb, rfl, rfl⟩ | hb
  · exact ch_xbot ha hb w hx hk1 (fun _ _ _ _ _ _ _ _ _ _ _ _ hk2 => ch_yred1 false ha hb hy w (fun _ _ _ _ _ _ _ _ _ _ _ _ _ _ _ => ⟨rfl, ch_inR ⟨w, hht, hh, hyh, hx, hy, hst, hop, hk2⟩⟩))
  · exact ch_xbot0 hb (ch_yred0 hb ⟨rfl, ch_inR hR0⟩)
end
section
/-! own rows: independence, visits, the greatest weight, tuning -/
def ch_ind (P : ch_P) (a b c : Nat) : Prop := lN (ch_tot P ch_all 64) * lN (ch_tot P (ch_vin a (c / 4) b (c % 4)) 64) = lN (ch_tot P (ch_vin a (c / 4) a (c / 4)) 64) * lN (ch_tot P (ch_vin b (c % 4) b (c % 4)) 64)
theorem ch_c4 {c : Nat} (hc : c < 16) : (nI c >>> ((2 : Int32) &&& 31) = nI (c / 4)) ∧ (nI c &&& 3 = nI (c % 4)) :=
  ⟨pk_shrN (by omega) _ 2 (by decide), pk_andN (k := 2) (by omega) (by decide)⟩
section
variable {f_height f_size f_opened f_level f_greatestOnly f_watched f_known : Int32} {a_lower a_upper a_low a_high a_weights a_visited a_weightHere a_visitedHere a_atEnd : Nat → Int64} {a_kind a_variable a_share a_openAt a_elseOf a_endOf a_blockAt a_rounds a_forced : Nat → Int32} {P : ch_P}
theorem ch_xin24 {post : Int32 → SX → Prop} {a b : Nat} {r : Int32} (ha : a < 3) (hb : b < 3) (w : ch_wf P) (hx : ch_xp P f_size a_kind a_variable a_share a_low a_high)
    (hr1 : (∀ c, c < 16 → ch_ind P a b c) → r = 1) (hr0 : (∃ c, c < 16 ∧ ¬ ch_ind P a b c) → r = 0)
    (h : ∀ (f_level f_greatestOnly f_watched f_known : Int32) (a_weights a_visited : Nat → Int64) (a_blockAt a_rounds a_forced : Nat → Int32) (a_weightHere a_visitedHere a_atEnd : Nat → Int64), ch_kn1 P f_known a_atEnd → post r (f_height, f_size, f_opened, f_level, f_greatestOnly, f_watched, f_known, a_lower, a_upper, a_kind, a_variable, a_share, a_low, a_high, a_openAt, a_elseOf, a_endOf, a_weights, a_visited, a_blockAt, a_rounds, a_forced, a_weightHere, a_visitedHere, a_atEnd)) :
    ∀ (d c : Nat) (f_level f_greatestOnly f_watched f_known : Int32) (a_weights a_visited : Nat → Int64) (a_blockAt a_rounds a_forced : Nat → Int32) (a_weightHere a_visitedHere a_atEnd : Nat → Int64), c + d = 16 → ch_kn1 P f_known a_atEnd → (∀ j, j < c → ch_ind P a b j) → wX_independent_24 post (nI a) (nI b) (lN (ch_tot P ch_all 64)) (d + 1) (nI c) f_height f_size f_opened f_level f_greatestOnly f_watched f_known a_lower a_upper a_kind a_variable a_share a_low a_high a_openAt a_elseOf a_endOf a_weights a_visited a_blockAt a_rounds a_forced a_weightHere a_visitedHere a_atEnd := by
  intro d
  induction d with
  | zero =>
    intro c x1 x2 x3 x4 x5 x6 x7 x8 x9 y1 y2 y3 hc hk hj
    have e : c = 16 := by omega
    subst e
    have h2 := h x1 x2 x3 x4 x5 x6 x7 x8 x9 y1 y2 y3 hk
    rw [hr1 hj] at h2
    exact br_t (by decide) h2
  | succ d ih =>
    intro c x1 x2 x3 x4 x5 x6 x7 x8 x9 y1 y2 y3 hc hk hj
    have hc16 : c < 16 := by omega
    have hc4 := ch_c4 hc16
    have hq : c / 4 < 4 := by omega
    have hm : c % 4 < 4 := by omega
    refine br_f (nI_ge (a := c) (b := 16) hc16 (by omega)) (nm_r hc4.1 (nm_r hc4.2 ?_))
    refine ch_xsumOf ha hq hb hm w hx hk (fun _ _ _ _ _ _ _ _ _ _ _ _ hk2 => ?_)
    refine ch_xsumOf ha hq ha hq w hx (ch_kn2_1 hk2) (fun _ _ _ _ _ _ _ _ _ _ _ _ hk3 => ?_)
    refine ch_xsumOf hb hm hb hm w hx (ch_kn2_1 hk3) (fun _ _ _ _ _ _ _ _ _ _ _ _ hk4 => ?_)
    by_cases he : ch_ind P a b c
    · refine br_t he (nm_r (nI_1 c) (ih (c + 1) _ _ _ _ _ _ _ _ _ _ _ _ (by omega) (ch_kn2_1 hk4) (fun j hjc => ?_)))
      by_cases hje : j = c
      · rw [hje]; exact he
      · exact hj j (by omega)
    · refine br_f he ?_
      obtain rfl := hr0 ⟨c, hc16, he⟩
      exact h _ _ _ _ _ _ _ _ _ _ _ _ (ch_kn2_1 hk4)
end
section
variable {f_height f_count f_open f_at f_depth f_state f_steps f_product f_end f_most f_mostRow f_mostSteps : Int32} {a_stack a_kinds a_variables a_numbers a_values a_opened a_begins a_left a_outcomes a_met a_sums : Nat → Int32} {a_visited : Nat → Int64} {P : ch_P}
theorem ch_yin34 {post : Int32 → SY → Prop} {a b : Nat} {r : Int32} (ha : a < 3) (hb : b < 3) (w : ch_wf P) (hsum : ∀ s, s < 64 → a_sums s = nI (ch_sum P s))
    (hr1 : (∀ c, c < 16 → ch_ind P a b c) → r = 1) (hr0 : (∃ c, c < 16 ∧ ¬ ch_ind P a b c) → r = 0) (h : post r (f_height, f_count, f_open, f_at, f_depth, f_state, f_steps, f_product, f_end, f_most, f_mostRow, f_mostSteps, a_stack, a_kinds, a_variables, a_numbers, a_values, a_opened, a_begins, a_left, a_outcomes, a_met, a_sums, a_visited)) :
    ∀ (d c : Nat) (g : Int32), c + d = 16 → ((∀ j, j < c → ch_ind P a b j) → g = 1) → ((∃ j, j < c ∧ ¬ ch_ind P a b j) → g = 0) → wY_independent_34 post (nI a) (nI b) (nI (ch_tot P ch_all 64)).toInt64 f_height f_count f_open f_at f_depth f_state f_steps f_product f_end f_most f_mostRow f_mostSteps a_stack a_kinds a_variables a_numbers a_values a_opened a_begins a_left a_outcomes a_met a_sums a_visited (d + 1) g (nI c) := by
  have hle := fun c => ch_tot_le w c
  intro d
  induction d with
  | zero =>
    intro c g hc h1 h0
    have e : c = 16 := by omega
    subst e
    have eg : g = r := by
      by_cases hall : ∀ j, j < 16 → ch_ind P a b j
      · rw [h1 hall, hr1 hall]
      · have hex : ∃ j, j < 16 ∧ ¬ ch_ind P a b j := Classical.byContradiction (fun z => hall (fun j hj => Classical.byContradiction (fun y => z ⟨j, hj, y⟩)))
        rw [h0 hex, hr0 hex]
    rw [eg]
    exact br_t (by decide) h
  | succ d ih =>
    intro c g hc h1 h0
    have hc16 : c < 16 := by omega
    have hq : c / 4 < 4 := by omega
    have hm : c % 4 < 4 := by omega
    refine br_f (nI_ge (a := c) (b := 16) hc16 (by omega)) (And.intro (by decide) (nm_r (pk_div (d := 4) (by omega) (by decide) (by decide)) (And.intro (by decide) (nm_r (pk_rem (d := 4) (by omega) (by decide) (by decide)) ?_))))
    refine ch_ytotal ha hq hb hm hsum (ch_ytotal ha hq ha hq hsum (ch_ytotal hb hm hb hm hsum ?_))
    rw [nI_l (by have := hle ch_all; omega), nI_l (by have := hle (ch_vin a (c / 4) b (c % 4)); omega), nI_l (by have := hle (ch_vin a (c / 4) a (c / 4)); omega), nI_l (by have := hle (ch_vin b (c % 4) b (c % 4)); omega)]
    rw [nI_l (by have := hle ch_all; omega)] at ih
    by_cases he : ch_ind P a b c
    · refine br_t he (nm_r (nI_1 c) (ih (c + 1) g (by omega) (fun hj => h1 (fun j hjc => hj j (by omega))) (fun ⟨j, hj, hn⟩ => h0 ⟨j, ?_, hn⟩)))
      by_cases hje : j = c
      · exact absurd (hje ▸ he) hn
      · omega
    · refine br_f he (nm_r (nI_1 c) (ih (c + 1) 0 (by omega) (fun hj => absurd (hj c (by omega)) he) (fun _ => rfl)))
end
theorem i_vc_independent {k : Nat} {u : SX} {v : SY} (I : i_Rel k u v) (hk : k + 5 ≤ 2560) (v1 : Int32) (v2 : Int32) : wpX_independent (fun r u' => wpY_independent (fun r' v' => r' = r ∧ i_Rel (k + 5) u' v') v v1 v2) u v1 v2 := by
  refine ch_el (Q := fun u v => wpX_independent (fun r u' => wpY_independent (fun r' v' => r' = r ∧ i_Rel (k + 5) u' v') v v1 v2) u v1 v2) ?_ I
  intro f_height f_size f_opened f_level f_greatestOnly f_watched f_known a_lower a_upper a_kind a_variable a_share a_low a_high a_openAt a_elseOf a_endOf a_weights a_visited a_blockAt a_rounds a_forced a_weightHere a_visitedHere a_atEnd yf_height yf_count yf_open yf_at yf_depth yf_state yf_steps yf_product yf_end yf_most yf_mostRow yf_mostSteps ya_stack ya_kinds ya_variables ya_numbers ya_values ya_opened ya_begins ya_left ya_outcomes ya_met ya_sums ya_visited P ht hR
  have hR0 := hR
  obtain ⟨w, hht, hh, hyh, hx, hy, hst, hop, hk1⟩ := hR
  unfold wpX_independent
  unfold wpY_independent
  rcases ch_isv v1 with ⟨a, ha, rfl⟩ | h0
  · rcases ch_isv v2 with ⟨b, hb, rfl⟩ | h1
    · refine ch_xv1 ha (br_f (by decide) (ch_xv1 hb (br_f (by decide) (ch_xsum w hx hk1 (fun _ _ _ _ _ _ _ _ _ _ _ _ hk2 => Exists.intro 17 ?_)))))
      have hr : ∃ r : Int32, ((∀ c, c < 16 → ch_ind P a b c) → r = 1) ∧ ((∃ c, c < 16 ∧ ¬ ch_ind P a b c) → r = 0) := by
        by_cases hall : ∀ c, c < 16 → ch_ind P a b c
        · exact ⟨1, fun _ => rfl, fun ⟨c, hc, hn⟩ => absurd (hall c hc) hn⟩
        · exact ⟨0, fun z => absurd z hall, fun _ => rfl⟩
      obtain ⟨r, hr1, hr0⟩ := hr
      refine ch_xin24 (r := r) ha hb w hx hr1 hr0 (fun _ _ _ _ _ _ _ _ _ _ _ _ hk3 => ?_) 16 0 _ _ _ _ _ _ _ _ _ _ _ _ (by omega) (ch_kn2_1 hk2) (fun j hj => by omega)
      refine ch_yv1 ha (br_f (by decide) (ch_yv1 hb (br_f (by decide) (ch_ywork hy w (fun _ _ _ _ _ _ _ _ _ _ _ _ _ _ _ hWS => ch_ywhole (ch_WSs hWS) (Exists.intro 17 ?_))))))
      exact ch_yin34 (r := r) ha hb w (ch_WSs hWS) hr1 hr0 ⟨rfl, ch_inR ⟨w, hht, hh, hyh, hx, hy, hst, hop, hk3⟩⟩ 16 0 1 (by omega) (fun _ => rfl) (fun ⟨j, hj, _⟩ => by omega)
    · exact ch_xv1 ha (br_f (by decide) (ch_xv0 h1 (br_t rfl (ch_yv1 ha (br_f (by decide) (ch_yv0 h1 (br_t rfl ⟨rfl, ch_inR hR0⟩)))))))
  · exact ch_xv0 h0 (br_t rfl (ch_yv0 h0 (br_t rfl ⟨rfl, ch_inR hR0⟩)))
section
variable {f_height f_size f_opened f_level f_greatestOnly f_watched f_known : Int32} {a_lower a_upper a_low a_high a_weights a_visited a_weightHere a_visitedHere a_atEnd : Nat → Int64} {a_kind a_variable a_share a_openAt a_elseOf a_endOf a_blockAt a_rounds a_forced : Nat → Int32} {P : ch_P} {A : Nat → Nat}
theorem ch_c6 {c : Nat} (hc : c < 448) : nI c >>> ((6 : Int32) &&& 31) = nI (c / 64) := pk_shrN (by omega) _ 6 (by decide)
theorem ch_xvi64 {post : Int64 → SX → Prop} {B : Nat → Nat} (h : post (lN (ch_bg false (List.range 448) (fun c => B c * 16 ^ (6 - c / 64)))) (f_height, f_size, f_opened, f_level, f_greatestOnly, f_watched, f_known, a_lower, a_upper, a_kind, a_variable, a_share, a_low, a_high, a_openAt, a_elseOf, a_endOf, a_weights, ch_w B, a_blockAt, a_rounds, a_forced, a_weightHere, a_visitedHere, a_atEnd)) :
    ∀ d c : Nat, c + d = 448 → wX_visits_64 post f_height f_size f_opened f_level f_greatestOnly f_watched f_known a_lower a_upper a_kind a_variable a_share a_low a_high a_openAt a_elseOf a_endOf a_weights (ch_w B) a_blockAt a_rounds a_forced a_weightHere a_visitedHere a_atEnd (d + 1) (lN (ch_bg false (List.range c) (fun c => B c * 16 ^ (6 - c / 64)))) (nI c) := by
  intro d
  induction d with
  | zero =>
    intro c hc
    have e : c = 448 := by omega
    subst e
    exact br_t (nI_le (a := 448) (b := 448) (by omega) (by omega)) h
  | succ d ih =>
    intro c hc
    have hc4 : c < 448 := by omega
    have hin : vp_in (nI c) 1792 := vp_in_nI (by omega) (by decide)
    have hcl : (nI c).toNatClampNeg = c := nI_clamp (by omega)
    have hi := ih (c + 1) (by omega)
    rw [ch_bg_s] at hi
    refine br_f (nI_ge (a := c) (b := 448) hc4 (by omega)) (And.intro hin ?_)
    rw [ch_c6 hc4]
    refine ch_mis (by omega) ?_
    rw [hcl, show ch_w B c = lN (B c) from rfl, lN_mul]
    exact nm_r (lN_add _ _) (nm_r (nI_1 c) hi)
theorem ch_xgw18 {post : Int64 → SX → Prop} (hb : ch_bg true (List.range 448) (fun c => A c * 16 ^ (6 - c / 64)) ≤ 16777216) (h : post (lN (ch_bg true (List.range 448) (fun c => A c * 16 ^ (6 - c / 64)))) (f_height, f_size, f_opened, f_level, f_greatestOnly, f_watched, f_known, a_lower, a_upper, a_kind, a_variable, a_share, a_low, a_high, a_openAt, a_elseOf, a_endOf, ch_w A, a_visited, a_blockAt, a_rounds, a_forced, a_weightHere, a_visitedHere, a_atEnd)) :
    ∀ d c : Nat, c + d = 448 → wX_greatestWeight_18 post f_height f_size f_opened f_level f_greatestOnly f_watched f_known a_lower a_upper a_kind a_variable a_share a_low a_high a_openAt a_elseOf a_endOf (ch_w A) a_visited a_blockAt a_rounds a_forced a_weightHere a_visitedHere a_atEnd (d + 1) (lN (ch_bg true (List.range c) (fun c => A c * 16 ^ (6 - c / 64)))) (nI c) := by
  intro d
  induction d with
  | zero =>
    intro c hc
    have e : c = 448 := by omega
    subst e
    exact br_t (nI_le (a := 448) (b := 448) (by omega) (by omega)) h
  | succ d ih =>
    intro c hc
    have hc4 : c < 448 := by omega
    have hin : vp_in (nI c) 1792 := vp_in_nI (by omega) (by decide)
    have hcl : (nI c).toNatClampNeg = c := nI_clamp (by omega)
    have hi := ih (c + 1) (by omega)
    rw [ch_bg_s] at hi
    have hle : ∀ j, j < 448 → A j * 16 ^ (6 - j / 64) ≤ 16777216 := fun j hj => Nat.le_trans (ch_bg_le (F := fun c => A c * 16 ^ (6 - c / 64)) true (List.mem_range.mpr hj)) hb
    have h1 := hle c hc4
    have h2 : ch_bg true (List.range c) (fun c => A c * 16 ^ (6 - c / 64)) ≤ 16777216 := ch_bg_lub (fun j hj => hle j (by have := List.mem_range.mp hj; omega))
    refine br_f (nI_ge (a := c) (b := 448) hc4 (by omega)) (And.intro hin ?_)
    rw [ch_c6 hc4]
    refine ch_mis (by omega) ?_
    rw [hcl, show ch_w A c = lN (A c) from rfl, lN_mul]
    refine nm_e ?_
    by_cases hm : A c * 16 ^ (6 - c / 64) ≤ ch_bg true (List.range c) (fun c => A c * 16 ^ (6 - c / 64))
    · have e : ch_op true (ch_bg true (List.range c) (fun c => A c * 16 ^ (6 - c / 64))) (A c * 16 ^ (6 - c / 64)) = ch_bg true (List.range c) (fun c => A c * 16 ^ (6 - c / 64)) := Nat.max_eq_left hm
      rw [e] at hi
      exact br_t ((lN_le (by omega) (by omega)).mpr hm) (nm_r (nI_1 c) hi)
    · have e : ch_op true (ch_bg true (List.range c) (fun c => A c * 16 ^ (6 - c / 64))) (A c * 16 ^ (6 - c / 64)) = A c * 16 ^ (6 - c / 64) := Nat.max_eq_right (by omega)
      rw [e] at hi
      exact br_f (fun z => hm ((lN_le (by omega) (by omega)).mp z)) (nm_r (nI_1 c) hi)
theorem ch_gw {post : Int64 → SX → Prop} (w : ch_wf P) (hx : ch_xp P f_size a_kind a_variable a_share a_low a_high) (hwt : f_watched = -1)
    (h : ∀ (A : Nat → Nat) (f_level : Int32) (a_visited : Nat → Int64) (a_blockAt a_rounds : Nat → Int32) (a_weightHere a_visitedHere : Nat → Int64), ch_AR true ch_v1 0 (ch_R (ch_al a_forced) P) A → post (lN (ch_bg true (ch_R (ch_al a_forced) P) ch_W)) (f_height, f_size, f_opened, f_level, 0, f_watched, f_known, a_lower, a_upper, a_kind, a_variable, a_share, a_low, a_high, a_openAt, a_elseOf, a_endOf, ch_w A, a_visited, a_blockAt, a_rounds, a_forced, a_weightHere, a_visitedHere, a_atEnd)) : wpX_greatestWeight post (f_height, f_size, f_opened, f_level, f_greatestOnly, f_watched, f_known, a_lower, a_upper, a_kind, a_variable, a_share, a_low, a_high, a_openAt, a_elseOf, a_endOf, a_weights, a_visited, a_blockAt, a_rounds, a_forced, a_weightHere, a_visitedHere, a_atEnd) := by
  have hs := hx.1
  subst hs
  refine ch_carryOut true 99 w hx (fun j hj => ⟨fun z => absurd (z.trans hwt) (ch_neg1 (by omega)), fun z => by omega⟩) (fun _ => by omega) (fun A' B' ba' ro' wh' vh' hA hB => Exists.intro 449 ?_)
  have e := ch_AEm w hA
  have hb : ch_bg true (List.range 448) (fun c => A' c * 16 ^ (6 - c / 64)) ≤ 16777216 := by
    rw [e]
    exact ch_bg_lub (fun q hq => ch_W_le (ch_R_qi w hq))
  refine ch_xgw18 hb ?_ 448 0 (by omega)
  rw [e]
  exact h A' _ _ _ _ _ _ hA
end
theorem i_vc_greatest {k : Nat} {u : SX} {v : SY} (I : i_Rel k u v) (hk : k + 5 ≤ 2560) : wpX_greatest (fun r u' => wpY_greatest (fun r' v' => r' = r ∧ i_Rel (k + 5) u' v') v) u := by
  refine ch_el (Q := fun u v => wpX_greatest (fun r u' => wpY_greatest (fun r' v' => r' = r ∧ i_Rel (k + 5) u' v') v) u) ?_ I
  intro f_height f_size f_opened f_level f_greatestOnly f_watched f_known a_lower a_upper a_kind a_variable a_share a_low a_high a_openAt a_elseOf a_endOf a_weights a_visited a_blockAt a_rounds a_forced a_weightHere a_visitedHere a_atEnd yf_height yf_count yf_open yf_at yf_depth yf_state yf_steps yf_product yf_end yf_most yf_mostRow yf_mostSteps ya_stack ya_kinds ya_variables ya_numbers ya_values ya_opened ya_begins ya_left ya_outcomes ya_met ya_sums ya_visited P ht hR
  have hR0 := hR
  obtain ⟨w, hht, hh, hyh, hx, hy, hst, hop, hk1⟩ := hR
  unfold wpX_greatest
  unfold wpY_greatest
  refine ch_letAll (fun fo hfo => ch_gw w hx rfl (fun A _ _ _ _ _ _ hA => ?_))
  rw [ch_R_al (ch_al_free hfo)]
  refine ch_ywork hy w (fun _ _ _ _ _ _ _ _ _ _ _ _ _ _ _ hWS => ?_)
  refine ⟨?_, ch_inR ⟨w, hht, hh, hyh, hx, hy, hst, hop, hk1⟩⟩
  rw [hWS.2.2.1, ch_LL_R, lN_i]
theorem i_vc_visits {k : Nat} {u : SX} {v : SY} (I : i_Rel k u v) (hk : k + 5 ≤ 2560) (v1 : Int32) : wpX_visits (fun r u' => wpY_visits (fun r' v' => r' = r ∧ i_Rel (k + 5) u' v') v v1) u v1 := by
  refine ch_el (Q := fun u v => wpX_visits (fun r u' => wpY_visits (fun r' v' => r' = r ∧ i_Rel (k + 5) u' v') v v1) u v1) ?_ I
  intro f_height f_size f_opened f_level f_greatestOnly f_watched f_known a_lower a_upper a_kind a_variable a_share a_low a_high a_openAt a_elseOf a_endOf a_weights a_visited a_blockAt a_rounds a_forced a_weightHere a_visitedHere a_atEnd yf_height yf_count yf_open yf_at yf_depth yf_state yf_steps yf_product yf_end yf_most yf_mostRow yf_mostSteps ya_stack ya_kinds ya_variables ya_numbers ya_values ya_opened ya_begins ya_left ya_outcomes ya_met ya_sums ya_visited P ht hR
  have hR0 := hR
  obtain ⟨w, hht, hh, hyh, hx, hy, hst, hop, hk1⟩ := hR
  have hn := w.1
  have hs := hx.1
  have hc := hy.1
  subst hs hc
  unfold wpX_visits
  unfold wpY_visits
  rcases pk_ix v1 (n := ch_n P) (by omega) with h0 | h1 | ⟨i, hi, rfl⟩
  · exact br_t h0 (br_t h0 ⟨rfl, ch_inR hR0⟩)
  · have h2 : ¬ v1 < 0 := fun z => absurd (Int32.lt_of_lt_of_le z (nI_pos' (n := ch_n P) (by omega))) (Int32.not_lt.mpr h1)
    exact br_f h2 (br_f (Int32.not_lt.mpr h1) (br_f h2 (br_f (Int32.not_lt.mpr h1) ⟨rfl, ch_inR hR0⟩)))
  · have hp : ¬ nI i < 0 := nI_pos (by omega)
    have hl : nI i < nI (ch_n P) := nI_lt hi (by omega)
    have hin : vp_in (nI i) 24 := vp_in_nI (by omega) (by decide)
    have hcl : (nI i).toNatClampNeg = i := nI_clamp (by omega)
    have hK8 := (w.2 i hi).1.1
    have hkx : ∀ c, ch_K P i = c → a_kind (nI i).toNatClampNeg = nI c := fun c hc => by rw [hcl, (hx.2 i hi).1, hc]
    have hky : ∀ c, ch_K P i = c → ya_kinds (nI i).toNatClampNeg = nI c := fun c hc => by rw [hcl, (hy.2 i hi).1, hc]
    have hnx : ∀ c, c ≤ 8 → ch_K P i ≠ c → ¬ a_kind (nI i).toNatClampNeg = nI c := fun c hc hne => by rw [hcl, (hx.2 i hi).1]; exact ch_kn hK8 hc hne
    have hny : ∀ c, c ≤ 8 → ch_K P i ≠ c → ¬ ya_kinds (nI i).toNatClampNeg = nI c := fun c hc hne => by rw [hcl, (hy.2 i hi).1]; exact ch_kn hK8 hc hne
    refine br_f hp (br_t hl (And.intro hin ?_))
    by_cases h5 : ch_K P i = 5
    · exact br_t (hkx 5 h5) (br_f hp (br_t hl (And.intro hin (br_t (hky 5 h5) ⟨rfl, ch_inR hR0⟩))))
    · refine br_f (hnx 5 (by decide) h5) (And.intro hin ?_)
      by_cases h8 : ch_K P i = 8
      · exact br_t (hkx 8 h8) (br_f hp (br_t hl (And.intro hin (br_f (hny 5 (by decide) h5) (And.intro hin (br_t (hky 8 h8) ⟨rfl, ch_inR hR0⟩))))))
      · refine br_f (hnx 8 (by decide) h8) (ch_letAll (fun fo hfo => ?_))
        refine ch_carryOut false i w hx (fun j hj => nI_eq (by omega) (by omega)) (fun z => nomatch z) (fun A' B' ba' ro' wh' vh' hA hB => Exists.intro 449 ?_)
        rw [ch_R_al (ch_al_free hfo)] at hB
        refine ch_xvi64 ?_ 448 0 (by omega)
        rw [ch_AEv w hB]
        refine br_f hp (br_t hl (And.intro hin (br_f (hny 5 (by decide) h5) (And.intro hin (br_f (hny 8 (by decide) h8) (ch_ywork hy w (fun _ _ _ _ _ _ _ _ _ _ _ _ _ _ _ hWS => And.intro hin ?_)))))))
        refine ⟨?_, ch_inR ⟨w, hht, hh, hyh, hx, hy, hst, hop, hk1⟩⟩
        rw [hcl, hWS.2.1 i hi h5 h8, ch_LL_R]
end
section
/-! own rows: the likeliest run -/
theorem ch_s0_nr {al al' : Nat → Nat → Bool} {P : ch_P} {i : Nat} {st : List (Nat × Nat)} {q : ch_Q} {o : Nat} (h : ¬ (i < ch_n P ∧ (ch_K P i = 1 ∨ ch_K P i = 2) ∧ q.1 = 0)) : ch_s0 al P i st q o = ch_s0 al' P i st q o := by
  by_cases hi : i < ch_n P
  · by_cases hr : ch_K P i = 1 ∨ ch_K P i = 2
    · have hq : ¬ q.1 = 0 := fun z => h ⟨hi, hr, z⟩
      rw [ch_s0_r hi hr, ch_s0_r hi hr, if_neg hq, if_neg hq]
    · unfold ch_s0
      rw [if_neg hr, if_neg hr]
  · unfold ch_s0
    rw [if_neg hi, if_neg hi]
theorem ch_s0_ok {al : Nat → Nat → Bool} {P : ch_P} {i : Nat} {st : List (Nat × Nat)} {q q' : ch_Q} {o : Nat} (h : ch_s0 al P i st q o = .ok q') : ch_s0 ch_ok P i st q o = .ok q' := by
  rcases ch_s0_k h with h2 | h2
  · rw [ch_s0_nr (al' := al) h2.1]
    exact h
  · obtain ⟨hr, hk, _, hs, ha, e⟩ := h2
    rw [ch_s0_r hr.1 hr.2.1, if_pos hr.2.2, if_neg (by omega), if_neg hs, if_pos (show ch_ok _ _ = true from rfl), e]
theorem ch_rn_al {al : Nat → Nat → Bool} {P : ch_P} : ∀ (T i : Nat) (st : List (Nat × Nat)) (q p : ch_Q) (o : Nat → Nat), ch_rn al P T i st q o = .ok p → ch_rn ch_ok P T i st q o = .ok p ∧ ∀ t, q.2.1 ≤ t → t < p.2.1 → al t (o t) = true := by
  intro T
  induction T with
  | zero =>
    intro i st q p o h
    refine ⟨h, fun t h1 h2 => ?_⟩
    injection h with h
    rw [h] at h1
    omega
  | succ T ih =>
    intro i st q p o h
    by_cases hd : ch_n P ≤ i ∧ st.length = 0
    · rw [ch_rn_d hd] at h
      rw [ch_rn_d hd]
      refine ⟨h, fun t h1 h2 => ?_⟩
      injection h with h
      rw [h] at h1
      omega
    · cases hs : ch_s0 al P i st (ch_iq P i q) (o q.2.1) with
      | error e => rw [ch_rn_e hd hs] at h; cases h
      | ok q1 =>
        rw [ch_rn_o hd hs] at h
        have h2 := ih _ _ _ _ _ h
        rw [ch_rn_o hd (ch_s0_ok hs)]
        refine ⟨h2.1, fun t h3 h4 => ?_⟩
        have h5 := ch_s0_k hs
        rw [ch_iq_k] at h5
        rcases h5 with h5 | h5
        · exact h2.2 t (by omega) h4
        · by_cases ht : t = q.2.1
          · rw [ht]; exact h5.2.2.2.2.1
          · exact h2.2 t (by omega) h4
theorem ch_rn_la {al : Nat → Nat → Bool} {P : ch_P} : ∀ (T i : Nat) (st : List (Nat × Nat)) (q p : ch_Q) (o : Nat → Nat), ch_rn ch_ok P T i st q o = .ok p → (∀ t, q.2.1 ≤ t → t < p.2.1 → al t (o t) = true) → ch_rn al P T i st q o = .ok p := by
  intro T
  induction T with
  | zero => intro i st q p o h _; exact h
  | succ T ih =>
    intro i st q p o h ha
    by_cases hd : ch_n P ≤ i ∧ st.length = 0
    · rw [ch_rn_d hd] at h
      rw [ch_rn_d hd]
      exact h
    · cases hs : ch_s0 ch_ok P i st (ch_iq P i q) (o q.2.1) with
      | error e => rw [ch_rn_e hd hs] at h; cases h
      | ok q1 =>
        rw [ch_rn_o hd hs] at h
        have hm := ch_rn_mono _ _ _ _ _ _ h
        have h5 := ch_s0_k hs
        have hs2 : ch_s0 al P i st (ch_iq P i q) (o q.2.1) = .ok q1 := by
          rcases h5 with h5 | h5
          · rw [ch_s0_nr (al' := ch_ok) h5.1]
            exact hs
          · obtain ⟨hr, hk, hk1, hsh, _, e⟩ := h5
            rw [ch_iq_k] at hk hk1
            rw [ch_s0_r hr.1 hr.2.1, if_pos hr.2.2, ch_iq_k, if_neg (by omega), if_neg hsh, if_pos (ha _ (Nat.le_refl _) (by omega)), e, ch_iq_k]
        rw [ch_rn_o hd hs2]
        rw [ch_iq_k] at h5
        exact ih _ _ _ _ _ h (fun t h3 h4 => ha t (by omega) h4)
theorem ch_dg_pre {r x : Nat} (hr : r < 4096) (hx : x < 4096) : ∀ i, i ≤ 6 → (∀ t, t < i → ch_dg r t = ch_dg x t) → r / 4 ^ (6 - i) = x / 4 ^ (6 - i) := by
  intro i
  induction i with
  | zero =>
    intro _ _
    rw [Nat.div_eq_of_lt (show r < 4 ^ (6 - 0) from hr), Nat.div_eq_of_lt (show x < 4 ^ (6 - 0) from hx)]
  | succ i ih =>
    intro hi h
    have h1 := ih (by omega) (fun t ht => h t (by omega))
    have h2 := h i (by omega)
    unfold ch_dg at h2
    have e : 6 - i = (5 - i) + 1 := by omega
    rw [e, Nat.pow_succ, ← Nat.div_div_eq_div_mul, ← Nat.div_div_eq_div_mul] at h1
    rw [show 6 - (i + 1) = 5 - i by omega]
    generalize r / 4 ^ (5 - i) = a at *
    generalize x / 4 ^ (5 - i) = b at *
    omega
theorem ch_dg_less {r x i : Nat} (hr : r < 4096) (hx : x < 4096) (hi : i < 6) (h : ∀ t, t < i → ch_dg r t = ch_dg x t) (hl : ch_dg r i < ch_dg x i) : r < x := by
  have h1 := ch_dg_pre hr hx i (by omega) h
  unfold ch_dg at hl
  have e : 6 - i = (5 - i) + 1 := by omega
  rw [e, Nat.pow_succ, ← Nat.div_div_eq_div_mul, ← Nat.div_div_eq_div_mul] at h1
  have h2 : r / 4 ^ (5 - i) < x / 4 ^ (5 - i) := by
    generalize r / 4 ^ (5 - i) = a at *
    generalize x / 4 ^ (5 - i) = b at *
    omega
  exact Nat.lt_of_not_le (fun z => absurd (Nat.div_le_div_right (c := 4 ^ (5 - i)) z) (by omega))
/-- the first i outcomes are forced as those of row x, the others are free -/
def ch_fo (x i : Nat) (fo : Nat → Int32) : Prop := (∀ t, t < i → fo t = nI (ch_dg x t)) ∧ ∀ t, i ≤ t → t < 6 → fo t = -1
def ch_best (P : ch_P) (x : Nat) (q : ch_Q) : Prop := x < 4096 ∧ q ∈ ch_Fr P x ∧ ch_W q = ch_bg true (ch_R ch_ok P) ch_W ∧ ∀ y, y < x → ∀ p, p ∈ ch_Fr P y → ch_W p < ch_W q
section
variable {P : ch_P} {x i : Nat} {q : ch_Q} {fo : Nat → Int32}
theorem ch_best_in (w : ch_wf P) (hb : ch_best P x q) (hf : ch_fo x i fo) : q ∈ ch_R (ch_al fo) P := by
  have h1 := ch_Fr_mem hb.2.1
  have hqi := ch_run_qi w (ch_dg_lt x) h1.1
  refine ch_R_in hb.1 (ch_rn_la 864 0 [] ch_q0 q _ h1.1 (fun t _ ht => decide_eq_true ?_)) h1.2
  by_cases hti : t < i
  · exact Or.inr (hf.1 t hti)
  · refine Or.inl ?_
    rw [hf.2 t (by omega) (by have := hqi.2.1; omega)]
    decide
theorem ch_best_of (w : ch_wf P) {p : ch_Q} (h : p ∈ ch_R (ch_al fo) P) : ∃ r, r < 4096 ∧ p ∈ ch_Fr P r ∧ ch_run ch_ok P (ch_dg r) = .ok p ∧ ∀ t, t < p.2.1 → ch_al fo t (ch_dg r t) = true := by
  obtain ⟨r, hr, h1, h2⟩ := ch_R_mem h
  have h3 := ch_rn_al 864 0 [] ch_q0 p _ h1
  refine ⟨r, hr, ?_, h3.1, fun t ht => h3.2 t (Nat.zero_le _) ht⟩
  unfold ch_Fr
  rw [show ch_run ch_ok P (ch_dg r) = .ok p from h3.1]
  show p ∈ (if r % 4 ^ (6 - p.2.1) = 0 then [p] else [])
  rw [if_pos h2]
  exact List.mem_singleton.mpr rfl
theorem ch_al_d {t r : Nat} (h : fo t = nI (ch_dg x t)) (ha : ch_al fo t (ch_dg r t) = true) : ch_dg r t = ch_dg x t := by
  have h1 := ch_dg_lt x t
  have h2 := ch_dg_lt r t
  rcases of_decide_eq_true ha with z | z
  · rw [h] at z
    exact absurd z (nI_pos (by omega))
  · rw [h] at z
    exact ((nI_eq (by omega) (by omega)).mp z).symm
theorem ch_best_q (w : ch_wf P) (hb : ch_best P x q) (hf : ∀ t, t < i → fo t = nI (ch_dg x t)) {p : ch_Q} (h : p ∈ ch_R (ch_al fo) P) (hk : p.2.1 ≤ i) : p = q := by
  obtain ⟨r, hr, _, h1, h2⟩ := ch_best_of w h
  have h3 := ch_rn_pre 864 0 [] ch_q0 p _ (ch_dg x) h1 (fun t ht => ch_al_d (hf t (by omega)) (h2 t ht))
  have h4 := (ch_Fr_mem hb.2.1).1
  have h5 : (Except.ok p : Except Nat ch_Q) = .ok q := h3.symm.trans h4
  injection h5
theorem ch_best_le (w : ch_wf P) (hb : ch_best P x q) {p : ch_Q} (h : p ∈ ch_R (ch_al fo) P) : ch_W p ≤ ch_W q := by
  obtain ⟨r, hr, hp, h1, _⟩ := ch_best_of w h
  rw [hb.2.2.1]
  exact ch_bg_le true (ch_R_in hr h1 (ch_Fr_mem hp).2)
theorem ch_best_M (w : ch_wf P) (hb : ch_best P x q) (hf : ch_fo x i fo) : ch_bg true (ch_R (ch_al fo) P) ch_W = ch_W q :=
  Nat.le_antisymm (ch_bg_lub (fun _ hp => ch_best_le w hb hp)) (ch_bg_le true (ch_best_in w hb hf))
theorem ch_W_pos {d : Nat} {q : ch_Q} (h : ch_qi d q) : 0 < ch_W q := Nat.mul_pos h.2.2.2.1 (Nat.pow_pos (by decide))
theorem ch_best_less (w : ch_wf P) (hb : ch_best P x q) (hi : i < q.2.1) {o : Nat} (ho : o < ch_dg x i) (hf : ∀ t, t < i → fo t = nI (ch_dg x t)) (hfi : fo i = nI o) : ¬ ch_bg true (ch_R (ch_al fo) P) ch_W = ch_W q := by
  intro he
  have hqi := ch_run_qi w (ch_dg_lt x) (ch_Fr_mem hb.2.1).1
  have hpos := ch_W_pos hqi
  have hx4 := ch_dg_lt x i
  obtain ⟨p, hp, hpW⟩ := ch_bg_mem (l := ch_R (ch_al fo) P) (F := ch_W) (by omega)
  by_cases hk : p.2.1 ≤ i
  · have := ch_best_q w hb hf hp hk
    rw [this] at hk
    omega
  · obtain ⟨r, hr, hpr, h1, h2⟩ := ch_best_of w hp
    have h3 : ∀ t, t < i → ch_dg r t = ch_dg x t := fun t ht => ch_al_d (hf t ht) (h2 t (by omega))
    have h4 : ch_dg r i = o := by
      have h5 := ch_dg_lt r i
      rcases of_decide_eq_true (h2 i (by omega)) with z | z
      · rw [hfi] at z
        exact absurd z (nI_pos (by omega))
      · rw [hfi] at z
        exact ((nI_eq (by omega) (by omega)).mp z).symm
    have h6 := ch_dg_less hr hb.1 (by have := hqi.2.1; omega) h3 (by omega)
    have h7 := hb.2.2.2 r h6 p hpr
    omega
end
section
variable {f_height f_size f_opened f_level f_greatestOnly f_watched f_known : Int32} {a_lower a_upper a_low a_high a_weights a_visited a_weightHere a_visitedHere a_atEnd : Nat → Int64} {a_kind a_variable a_share a_openAt a_elseOf a_endOf a_blockAt a_rounds a_forced : Nat → Int32} {P : ch_P} {A : Nat → Nat} {i x : Nat} {q : ch_Q}
theorem ch_he2 {post : Int32 → Prop} (hi : i ≤ 5) (hb : ∀ c, c < 448 → A c ≤ 16777216) (h0 : (∀ s, s < 64 → A (64 * i + s) = 0) → post 0) (h1 : (∃ s, s < 64 ∧ A (64 * i + s) ≠ 0) → post 1) :
    ∀ d s : Nat, s + d = 64 → (∀ t, t < s → A (64 * i + t) = 0) → wX_hasEnded_2 post (nI i) f_height f_size f_opened f_level f_greatestOnly f_watched f_known a_lower a_upper a_kind a_variable a_share a_low a_high a_openAt a_elseOf a_endOf (ch_w A) a_visited a_blockAt a_rounds a_forced a_weightHere a_visitedHere a_atEnd (d + 1) (nI s) := by
  intro d
  induction d with
  | zero =>
    intro s hs hz
    have e : s = 64 := by omega
    subst e
    exact br_t (by decide) (h0 hz)
  | succ d ih =>
    intro s hs hz
    have hs64 : s < 64 := by omega
    have hin : vp_in (nI (64 * i + s)) 1792 := vp_in_nI (by omega) (by decide)
    have hcl : (nI (64 * i + s)).toNatClampNeg = 64 * i + s := nI_clamp (by omega)
    have hbb := hb (64 * i + s) (by omega)
    refine br_f (nI_ge (a := s) (b := 64) hs64 (by omega)) ?_
    rw [ch_64, hcl, show ch_w A (64 * i + s) = lN (A (64 * i + s)) from rfl]
    refine And.intro hin ?_
    by_cases hA : A (64 * i + s) = 0
    · rw [hA]
      refine br_t (by decide) (nm_r (nI_1 s) (ih (s + 1) (by omega) (fun t ht => ?_)))
      by_cases hts : t = s
      · rw [hts]; exact hA
      · exact hz t (by omega)
    · exact br_f (fun z => absurd ((lN_le (b := 0) (by omega) (by decide)).mp z) (by omega)) (h1 ⟨s, hs64, hA⟩)
theorem ch_hend {post : Int32 → Prop} (hi : i ≤ 5) (hb : ∀ c, c < 448 → A c ≤ 16777216) (h0 : (∀ s, s < 64 → A (64 * i + s) = 0) → post 0) (h1 : (∃ s, s < 64 ∧ A (64 * i + s) ≠ 0) → post 1) : wpX_hasEnded post (f_height, f_size, f_opened, f_level, f_greatestOnly, f_watched, f_known, a_lower, a_upper, a_kind, a_variable, a_share, a_low, a_high, a_openAt, a_elseOf, a_endOf, ch_w A, a_visited, a_blockAt, a_rounds, a_forced, a_weightHere, a_visitedHere, a_atEnd) (nI i) :=
  Exists.intro 65 (ch_he2 hi hb h0 h1 64 0 (by omega) (fun t ht => by omega))
theorem ch_fn3 {post : SX → Prop} (w : ch_wf P) (hx : ch_xp P f_size a_kind a_variable a_share a_low a_high) (hb : ch_best P x q) (hi : i < q.2.1) (hk6 : q.2.1 ≤ 6)
    (h : ∀ (A : Nat → Nat) (f_level f_greatestOnly : Int32) (a_visited : Nat → Int64) (a_blockAt a_rounds a_forced : Nat → Int32) (a_weightHere a_visitedHere : Nat → Int64), ch_fo x (i + 1) a_forced → ch_AR true ch_v1 0 (ch_R (ch_al a_forced) P) A → post (f_height, f_size, f_opened, f_level, f_greatestOnly, (-1), f_known, a_lower, a_upper, a_kind, a_variable, a_share, a_low, a_high, a_openAt, a_elseOf, a_endOf, ch_w A, a_visited, a_blockAt, a_rounds, a_forced, a_weightHere, a_visitedHere, a_atEnd)) :
    ∀ (d o : Nat) (f_level f_greatestOnly : Int32) (a_weights a_visited : Nat → Int64) (a_blockAt a_rounds a_forced : Nat → Int32) (a_weightHere a_visitedHere : Nat → Int64), o + d = ch_dg x i → (∀ t, t < i → a_forced t = nI (ch_dg x t)) → (∀ t, i < t → t < 6 → a_forced t = -1) → wX_forceNext_3 post (nI i) (lN (ch_W q)) (d + 1) (nI o) f_height f_size f_opened f_level f_greatestOnly (-1) f_known a_lower a_upper a_kind a_variable a_share a_low a_high a_openAt a_elseOf a_endOf a_weights a_visited a_blockAt a_rounds a_forced a_weightHere a_visitedHere a_atEnd := by
  have hqi := ch_run_qi w (ch_dg_lt x) (ch_Fr_mem hb.2.1).1
  have hWq := ch_W_le hqi
  have hin : vp_in (nI i) 6 := vp_in_nI (by omega) (by decide)
  have hcl : (nI i).toNatClampNeg = i := nI_clamp (by omega)
  have hx4 := ch_dg_lt x i
  intro d
  induction d with
  | zero =>
    intro o z1 z2 z3 z4 z5 z6 z7 z8 z9 ho hf1 hf2
    have e : o = ch_dg x i := by omega
    subst e
    refine br_f (nI_ge (a := ch_dg x i) (b := 4) hx4 (by omega)) (And.intro hin (fun fo' ef => ?_))
    rw [hcl] at ef
    have hfo : ch_fo x (i + 1) fo' := by
      rw [ef]
      refine ⟨fun t ht => ?_, fun t ht h6 => ?_⟩
      · by_cases hti : t = i
        · rw [hti, pk_us]
        · rw [pk_un hti]; exact hf1 t (by omega)
      · rw [pk_un (by omega)]; exact hf2 t (by omega) h6
    refine ch_gw w hx rfl (fun A' _ _ _ _ _ _ hA => ?_)
    rw [ch_best_M w hb hfo]
    exact br_t rfl (h A' _ _ _ _ _ _ _ _ hfo hA)
  | succ d ih =>
    intro o z1 z2 z3 z4 z5 z6 z7 z8 z9 ho hf1 hf2
    refine br_f (nI_ge (a := o) (b := 4) (by omega) (by omega)) (And.intro hin (fun fo' ef => ?_))
    rw [hcl] at ef
    have hf1' : ∀ t, t < i → fo' t = nI (ch_dg x t) := fun t ht => by rw [ef, pk_un (by omega)]; exact hf1 t ht
    have hf2' : ∀ t, i < t → t < 6 → fo' t = -1 := fun t ht h6 => by rw [ef, pk_un (by omega)]; exact hf2 t ht h6
    refine ch_gw w hx rfl (fun A' _ _ _ _ _ _ hA => ?_)
    have hne := ch_best_less (fo := fo') w hb hi (o := o) (by omega) hf1' (by rw [ef, pk_us])
    have hML : ch_bg true (ch_R (ch_al fo') P) ch_W ≤ 16777216 := ch_bg_lub (fun p hp => ch_W_le (ch_R_qi w hp))
    exact br_f (fun z => hne ((lN_eq (by omega) (by omega)).mp z)) (nm_r (nI_1 o) (ih (o + 1) _ _ _ _ _ _ _ _ _ (by omega) hf1' hf2'))
theorem ch_lk25 {post : Int32 → SX → Prop} {j : Nat} (hj : j < 6) (w : ch_wf P) (hx : ch_xp P f_size a_kind a_variable a_share a_low a_high) (hb : ch_best P x q)
    (h : ∀ (f_level f_greatestOnly : Int32) (a_weights a_visited : Nat → Int64) (a_blockAt a_rounds a_forced : Nat → Int32) (a_weightHere a_visitedHere : Nat → Int64), post (if j < q.2.1 then nI (ch_dg x j) else -2) (f_height, f_size, f_opened, f_level, f_greatestOnly, (-1), f_known, a_lower, a_upper, a_kind, a_variable, a_share, a_low, a_high, a_openAt, a_elseOf, a_endOf, a_weights, a_visited, a_blockAt, a_rounds, a_forced, a_weightHere, a_visitedHere, a_atEnd)) :
    ∀ (d i : Nat) (A : Nat → Nat) (f_level f_greatestOnly : Int32) (a_visited : Nat → Int64) (a_blockAt a_rounds a_forced : Nat → Int32) (a_weightHere a_visitedHere : Nat → Int64), i + d = j + 1 → i ≤ q.2.1 → ch_fo x i a_forced → ch_AR true ch_v1 0 (ch_R (ch_al a_forced) P) A → wX_likely_25 post (nI j) (lN (ch_W q)) (d + 1) (nI i) f_height f_size f_opened f_level f_greatestOnly (-1) f_known a_lower a_upper a_kind a_variable a_share a_low a_high a_openAt a_elseOf a_endOf (ch_w A) a_visited a_blockAt a_rounds a_forced a_weightHere a_visitedHere a_atEnd := by
  have hqi := ch_run_qi w (ch_dg_lt x) (ch_Fr_mem hb.2.1).1
  have hWq := ch_W_le hqi
  have hpos := ch_W_pos hqi
  have hk6 := hqi.2.1
  have hne : ¬ lN (ch_W q) = 0 := fun z => absurd ((lN_eq (b := 0) (by omega) (by decide)).mp z) (by omega)
  intro d
  induction d with
  | zero =>
    intro i A z1 z2 z4 z5 z6 z7 z8 z9 hd hi hf hA
    have hin : vp_in (nI j) 6 := vp_in_nI hj (by decide)
    have hcl : (nI j).toNatClampNeg = j := nI_clamp (by omega)
    refine br_t (nI_lt (by omega) (by omega)) (And.intro hin ?_)
    rw [hcl, hf.1 j (by omega)]
    have h2 := h z1 z2 (ch_w A) z4 z5 z6 z7 z8 z9
    rw [if_pos (by omega)] at h2
    exact h2
  | succ d ih =>
    intro i A z1 z2 z4 z5 z6 z7 z8 z9 hd hi hf hA
    have hbd := ch_AR_b hA (fun p hp => ch_R_qi w hp)
    refine br_f (nI_nlt (by omega) (by omega)) ?_
    by_cases hiq : i = q.2.1
    · have h2 := h z1 z2 (ch_w A) z4 z5 z6 z7 z8 z9
      rw [if_neg (by omega)] at h2
      refine ch_hend (by omega) (fun c hc => hbd c (by omega)) (fun hz => ?_) (fun _ => br_f hne (br_f (by decide) h2))
      have h3 := hz q.2.2.1 hqi.2.2.1
      rw [hA _ (by have := hqi.2.2.1; omega)] at h3
      have h4 := ch_bg_le (F := ch_fq ch_v1 (64 * i + q.2.2.1)) true (ch_best_in w hb hf)
      rw [ch_fq_y (by have := hqi.1; unfold ch_cl; omega), h3] at h4
      have h5 := hqi.2.2.2.1
      exact absurd h4 (Nat.not_le_of_lt h5)
    · refine ch_hend (by omega) (fun c hc => hbd c (by omega)) (fun _ => br_f hne (br_t rfl (Exists.intro (ch_dg x i + 1) ?_))) (fun ⟨s, hs, hz⟩ => ?_)
      · exact ch_fn3 w hx hb (by omega) hk6 (fun A' y1 y2 y3 y4 y5 y6 y7 y8 hf' hA' => nm_r (nI_1 i) (ih (i + 1) A' y1 y2 y3 y4 y5 y6 y7 y8 (by omega) (by omega) hf' hA')) (ch_dg x i) 0 _ _ _ _ _ _ _ _ _ (by omega) hf.1 (fun t ht h6 => hf.2 t (by omega) h6)
      · refine absurd ?_ hz
        rw [hA _ (by omega)]
        refine ch_bg_z true (fun p hp => ch_fq_n (fun hc => ?_))
        have hpi := ch_R_qi w hp
        unfold ch_cl at hc
        unfold ch_qi at hpi
        have hpk : p.2.1 = i := by omega
        have := ch_best_q w hb hf.1 hp (by omega)
        rw [this] at hpk
        exact hiq hpk.symm
end
theorem i_vc_likely {k : Nat} {u : SX} {v : SY} (I : i_Rel k u v) (hk : k + 5 ≤ 2560) (v1 : Int32) : wpX_likely (fun r u' => wpY_likely (fun r' v' => r' = r ∧ i_Rel (k + 5) u' v') v v1) u v1 := by
  refine ch_el (Q := fun u v => wpX_likely (fun r u' => wpY_likely (fun r' v' => r' = r ∧ i_Rel (k + 5) u' v') v v1) u v1) ?_ I
  intro f_height f_size f_opened f_level f_greatestOnly f_watched f_known a_lower a_upper a_kind a_variable a_share a_low a_high a_openAt a_elseOf a_endOf a_weights a_visited a_blockAt a_rounds a_forced a_weightHere a_visitedHere a_atEnd yf_height yf_count yf_open yf_at yf_depth yf_state yf_steps yf_product yf_end yf_most yf_mostRow yf_mostSteps ya_stack ya_kinds ya_variables ya_numbers ya_values ya_opened ya_begins ya_left ya_outcomes ya_met ya_sums ya_visited P ht hR
  have hR0 := hR
  obtain ⟨w, hht, hh, hyh, hx, hy, hst, hop, hk1⟩ := hR
  unfold wpX_likely
  unfold wpY_likely
  have hbig : (v1 < 0 ∨ ¬ v1 < 6) → ∀ (ms : Nat), ms ≤ 6 → ¬ v1 < 0 → ¬ v1 < nI ms := fun hz ms hms h0 h1 => by
    rcases hz with z | z
    · exact h0 z
    · exact z (Int32.lt_of_lt_of_le h1 (nI_le (b := 6) hms (by decide)))
  have hout : (v1 < 0 ∨ ¬ v1 < 6) → wpY_likely (fun r' v' => r' = (-2) ∧ i_Rel (k + 5) (f_height, f_size, f_opened, f_level, f_greatestOnly, f_watched, f_known, a_lower, a_upper, a_kind, a_variable, a_share, a_low, a_high, a_openAt, a_elseOf, a_endOf, a_weights, a_visited, a_blockAt, a_rounds, a_forced, a_weightHere, a_visitedHere, a_atEnd) v') (yf_height, yf_count, yf_open, yf_at, yf_depth, yf_state, yf_steps, yf_product, yf_end, yf_most, yf_mostRow, yf_mostSteps, ya_stack, ya_kinds, ya_variables, ya_numbers, ya_values, ya_opened, ya_begins, ya_left, ya_outcomes, ya_met, ya_sums, ya_visited) v1 := fun hz => by
    unfold wpY_likely
    refine ch_ywork hy w (fun _ _ _ _ _ _ mo mr ms _ _ _ _ _ _ hWS => ?_)
    refine br_c (fun _ => ⟨rfl, ch_inR hR0⟩) (fun hm => br_c (fun _ => ⟨rfl, ch_inR hR0⟩) (fun h0 => ?_))
    have hML := ch_LL_W w 4096
    have hm2 : 0 < ch_bg true (ch_LL P 4096) ch_W := by
      rw [hWS.2.2.1] at hm
      exact Nat.pos_of_ne_zero (fun z => hm (by rw [z]; rfl))
    obtain ⟨x, q, hx4, e1, e2, hq, _⟩ := hWS.2.2.2 hm2
    have hqi := ch_run_qi w (ch_dg_lt x) (ch_Fr_mem hq).1
    refine br_f ?_ ⟨rfl, ch_inR hR0⟩
    rw [e2]
    exact hbig hz q.2.1 hqi.2.1 h0
  by_cases h0 : v1 < 0
  · exact br_t h0 (hout (Or.inl h0))
  · refine br_f h0 ?_
    by_cases h6 : v1 < 6
    · obtain ⟨j, hj, rfl⟩ := nI_of h0
      have hj6 : j < 6 := (nI_ltI (b := 6) hj (by decide)).mp h6
      refine br_t h6 (ch_letAll (fun fo hfo => ch_gw w hx rfl (fun A f1 f2 f3 f4 f5 f7 hA => Exists.intro (j + 2) ?_)))
      have eR : ch_R (ch_al fo) P = ch_R ch_ok P := ch_R_al (ch_al_free hfo)
      have hML := ch_LL_W w 4096
      by_cases hM : ch_bg true (ch_R ch_ok P) ch_W = 0
      · rw [eR, hM]
        have hbd := ch_AR_b hA (fun p hp => ch_R_qi w hp)
        have hfin : wpY_likely (fun r' v' => r' = (-2) ∧ i_Rel (k + 5) (f_height, f_size, f_opened, f1, 0, (-1), f_known, a_lower, a_upper, a_kind, a_variable, a_share, a_low, a_high, a_openAt, a_elseOf, a_endOf, ch_w A, f2, f3, f4, fo, f5, f7, a_atEnd) v') (yf_height, yf_count, yf_open, yf_at, yf_depth, yf_state, yf_steps, yf_product, yf_end, yf_most, yf_mostRow, yf_mostSteps, ya_stack, ya_kinds, ya_variables, ya_numbers, ya_values, ya_opened, ya_begins, ya_left, ya_outcomes, ya_met, ya_sums, ya_visited) (nI j) := by
          unfold wpY_likely
          refine ch_ywork hy w (fun _ _ _ _ _ _ mo mr ms _ _ _ _ _ _ hWS => ?_)
          refine br_t ?_ ⟨rfl, ch_inR ⟨w, hht, hh, hyh, hx, hy, hst, hop, hk1⟩⟩
          rw [hWS.2.2.1, ch_LL_R, hM]
          rfl
        refine br_f (nI_nlt (Nat.zero_le _) (by omega)) (ch_hend (i := 0) (by omega) (fun c hc => hbd c (by omega)) (fun _ => br_t rfl hfin) (fun _ => br_t rfl hfin))
      · have hm2 : 0 < ch_bg true (ch_LL P 4096) ch_W := by rw [ch_LL_R]; omega
        rw [eR]
        -- the reference's first best row
        have hfo0 : ∀ x, ch_fo x 0 fo := fun x => ⟨fun t ht => by omega, fun t _ h6 => hfo t h6⟩
        obtain ⟨x, q, hb, hY⟩ : ∃ x q, ch_best P x q ∧ ∀ (sums : Nat → Int32) (vis : Nat → Int64) (mo mr ms : Int32), ch_WS P 4096 sums vis mo mr ms → mr = nI x ∧ ms = nI q.2.1 := by
          have hex : ∃ x, (∃ q, ch_best P x q) := by
            obtain ⟨p, hp, hpW⟩ := ch_bg_mem (l := ch_R ch_ok P) (F := ch_W) (by omega)
            obtain ⟨r, hr, h1, h2⟩ := ch_R_mem hp
            have hpr : p ∈ ch_Fr P r := by
              unfold ch_Fr
              rw [h1]
              show p ∈ (if r % 4 ^ (6 - p.2.1) = 0 then [p] else [])
              rw [if_pos h2]
              exact List.mem_singleton.mpr rfl
            obtain ⟨y, ⟨⟨q, hq, hqW⟩, hy4⟩, hmin⟩ := pk_least (fun y => (∃ q, q ∈ ch_Fr P y ∧ ch_W q = ch_bg true (ch_R ch_ok P) ch_W) ∧ y < 4096) ⟨r, ⟨p, hpr, hpW⟩, hr⟩
            refine ⟨y, q, hy4, hq, hqW, fun z hz p2 hp2 => ?_⟩
            have h3 := ch_Fr_mem hp2
            have h4 := ch_bg_le (F := ch_W) true (ch_R_in (al := ch_ok) (by omega) h3.1 h3.2)
            have h5 : ¬ ch_W p2 = ch_bg true (ch_R ch_ok P) ch_W := fun z2 => hmin z hz ⟨⟨p2, hp2, z2⟩, by omega⟩
            omega
          obtain ⟨x, q, hb⟩ := hex
          refine ⟨x, q, hb, fun sums vis mo mr ms hWS => ?_⟩
          obtain ⟨y, p, hy4, e1, e2, hp, hpW, hfirst⟩ := hWS.2.2.2 hm2
          rw [ch_LL_R] at hpW
          have hyx : y = x := by
            rcases Nat.lt_trichotomy y x with z | z | z
            · have := hb.2.2.2 y z p hp
              have := hb.2.2.1
              omega
            · exact z
            · have := hfirst x z q hb.2.1
              have := hb.2.2.1
              omega
          subst hyx
          have h1 := (ch_Fr_mem hp).1
          have h2 := (ch_Fr_mem hb.2.1).1
          have h3 : (Except.ok p : Except Nat ch_Q) = .ok q := h1.symm.trans h2
          injection h3 with h3
          rw [← h3]
          exact ⟨e1, e2⟩
        have hqi := ch_run_qi w (ch_dg_lt x) (ch_Fr_mem hb.2.1).1
        have hk6 := hqi.2.1
        rw [← hb.2.2.1]
        refine ch_lk25 hj6 w hx hb (fun z1 z2 z3 z4 z5 z6 z7 z8 z9 => ?_) (j + 1) 0 A _ _ _ _ _ _ _ _ (by omega) (Nat.zero_le _) (hfo0 x) hA
        refine ch_ywork hy w (fun _ _ _ _ _ _ mo mr ms _ _ _ _ _ _ hWS => ?_)
        obtain ⟨e1, e2⟩ := hY _ _ _ _ _ hWS
        have hmne : ¬ mo = 0 := by
          rw [hWS.2.2.1]
          exact nI_ne0 hm2 (by omega)
        refine br_f hmne (br_f h0 ?_)
        rw [e1, e2]
        by_cases hjq : j < q.2.1
        · rw [if_pos hjq, ch_dg_e hb.1 j hj6]
          exact br_t (nI_lt hjq (by omega)) ⟨rfl, ch_inR ⟨w, hht, hh, hyh, hx, hy, hst, hop, hk1⟩⟩
        · rw [if_neg hjq]
          exact br_f (nI_nlt (by omega) (by omega)) ⟨rfl, ch_inR ⟨w, hht, hh, hyh, hx, hy, hst, hop, hk1⟩⟩
    · exact br_f h6 (hout (Or.inr h6))
end
section
/-! own rows: the component follows one run -/
theorem ch_sc_8 (P : ch_P) : ∀ f i k : Nat, ch_sc P false f i k < k + f → ch_K P (ch_sc P false f i k) = 8 := by
  intro f
  induction f with
  | zero => intro i k h; exact absurd h (Nat.lt_irrefl k)
  | succ f ih =>
    intro i k h
    by_cases hc : i = 0 ∧ (ch_K P k = 8 ∨ (false = true ∧ ch_K P k = 5))
    · have e : ch_sc P false (f + 1) i k = k := if_pos hc
      rw [e]
      rcases hc.2 with z | z
      · exact z
      · exact absurd z.1 (by decide)
    · rw [ch_sc_n hc] at h ⊢
      exact ih _ _ (by omega)
theorem ch_fd_8 {P : ch_P} {b : Nat} (h : ch_fd P false b < ch_n P) : ch_K P (ch_fd P false b) = 8 := by
  by_cases hb : b < ch_n P
  · exact ch_sc_8 P _ _ _ (by have e : b + 1 + (ch_n P - (b + 1)) = ch_n P := by omega
                              rw [e]; exact h)
  · have := ch_fd_gt P false b
    omega
theorem ch_sc_tf (P : ch_P) : ∀ f i k : Nat, ¬ (ch_sc P true f i k < k + f ∧ ch_K P (ch_sc P true f i k) = 5) → ch_sc P false f i k = ch_sc P true f i k := by
  intro f
  induction f with
  | zero => intro i k _; rfl
  | succ f ih =>
    intro i k h
    by_cases hc : i = 0 ∧ (ch_K P k = 8 ∨ (true = true ∧ ch_K P k = 5))
    · have e : ch_sc P true (f + 1) i k = k := if_pos hc
      rw [e] at h
      have h5 : ¬ ch_K P k = 5 := fun z => h ⟨by omega, z⟩
      rcases hc.2 with z | z
      · have e2 : ch_sc P false (f + 1) i k = k := if_pos ⟨hc.1, Or.inl z⟩
        rw [e, e2]
      · exact absurd z.2 h5
    · have hc2 : ¬ (i = 0 ∧ (ch_K P k = 8 ∨ (false = true ∧ ch_K P k = 5))) := fun z => hc ⟨z.1, z.2.elim Or.inl (fun y => absurd y.1 (by decide))⟩
      rw [ch_sc_n hc] at h ⊢
      rw [ch_sc_n hc2]
      exact ih _ _ (fun z => h ⟨by omega, z.2⟩)
theorem ch_fd_tf {P : ch_P} {b : Nat} (hb : b < ch_n P) (h : ¬ (ch_fd P true b < ch_n P ∧ ch_K P (ch_fd P true b) = 5)) : ch_fd P false b = ch_fd P true b := by
  refine ch_sc_tf P _ _ _ (fun z => h ⟨?_, z.2⟩)
  have e : b + 1 + (ch_n P - (b + 1)) = ch_n P := by omega
  rw [e] at z
  exact z.1
def ch_GX (P : ch_P) (post : Int32 → SX → Prop) (ox : Int32) (f_height f_size f_opened f_greatestOnly f_watched f_known : Int32) (a_lower a_upper a_low a_high a_weights a_visited a_weightHere a_visitedHere a_atEnd : Nat → Int64) (a_kind a_variable a_share a_openAt a_elseOf a_endOf a_forced : Nat → Int32) (t i : Nat) (st : List (Nat × Nat)) (s k w : Nat) (m : Nat → Nat) : Prop :=
  ∀ (n x : Nat) (ba ro : Nat → Int32), t < n → x + t ≤ 2000 → ch_RS P st ba ro → wX_follow_15 post ox n (nI s) (nI k) (nI i) (nI x) f_height f_size f_opened (nI st.length) f_greatestOnly f_watched f_known a_lower a_upper a_kind a_variable a_share a_low a_high a_openAt a_elseOf a_endOf a_weights a_visited ba ro a_forced a_weightHere a_visitedHere a_atEnd
def ch_DX (post : Int32 → SX → Prop) (f_height f_size f_opened f_greatestOnly f_watched f_known : Int32) (a_lower a_upper a_low a_high a_weights a_visited a_weightHere a_visitedHere a_atEnd : Nat → Int64) (a_kind a_variable a_share a_openAt a_elseOf a_endOf a_forced : Nat → Int32) (e : Nat) : Prop := ∀ (f_level : Int32) (a_blockAt a_rounds : Nat → Int32), post (ch_code e) (f_height, f_size, f_opened, f_level, f_greatestOnly, f_watched, f_known, a_lower, a_upper, a_kind, a_variable, a_share, a_low, a_high, a_openAt, a_elseOf, a_endOf, a_weights, a_visited, a_blockAt, a_rounds, a_forced, a_weightHere, a_visitedHere, a_atEnd)
def ch_FX (post : Int32 → SX → Prop) (f_height f_size f_opened f_greatestOnly f_watched f_known : Int32) (a_lower a_upper a_low a_high a_weights a_visited a_weightHere a_visitedHere a_atEnd : Nat → Int64) (a_kind a_variable a_share a_openAt a_elseOf a_endOf a_forced : Nat → Int32) (q : ch_Q) : Prop := ∀ (f_level : Int32) (a_blockAt a_rounds : Nat → Int32), post (nI q.2.2.1) (f_height, f_size, f_opened, f_level, f_greatestOnly, f_watched, f_known, a_lower, a_upper, a_kind, a_variable, a_share, a_low, a_high, a_openAt, a_elseOf, a_endOf, a_weights, a_visited, a_blockAt, a_rounds, a_forced, a_weightHere, a_visitedHere, a_atEnd)
section
variable {f_height f_size f_opened f_level f_greatestOnly f_watched f_known : Int32} {a_lower a_upper a_low a_high a_weights a_visited a_weightHere a_visitedHere a_atEnd : Nat → Int64} {a_kind a_variable a_share a_openAt a_elseOf a_endOf a_blockAt a_rounds a_forced : Nat → Int32} {P : ch_P} {post : Int32 → SX → Prop} {ox : Int32} {o : Nat → Nat}
theorem ch_xendF {post : Int32 → Prop} {b : Nat} (w : ch_wf P) (hx : ch_xp P f_size a_kind a_variable a_share a_low a_high) (he : ch_EO P a_elseOf a_endOf) (hb : b < ch_n P) (hK : ch_K P b = 4 ∨ ch_K P b = 6) (h : post (nI (ch_fd P false b))) : wpX_endFor post (f_height, f_size, f_opened, f_level, f_greatestOnly, f_watched, f_known, a_lower, a_upper, a_kind, a_variable, a_share, a_low, a_high, a_openAt, a_elseOf, a_endOf, a_weights, a_visited, a_blockAt, a_rounds, a_forced, a_weightHere, a_visitedHere, a_atEnd) (nI b) := by
  have hn := w.1
  have hin : vp_in (nI b) 24 := vp_in_nI (by omega) (by decide)
  have hcl : (nI b).toNatClampNeg = b := nI_clamp (by omega)
  have hle := ch_fd_le (oe := false) hb
  refine And.intro hin ?_
  rw [hcl, (he b hb hK).1]
  by_cases hlt : ch_fd P false b < ch_n P
  · rw [if_pos hlt]
    exact br_t (nI_pos' (by omega)) (And.intro hin h)
  · rw [if_neg hlt]
    have e : ch_fd P false b = ch_n P := by omega
    rw [e, ← hx.1] at h
    exact br_f (by decide) h
theorem ch_x0 (hx : ch_xp P f_size a_kind a_variable a_share a_low a_high) (w : ch_wf P) : ch_r0 P (ch_GX P post ox f_height f_size f_opened f_greatestOnly f_watched f_known a_lower a_upper a_low a_high a_weights a_visited a_weightHere a_visitedHere a_atEnd a_kind a_variable a_share a_openAt a_elseOf a_endOf a_forced) := by
  intro t i st s k w' m hi hg hs hk h0 hgo n x ba ro hn hxt hS
  obtain ⟨n', rfl⟩ : ∃ n', n = n' + 1 := ⟨n - 1, by omega⟩
  have hn24 := w.1
  have hxi := hx.2 i hi
  have hin : vp_in (nI i) 24 := vp_in_nI (by omega) (by decide)
  have hcl : (nI i).toNatClampNeg = i := nI_clamp (by omega)
  have hkd : ∀ c, ch_K P i = c → a_kind (nI i).toNatClampNeg = nI c := fun c hc => by rw [hcl, hxi.1, hc]
  have hc1 : nI i < f_size := by rw [hx.1]; exact nI_lt hi (by omega)
  have hc2 : ¬ f_size ≤ nI i := by rw [hx.1]; exact nI_ge hi (by omega)
  refine br_f (nI_ge (a := x) (b := 2000) (by omega) (by decide)) (br_t hc1 (br_f hc2 (And.intro hin ?_)))
  rw [hkd _ h0]
  have hw := (w.2 i hi).1
  refine br_f (by decide) (br_f (by decide) (br_t rfl (And.intro hin (And.intro hin ?_))))
  rw [hcl, hxi.2.1 (by omega)]
  refine nm_r (ch_v_e _ _ hs) (And.intro hin ?_)
  rw [← hxi.2.2.2 s]
  exact ch_chd s _ _ hs (by have := hw.2.1 (by omega); omega) (by have := hw.2.2.2.2 s; omega) (nm_r (nI_1 i) (nm_r (nI_1 x) (hgo n' (x + 1) _ _ (by omega) (by omega) hS)))
theorem ch_x1r (hx : ch_xp P f_size a_kind a_variable a_share a_low a_high) (w : ch_wf P) (ho : ∀ j, j < 6 → ((ox >>> ((2 * nI j) &&& 31)) &&& 3) = nI (o j)) (ho4 : ∀ j, o j < 4) : ch_r1 P o (ch_GX P post ox f_height f_size f_opened f_greatestOnly f_watched f_known a_lower a_upper a_low a_high a_weights a_visited a_weightHere a_visitedHere a_atEnd a_kind a_variable a_share a_openAt a_elseOf a_endOf a_forced) := by
  intro t i st s k w' m hi hg hs hr hk hsh hgo n x ba ro hn hxt hS
  have hv3 : ch_V P i < 3 := by have := (w.2 i hi).1.2.1 (by omega); omega
  have hle := ch_sh_le (o := o k) (w.2 i hi).1 hr
  have hr0 := hr
  rcases hr with h1 | h1
  · obtain ⟨n', rfl⟩ : ∃ n', n = n' + 1 := ⟨n - 1, by omega⟩
    have hn24 := w.1
    have hxi := hx.2 i hi
    have hin : vp_in (nI i) 24 := vp_in_nI (by omega) (by decide)
    have hcl : (nI i).toNatClampNeg = i := nI_clamp (by omega)
    have hkd : ∀ c, ch_K P i = c → a_kind (nI i).toNatClampNeg = nI c := fun c hc => by rw [hcl, hxi.1, hc]
    have hc1 : nI i < f_size := by rw [hx.1]; exact nI_lt hi (by omega)
    have hc2 : ¬ f_size ≤ nI i := by rw [hx.1]; exact nI_ge hi (by omega)
    refine br_f (nI_ge (a := x) (b := 2000) (by omega) (by decide)) (br_t hc1 (br_f hc2 (And.intro hin ?_)))
    rw [hkd _ h1]
    refine br_t rfl (br_t (nI_lt (b := 6) hk (by decide)) (nm_r (ho k hk) (ch_shareOf w hx hi hr0 (ho4 k) (br_f (nI_ne0 (by omega) (by omega)) (And.intro hin ?_)))))
    rw [hcl, hxi.2.1 (by omega)]
    exact ch_chd s _ _ hs hv3 (ho4 k) (nm_r (nI_1 k) (nm_r (nI_1 i) (nm_r (nI_1 x) (hgo n' (x + 1) _ _ (by omega) (by omega) hS))))
  · obtain ⟨n', rfl⟩ : ∃ n', n = n' + 1 := ⟨n - 1, by omega⟩
    have hn24 := w.1
    have hxi := hx.2 i hi
    have hin : vp_in (nI i) 24 := vp_in_nI (by omega) (by decide)
    have hcl : (nI i).toNatClampNeg = i := nI_clamp (by omega)
    have hkd : ∀ c, ch_K P i = c → a_kind (nI i).toNatClampNeg = nI c := fun c hc => by rw [hcl, hxi.1, hc]
    have hc1 : nI i < f_size := by rw [hx.1]; exact nI_lt hi (by omega)
    have hc2 : ¬ f_size ≤ nI i := by rw [hx.1]; exact nI_ge hi (by omega)
    refine br_f (nI_ge (a := x) (b := 2000) (by omega) (by decide)) (br_t hc1 (br_f hc2 (And.intro hin ?_)))
    rw [hkd _ h1]
    refine br_f (by decide) (br_t rfl (br_t (nI_lt (b := 6) hk (by decide)) (nm_r (ho k hk) (ch_shareOf w hx hi hr0 (ho4 k) (br_f (nI_ne0 (by omega) (by omega)) (And.intro hin ?_))))))
    rw [hcl, hxi.2.1 (by omega)]
    exact ch_chd s _ _ hs hv3 (ho4 k) (nm_r (nI_1 k) (nm_r (nI_1 i) (nm_r (nI_1 x) (hgo n' (x + 1) _ _ (by omega) (by omega) hS))))
theorem ch_x16 (hx : ch_xp P f_size a_kind a_variable a_share a_low a_high) (w : ch_wf P) : ch_r16 P (ch_DX post f_height f_size f_opened f_greatestOnly f_watched f_known a_lower a_upper a_low a_high a_weights a_visited a_weightHere a_visitedHere a_atEnd a_kind a_variable a_share a_openAt a_elseOf a_endOf a_forced) (ch_GX P post ox f_height f_size f_opened f_greatestOnly f_watched f_known a_lower a_upper a_low a_high a_weights a_visited a_weightHere a_visitedHere a_atEnd a_kind a_variable a_share a_openAt a_elseOf a_endOf a_forced) := by
  intro t i st s k w' m hi hg hs hr hk hD n x ba ro hn hxt hS
  subst hk
  rcases hr with h1 | h1
  · obtain ⟨n', rfl⟩ : ∃ n', n = n' + 1 := ⟨n - 1, by omega⟩
    have hn24 := w.1
    have hxi := hx.2 i hi
    have hin : vp_in (nI i) 24 := vp_in_nI (by omega) (by decide)
    have hcl : (nI i).toNatClampNeg = i := nI_clamp (by omega)
    have hkd : ∀ c, ch_K P i = c → a_kind (nI i).toNatClampNeg = nI c := fun c hc => by rw [hcl, hxi.1, hc]
    have hc1 : nI i < f_size := by rw [hx.1]; exact nI_lt hi (by omega)
    have hc2 : ¬ f_size ≤ nI i := by rw [hx.1]; exact nI_ge hi (by omega)
    refine br_f (nI_ge (a := x) (b := 2000) (by omega) (by decide)) (br_t hc1 (br_f hc2 (And.intro hin ?_)))
    rw [hkd _ h1]
    exact br_t rfl (br_f (by decide) (hD _ _ _))
  · obtain ⟨n', rfl⟩ : ∃ n', n = n' + 1 := ⟨n - 1, by omega⟩
    have hn24 := w.1
    have hxi := hx.2 i hi
    have hin : vp_in (nI i) 24 := vp_in_nI (by omega) (by decide)
    have hcl : (nI i).toNatClampNeg = i := nI_clamp (by omega)
    have hkd : ∀ c, ch_K P i = c → a_kind (nI i).toNatClampNeg = nI c := fun c hc => by rw [hcl, hxi.1, hc]
    have hc1 : nI i < f_size := by rw [hx.1]; exact nI_lt hi (by omega)
    have hc2 : ¬ f_size ≤ nI i := by rw [hx.1]; exact nI_ge hi (by omega)
    refine br_f (nI_ge (a := x) (b := 2000) (by omega) (by decide)) (br_t hc1 (br_f hc2 (And.intro hin ?_)))
    rw [hkd _ h1]
    exact br_f (by decide) (br_t rfl (br_f (by decide) (hD _ _ _)))
theorem ch_x10 (hx : ch_xp P f_size a_kind a_variable a_share a_low a_high) (w : ch_wf P) (ho : ∀ j, j < 6 → ((ox >>> ((2 * nI j) &&& 31)) &&& 3) = nI (o j)) (ho4 : ∀ j, o j < 4) : ch_r10 P o (ch_DX post f_height f_size f_opened f_greatestOnly f_watched f_known a_lower a_upper a_low a_high a_weights a_visited a_weightHere a_visitedHere a_atEnd a_kind a_variable a_share a_openAt a_elseOf a_endOf a_forced) (ch_GX P post ox f_height f_size f_opened f_greatestOnly f_watched f_known a_lower a_upper a_low a_high a_weights a_visited a_weightHere a_visitedHere a_atEnd a_kind a_variable a_share a_openAt a_elseOf a_endOf a_forced) := by
  intro t i st s k w' m hi hg hs hr hk hz hD n x ba ro hn hxt hS
  have hr0 := hr
  rcases hr with h1 | h1
  · obtain ⟨n', rfl⟩ : ∃ n', n = n' + 1 := ⟨n - 1, by omega⟩
    have hn24 := w.1
    have hxi := hx.2 i hi
    have hin : vp_in (nI i) 24 := vp_in_nI (by omega) (by decide)
    have hcl : (nI i).toNatClampNeg = i := nI_clamp (by omega)
    have hkd : ∀ c, ch_K P i = c → a_kind (nI i).toNatClampNeg = nI c := fun c hc => by rw [hcl, hxi.1, hc]
    have hc1 : nI i < f_size := by rw [hx.1]; exact nI_lt hi (by omega)
    have hc2 : ¬ f_size ≤ nI i := by rw [hx.1]; exact nI_ge hi (by omega)
    refine br_f (nI_ge (a := x) (b := 2000) (by omega) (by decide)) (br_t hc1 (br_f hc2 (And.intro hin ?_)))
    rw [hkd _ h1]
    exact br_t rfl (br_t (nI_lt (b := 6) hk (by decide)) (nm_r (ho k hk) (ch_shareOf w hx hi hr0 (ho4 k) (br_t (by rw [hz]; rfl) (hD _ _ _)))))
  · obtain ⟨n', rfl⟩ : ∃ n', n = n' + 1 := ⟨n - 1, by omega⟩
    have hn24 := w.1
    have hxi := hx.2 i hi
    have hin : vp_in (nI i) 24 := vp_in_nI (by omega) (by decide)
    have hcl : (nI i).toNatClampNeg = i := nI_clamp (by omega)
    have hkd : ∀ c, ch_K P i = c → a_kind (nI i).toNatClampNeg = nI c := fun c hc => by rw [hcl, hxi.1, hc]
    have hc1 : nI i < f_size := by rw [hx.1]; exact nI_lt hi (by omega)
    have hc2 : ¬ f_size ≤ nI i := by rw [hx.1]; exact nI_ge hi (by omega)
    refine br_f (nI_ge (a := x) (b := 2000) (by omega) (by decide)) (br_t hc1 (br_f hc2 (And.intro hin ?_)))
    rw [hkd _ h1]
    exact br_f (by decide) (br_t rfl (br_t (nI_lt (b := 6) hk (by decide)) (nm_r (ho k hk) (ch_shareOf w hx hi hr0 (ho4 k) (br_t (by rw [hz]; rfl) (hD _ _ _))))))
theorem ch_x30 (hx : ch_xp P f_size a_kind a_variable a_share a_low a_high) (w : ch_wf P) : ch_r30 P (ch_DX post f_height f_size f_opened f_greatestOnly f_watched f_known a_lower a_upper a_low a_high a_weights a_visited a_weightHere a_visitedHere a_atEnd a_kind a_variable a_share a_openAt a_elseOf a_endOf a_forced) (ch_GX P post ox f_height f_size f_opened f_greatestOnly f_watched f_known a_lower a_upper a_low a_high a_weights a_visited a_weightHere a_visitedHere a_atEnd a_kind a_variable a_share a_openAt a_elseOf a_endOf a_forced) := by
  intro t i st s k w' m hi hg hs hk h3 hE hD n x ba ro hn hxt hS
  obtain ⟨n', rfl⟩ : ∃ n', n = n' + 1 := ⟨n - 1, by omega⟩
  have hn24 := w.1
  have hxi := hx.2 i hi
  have hin : vp_in (nI i) 24 := vp_in_nI (by omega) (by decide)
  have hcl : (nI i).toNatClampNeg = i := nI_clamp (by omega)
  have hkd : ∀ c, ch_K P i = c → a_kind (nI i).toNatClampNeg = nI c := fun c hc => by rw [hcl, hxi.1, hc]
  have hc1 : nI i < f_size := by rw [hx.1]; exact nI_lt hi (by omega)
  have hc2 : ¬ f_size ≤ nI i := by rw [hx.1]; exact nI_ge hi (by omega)
  refine br_f (nI_ge (a := x) (b := 2000) (by omega) (by decide)) (br_t hc1 (br_f hc2 (And.intro hin ?_)))
  rw [hkd _ h3]
  rw [hxi.2.2.2 s] at hE
  refine br_f (by decide) (br_f (by decide) (br_f (by decide) (br_t rfl (And.intro hin (And.intro hin ?_)))))
  rw [hcl, ch_bt_e _ hs]
  exact br_t ((ch_bt_o0 _ _ _).mpr hE) (hD _ _ _)
theorem ch_x31 (hx : ch_xp P f_size a_kind a_variable a_share a_low a_high) (w : ch_wf P) : ch_r31 P (ch_GX P post ox f_height f_size f_opened f_greatestOnly f_watched f_known a_lower a_upper a_low a_high a_weights a_visited a_weightHere a_visitedHere a_atEnd a_kind a_variable a_share a_openAt a_elseOf a_endOf a_forced) := by
  intro t i st s k w' m hi hg hs hk h3 hE hgo n x ba ro hn hxt hS
  obtain ⟨n', rfl⟩ : ∃ n', n = n' + 1 := ⟨n - 1, by omega⟩
  have hn24 := w.1
  have hxi := hx.2 i hi
  have hin : vp_in (nI i) 24 := vp_in_nI (by omega) (by decide)
  have hcl : (nI i).toNatClampNeg = i := nI_clamp (by omega)
  have hkd : ∀ c, ch_K P i = c → a_kind (nI i).toNatClampNeg = nI c := fun c hc => by rw [hcl, hxi.1, hc]
  have hc1 : nI i < f_size := by rw [hx.1]; exact nI_lt hi (by omega)
  have hc2 : ¬ f_size ≤ nI i := by rw [hx.1]; exact nI_ge hi (by omega)
  refine br_f (nI_ge (a := x) (b := 2000) (by omega) (by decide)) (br_t hc1 (br_f hc2 (And.intro hin ?_)))
  rw [hkd _ h3]
  rw [hxi.2.2.2 s] at hE
  refine br_f (by decide) (br_f (by decide) (br_f (by decide) (br_t rfl (And.intro hin (And.intro hin ?_)))))
  rw [hcl, ch_bt_e _ hs]
  exact br_f (fun z => hE ((ch_bt_o0 _ _ _).mp z)) (nm_r (nI_1 i) (nm_r (nI_1 x) (hgo n' (x + 1) _ _ (by omega) (by omega) hS)))
theorem ch_x41 (hx : ch_xp P f_size a_kind a_variable a_share a_low a_high) (w : ch_wf P) (he : ch_EO P a_elseOf a_endOf) : ch_r41 P (ch_GX P post ox f_height f_size f_opened f_greatestOnly f_watched f_known a_lower a_upper a_low a_high a_weights a_visited a_weightHere a_visitedHere a_atEnd a_kind a_variable a_share a_openAt a_elseOf a_endOf a_forced) := by
  intro t i st s k w' m hi hg hl hs hk h4 hE hgo n x ba ro hn hxt hS
  obtain ⟨n', rfl⟩ : ∃ n', n = n' + 1 := ⟨n - 1, by omega⟩
  have hn24 := w.1
  have hxi := hx.2 i hi
  have hin : vp_in (nI i) 24 := vp_in_nI (by omega) (by decide)
  have hcl : (nI i).toNatClampNeg = i := nI_clamp (by omega)
  have hkd : ∀ c, ch_K P i = c → a_kind (nI i).toNatClampNeg = nI c := fun c hc => by rw [hcl, hxi.1, hc]
  have hc1 : nI i < f_size := by rw [hx.1]; exact nI_lt hi (by omega)
  have hc2 : ¬ f_size ≤ nI i := by rw [hx.1]; exact nI_ge hi (by omega)
  refine br_f (nI_ge (a := x) (b := 2000) (by omega) (by decide)) (br_t hc1 (br_f hc2 (And.intro hin ?_)))
  rw [hkd _ h4]
  rw [hxi.2.2.2 s] at hE
  have hin4 : vp_in (nI (st.length + 1)) 4 := vp_in_nI (by omega) (by decide)
  have hcl4 : (nI (st.length + 1)).toNatClampNeg = st.length + 1 := nI_clamp (by omega)
  refine br_f (by decide) (br_f (by decide) (br_f (by decide) (br_f (by decide) (br_t rfl (nm_r (nI_1 _) (And.intro hin4 (fun ba' eb => And.intro hin (And.intro hin ?_))))))))
  rw [hcl4] at eb
  rw [hcl, ch_bt_e _ hs]
  have hfin := hgo n' (x + 1) ba' ro (by omega) (by omega) ⟨by rw [eb, pk_us], fun z => absurd (show ch_K P i = 6 from z) (by omega), by rw [eb]; exact (ch_RS_u hS (Nat.lt_succ_self _)).1⟩
  refine br_t ((ch_bt_o1 _ _ _).mpr hE) (And.intro hin (br_c (fun _ => And.intro hin (br_f (by decide) ?_)) (fun _ => ch_xendF w hx he hi (Or.inl h4) (br_f (by decide) ?_))))
  · rw [nI_1 i]
    exact nm_r (nI_1 x) hfin
  · rw [nI_1 i]
    exact nm_r (nI_1 x) hfin
theorem ch_x4e (hx : ch_xp P f_size a_kind a_variable a_share a_low a_high) (w : ch_wf P) (he : ch_EO P a_elseOf a_endOf) : ch_r4e P (ch_GX P post ox f_height f_size f_opened f_greatestOnly f_watched f_known a_lower a_upper a_low a_high a_weights a_visited a_weightHere a_visitedHere a_atEnd a_kind a_variable a_share a_openAt a_elseOf a_endOf a_forced) := by
  intro t i st s k w' m hi hg hl hs hk h4 hE hf hf5 hgo n x ba ro hn hxt hS
  obtain ⟨n', rfl⟩ : ∃ n', n = n' + 1 := ⟨n - 1, by omega⟩
  have hn24 := w.1
  have hxi := hx.2 i hi
  have hin : vp_in (nI i) 24 := vp_in_nI (by omega) (by decide)
  have hcl : (nI i).toNatClampNeg = i := nI_clamp (by omega)
  have hkd : ∀ c, ch_K P i = c → a_kind (nI i).toNatClampNeg = nI c := fun c hc => by rw [hcl, hxi.1, hc]
  have hc1 : nI i < f_size := by rw [hx.1]; exact nI_lt hi (by omega)
  have hc2 : ¬ f_size ≤ nI i := by rw [hx.1]; exact nI_ge hi (by omega)
  refine br_f (nI_ge (a := x) (b := 2000) (by omega) (by decide)) (br_t hc1 (br_f hc2 (And.intro hin ?_)))
  rw [hkd _ h4]
  rw [hxi.2.2.2 s] at hE
  have hin4 : vp_in (nI (st.length + 1)) 4 := vp_in_nI (by omega) (by decide)
  have hcl4 : (nI (st.length + 1)).toNatClampNeg = st.length + 1 := nI_clamp (by omega)
  have hel := (he i hi (Or.inl h4)).2 h4
  rw [if_pos ⟨hf, hf5⟩] at hel
  refine br_f (by decide) (br_f (by decide) (br_f (by decide) (br_f (by decide) (br_t rfl (nm_r (nI_1 _) (And.intro hin4 (fun ba' eb => And.intro hin (And.intro hin ?_))))))))
  rw [hcl4] at eb
  rw [hcl, ch_bt_e _ hs]
  have hfin := hgo n' (x + 1) ba' ro (by omega) (by omega) ⟨by rw [eb, pk_us], fun z => absurd (show ch_K P i = 6 from z) (by omega), by rw [eb]; exact (ch_RS_u hS (Nat.lt_succ_self _)).1⟩
  refine br_f (fun z => absurd hE ((ch_bt_o1 _ _ _).mp z)) (And.intro hin ?_)
  rw [hcl, hel, nI_1 (ch_fd P true i)]
  exact br_t (nI_pos' (by omega)) (And.intro hin (br_t rfl (nm_r (nI_1 x) hfin)))
theorem ch_x8 (hx : ch_xp P f_size a_kind a_variable a_share a_low a_high) (w : ch_wf P) : ch_r8 P (ch_GX P post ox f_height f_size f_opened f_greatestOnly f_watched f_known a_lower a_upper a_low a_high a_weights a_visited a_weightHere a_visitedHere a_atEnd a_kind a_variable a_share a_openAt a_elseOf a_endOf a_forced) := by
  intro t i e l s k w' m m2 hin0 h8 hg hs hk hmm hgo n x ba ro hn hxt hS
  have hn24 := w.1
  have hl3 : l.length + 1 ≤ 3 := hg.1
  have hee := hg.2 e List.mem_cons_self
  have hin4 : vp_in (nI (l.length + 1)) 4 := vp_in_nI (by omega) (by decide)
  have hcl4 : (nI (l.length + 1)).toNatClampNeg = l.length + 1 := nI_clamp (by omega)
  have hinb : vp_in (nI e.1) 24 := vp_in_nI (by omega) (by decide)
  have hclb : (nI e.1).toNatClampNeg = e.1 := nI_clamp (by omega)
  have hba : ba (nI (l.length + 1)).toNatClampNeg = nI e.1 := by rw [hcl4]; exact hS.1
  have hkb := (hx.2 e.1 hee.1).1
  obtain ⟨n', rfl⟩ : ∃ n', n = n' + 1 := ⟨n - 1, by omega⟩
  have hblk : wX_follow_60 post (wX_follow_15 post ox n') ox (nI s) (nI k) (nI i) (nI x) 8 f_height f_size f_opened (nI (l.length + 1)) f_greatestOnly f_watched f_known a_lower a_upper a_kind a_variable a_share a_low a_high a_openAt a_elseOf a_endOf a_weights a_visited ba ro a_forced a_weightHere a_visitedHere a_atEnd := by
    have h223 : ¬ (ch_K P e.1 = 6 ∧ 1 < e.2) → ∀ ro', ch_RS P l ba ro' → ∀ xx, xx = nI l.length → (f_size ≤ nI i → ∀ x5 : Int32, x5 = nI x + 1 → wX_follow_15 post ox n' (nI s) (nI k) (nI i) x5 f_height f_size f_opened xx f_greatestOnly f_watched f_known a_lower a_upper a_kind a_variable a_share a_low a_high a_openAt a_elseOf a_endOf a_weights a_visited ba ro' a_forced a_weightHere a_visitedHere a_atEnd) ∧ (¬ f_size ≤ nI i → ∀ x5 : Int32, x5 = nI x + 1 → wX_follow_15 post ox n' (nI s) (nI k) (nI i + 1) x5 f_height f_size f_opened xx f_greatestOnly f_watched f_known a_lower a_upper a_kind a_variable a_share a_low a_high a_openAt a_elseOf a_endOf a_weights a_visited ba ro' a_forced a_weightHere a_visitedHere a_atEnd) := by
      intro hne ro' hR' xx ex
      rw [ch_eb_x hne] at hgo
      have hfin := hgo n' (x + 1) ba ro' (by omega) (by omega) hR'
      rw [ex]
      by_cases hi : i < ch_n P
      · rw [ch_beh_lt hi] at hfin
        refine br_f (by rw [hx.1]; exact nI_ge hi (by omega)) ?_
        rw [nI_1 i]
        exact nm_r (nI_1 x) hfin
      · rw [ch_beh_ge hi] at hfin
        have ei : i = ch_n P := by omega
        rw [← ei] at hfin
        exact br_t (by rw [hx.1]; exact nI_le (by omega) (by omega)) (nm_r (nI_1 x) hfin)
    refine br_f (by decide) (br_f (by decide) (br_f (by decide) (br_f (by decide) (br_f (by decide) (br_f (by decide) (br_f (by decide) (br_f (by decide) (And.intro hin4 (nm_r hba (And.intro hinb ?_))))))))))
    rw [hclb, hkb]
    by_cases h6 : ch_K P e.1 = 6
    · have hr := hee.2.2 h6
      rw [h6]
      refine br_t rfl (And.intro hin4 (And.intro hin4 (fun ro' er => And.intro hin4 ?_)))
      have hro : ro (l.length + 1) = nI e.2 := hS.2.1 h6
      rw [hcl4, hro, show (1 : Int32) = nI 1 from rfl, pk_sub hr.1] at er
      have hrv : ro' (nI (l.length + 1)).toNatClampNeg = nI (e.2 - 1) := by rw [hcl4, er, pk_us]
      have hRl : ch_RS P l ba ro' := by rw [er]; exact (ch_RS_u hS.2.2 (by omega)).2
      rw [hrv]
      by_cases h1 : 1 < e.2
      · rw [ch_eb_l ⟨h6, h1⟩] at hgo
        refine br_f (nI_nle (by omega) (by omega)) ?_
        rw [nI_1 e.1]
        exact nm_r (nI_1 x) (hgo n' (x + 1) ba ro' (by omega) (by omega) ⟨hS.1, fun _ => by rw [er, pk_us], hRl⟩)
      · refine br_t ?_ (nm_r (nI_pred _) (h223 (fun z => h1 z.2) ro' hRl _ rfl))
        rw [show e.2 - 1 = 0 by omega]
        decide
    · have h4 : ch_K P e.1 = 4 := by
        rcases hee.2.1 with z | z
        · exact z
        · exact absurd z h6
      rw [h4]
      exact br_f (by decide) (nm_r (nI_pred _) (h223 (fun z => h6 z.1) ro hS.2.2 _ rfl))
  by_cases hi : i < ch_n P
  · have hxi := hx.2 i hi
    have hin : vp_in (nI i) 24 := vp_in_nI (by omega) (by decide)
    have hcl : (nI i).toNatClampNeg = i := nI_clamp (by omega)
    refine br_f (nI_ge (a := x) (b := 2000) (by omega) (by decide)) (br_t (by rw [hx.1]; exact nI_lt hi (by omega)) (br_f (by rw [hx.1]; exact nI_ge hi (by omega)) (And.intro hin ?_)))
    rw [hcl, hxi.1, h8 hi]
    exact hblk
  · exact br_f (nI_ge (a := x) (b := 2000) (by omega) (by decide)) (br_f (by rw [hx.1]; exact nI_nlt (by omega) (by omega)) (br_f (nI_nle (Nat.succ_pos _) (show l.length + 1 < 2 ^ 31 by omega)) (br_t (by rw [hx.1]; exact nI_le (by omega) (by omega)) hblk)))
theorem ch_x4n (hx : ch_xp P f_size a_kind a_variable a_share a_low a_high) (w : ch_wf P) (he : ch_EO P a_elseOf a_endOf) : ch_r4n P (ch_GX P post ox f_height f_size f_opened f_greatestOnly f_watched f_known a_lower a_upper a_low a_high a_weights a_visited a_weightHere a_visitedHere a_atEnd a_kind a_variable a_share a_openAt a_elseOf a_endOf a_forced) := by
  intro t i st s k w' m hi hg hl hs hk h4 hE hf hgo
  have hle := ch_fd_le (oe := false) hi
  have hgd2 : ch_gd P ((i, 0) :: st) := ⟨hl, fun a ha => by
    cases ha with
    | head => exact ⟨hi, Or.inl h4, fun z => absurd (show ch_K P i = 6 from z) (by omega)⟩
    | tail _ ha => exact hg.2 a ha⟩
  rw [← ch_fd_tf hi hf] at hgo
  have hgo2 := ch_x8 hx w t (ch_fd P false i) (i, 0) st s k w' (ch_inc m i) (ch_inc m i) hle (fun z => ch_fd_8 z) hgd2 hs hk (fun _ _ _ => rfl) (by
    rw [ch_eb_x (fun z => absurd (show ch_K P i = 6 from z.1) (by omega))]
    exact hgo)
  intro n x ba ro hn hxt hS
  obtain ⟨n', rfl⟩ : ∃ n', n = n' + 1 := ⟨n - 1, by omega⟩
  have hn24 := w.1
  have hxi := hx.2 i hi
  have hin : vp_in (nI i) 24 := vp_in_nI (by omega) (by decide)
  have hcl : (nI i).toNatClampNeg = i := nI_clamp (by omega)
  have hkd : ∀ c, ch_K P i = c → a_kind (nI i).toNatClampNeg = nI c := fun c hc => by rw [hcl, hxi.1, hc]
  have hc1 : nI i < f_size := by rw [hx.1]; exact nI_lt hi (by omega)
  have hc2 : ¬ f_size ≤ nI i := by rw [hx.1]; exact nI_ge hi (by omega)
  refine br_f (nI_ge (a := x) (b := 2000) (by omega) (by decide)) (br_t hc1 (br_f hc2 (And.intro hin ?_)))
  rw [hkd _ h4]
  rw [hxi.2.2.2 s] at hE
  have hin4 : vp_in (nI (st.length + 1)) 4 := vp_in_nI (by omega) (by decide)
  have hcl4 : (nI (st.length + 1)).toNatClampNeg = st.length + 1 := nI_clamp (by omega)
  have hel := (he i hi (Or.inl h4)).2 h4
  rw [if_neg hf] at hel
  refine br_f (by decide) (br_f (by decide) (br_f (by decide) (br_f (by decide) (br_t rfl (nm_r (nI_1 _) (And.intro hin4 (fun ba' eb => And.intro hin (And.intro hin ?_))))))))
  rw [hcl4] at eb
  rw [hcl, ch_bt_e _ hs]
  have hfin := hgo2 n' (x + 1) ba' ro (by omega) (by omega) ⟨by rw [eb, pk_us], fun z => absurd (show ch_K P i = 6 from z) (by omega), by rw [eb]; exact (ch_RS_u hS (Nat.lt_succ_self _)).1⟩
  refine br_f (fun z => absurd hE ((ch_bt_o1 _ _ _).mp z)) (And.intro hin ?_)
  rw [hcl, hel]
  exact br_f (by decide) (ch_xendF w hx he hi (Or.inl h4) (br_t rfl (nm_r (nI_1 x) hfin)))
theorem ch_x5 (hx : ch_xp P f_size a_kind a_variable a_share a_low a_high) (w : ch_wf P) (he : ch_EO P a_elseOf a_endOf) : ch_r5 P (ch_GX P post ox f_height f_size f_opened f_greatestOnly f_watched f_known a_lower a_upper a_low a_high a_weights a_visited a_weightHere a_visitedHere a_atEnd a_kind a_variable a_share a_openAt a_elseOf a_endOf a_forced) := by
  intro t i e l s k w' m hi hg hs hk h5 h4 hf hgo n x ba ro hn hxt hS
  obtain ⟨n', rfl⟩ : ∃ n', n = n' + 1 := ⟨n - 1, by omega⟩
  have hn24 := w.1
  have hxi := hx.2 i hi
  have hin : vp_in (nI i) 24 := vp_in_nI (by omega) (by decide)
  have hcl : (nI i).toNatClampNeg = i := nI_clamp (by omega)
  have hkd : ∀ c, ch_K P i = c → a_kind (nI i).toNatClampNeg = nI c := fun c hc => by rw [hcl, hxi.1, hc]
  have hc1 : nI i < f_size := by rw [hx.1]; exact nI_lt hi (by omega)
  have hc2 : ¬ f_size ≤ nI i := by rw [hx.1]; exact nI_ge hi (by omega)
  refine br_f (nI_ge (a := x) (b := 2000) (by omega) (by decide)) (br_t hc1 (br_f hc2 (And.intro hin ?_)))
  rw [hkd _ h5]
  have hl3 : l.length + 1 ≤ 3 := hg.1
  have hee := hg.2 e List.mem_cons_self
  have hin4 : vp_in (nI (l.length + 1)) 4 := vp_in_nI (by omega) (by decide)
  have hcl4 : (nI (e :: l).length).toNatClampNeg = l.length + 1 := nI_clamp (show l.length + 1 < 2 ^ 31 by omega)
  refine br_f (by decide) (br_f (by decide) (br_f (by decide) (br_f (by decide) (br_f (by decide) (br_t rfl (And.intro hin4 ?_))))))
  rw [hcl4, hS.1]
  exact ch_xendF w hx he hee.1 (Or.inl h4) (nm_r (nI_1 x) (hgo n' (x + 1) ba ro (by omega) (by omega) ⟨hS.1, fun z => absurd (show ch_K P e.1 = 6 from z) (by omega), hS.2.2⟩))
theorem ch_x6 (hx : ch_xp P f_size a_kind a_variable a_share a_low a_high) (w : ch_wf P) : ch_r6 P (ch_GX P post ox f_height f_size f_opened f_greatestOnly f_watched f_known a_lower a_upper a_low a_high a_weights a_visited a_weightHere a_visitedHere a_atEnd a_kind a_variable a_share a_openAt a_elseOf a_endOf a_forced) := by
  intro t i st s k w' m hi hg hl hs hk h6 hgo n x ba ro hn hxt hS
  obtain ⟨n', rfl⟩ : ∃ n', n = n' + 1 := ⟨n - 1, by omega⟩
  have hn24 := w.1
  have hxi := hx.2 i hi
  have hin : vp_in (nI i) 24 := vp_in_nI (by omega) (by decide)
  have hcl : (nI i).toNatClampNeg = i := nI_clamp (by omega)
  have hkd : ∀ c, ch_K P i = c → a_kind (nI i).toNatClampNeg = nI c := fun c hc => by rw [hcl, hxi.1, hc]
  have hc1 : nI i < f_size := by rw [hx.1]; exact nI_lt hi (by omega)
  have hc2 : ¬ f_size ≤ nI i := by rw [hx.1]; exact nI_ge hi (by omega)
  refine br_f (nI_ge (a := x) (b := 2000) (by omega) (by decide)) (br_t hc1 (br_f hc2 (And.intro hin ?_)))
  rw [hkd _ h6]
  have hin4 : vp_in (nI (st.length + 1)) 4 := vp_in_nI (by omega) (by decide)
  have hcl4 : (nI (st.length + 1)).toNatClampNeg = st.length + 1 := nI_clamp (by omega)
  refine br_f (by decide) (br_f (by decide) (br_f (by decide) (br_f (by decide) (br_f (by decide) (br_f (by decide) (br_t rfl (nm_r (nI_1 _) (And.intro hin4 (fun ba' eb => And.intro hin (And.intro hin4 (fun ro' er => ?_)))))))))))
  rw [hcl4] at eb
  rw [hcl4, hcl, hxi.2.2.1 (Or.inr h6)] at er
  rw [nI_1 i]
  have hRu := (ch_RS_u (x := nI i) hS (Nat.lt_succ_self _)).1
  refine nm_r (nI_1 x) (hgo n' (x + 1) ba' ro' (by omega) (by omega) ⟨by rw [eb, pk_us], fun _ => by rw [er, pk_us], ?_⟩)
  rw [eb, er]
  exact (ch_RS_u hRu (Nat.lt_succ_self _)).2
theorem ch_xlv {post : Int32 → SX → Prop} {ba ro : Nat → Int32} (hx : ch_xp P f_size a_kind a_variable a_share a_low a_high) (w : ch_wf P) (he : ch_EO P a_elseOf a_endOf) {e : Nat × Nat} {low : List (Nat × Nat)} (h6 : ch_K P e.1 = 6)
    (h : post (nI (ch_beh P (ch_fd P false e.1))) (f_height, f_size, f_opened, nI low.length, f_greatestOnly, f_watched, f_known, a_lower, a_upper, a_kind, a_variable, a_share, a_low, a_high, a_openAt, a_elseOf, a_endOf, a_weights, a_visited, ba, ro, a_forced, a_weightHere, a_visitedHere, a_atEnd)) :
    ∀ up : List (Nat × Nat), ch_gd P (up ++ e :: low) → ch_RS P (up ++ e :: low) ba ro → (∀ u, u ∈ up → ch_K P u.1 ≠ 6) → wX_leaveLoop_0 post f_height f_size f_opened f_greatestOnly f_watched f_known a_lower a_upper a_kind a_variable a_share a_low a_high a_openAt a_elseOf a_endOf a_weights a_visited ba ro a_forced a_weightHere a_visitedHere a_atEnd (up.length + 1) (nI (up ++ e :: low).length) := by
  have hn := w.1
  intro up
  induction up with
  | nil =>
    intro hg hS _
    have hl3 : low.length + 1 ≤ 3 := hg.1
    have hee := hg.2 e List.mem_cons_self
    have hle := ch_fd_le (oe := false) hee.1
    have hin4 : vp_in (nI (low.length + 1)) 4 := vp_in_nI (by omega) (by decide)
    have hcl4 : (nI (low.length + 1)).toNatClampNeg = low.length + 1 := nI_clamp (by omega)
    have hinb : vp_in (nI e.1) 24 := vp_in_nI (by omega) (by decide)
    have hclb : (nI e.1).toNatClampNeg = e.1 := nI_clamp (by omega)
    have hba : ba (low.length + 1) = nI e.1 := hS.1
    show wX_leaveLoop_0 post f_height f_size f_opened f_greatestOnly f_watched f_known a_lower a_upper a_kind a_variable a_share a_low a_high a_openAt a_elseOf a_endOf a_weights a_visited ba ro a_forced a_weightHere a_visitedHere a_atEnd 1 (nI (low.length + 1))
    have h40 : wX_leaveLoop_40 post f_height f_size f_opened (nI (low.length + 1)) f_greatestOnly f_watched f_known a_lower a_upper a_kind a_variable a_share a_low a_high a_openAt a_elseOf a_endOf a_weights a_visited ba ro a_forced a_weightHere a_visitedHere a_atEnd := by
      refine And.intro hin4 ?_
      rw [hcl4, hba]
      refine ch_xendF w hx he hee.1 hee.2.1 (nm_r (nI_pred _) ?_)
      by_cases hlt : ch_fd P false e.1 < ch_n P
      · rw [ch_beh_lt hlt] at h
        refine br_f (by rw [hx.1]; exact nI_ge hlt (by omega)) ?_
        rw [nI_1]
        exact h
      · rw [ch_beh_ge hlt] at h
        have e3 : ch_fd P false e.1 = ch_n P := by omega
        rw [← e3] at h
        exact br_t (by rw [hx.1]; exact nI_le (by omega) (by omega)) h
    by_cases h1 : low.length + 1 ≤ 1
    · exact br_t (nI_le (b := 1) h1 (by decide)) h40
    · refine br_f (nI_ge (a := 1) (b := low.length + 1) (by omega) (by omega)) (And.intro hin4 ?_)
      rw [hcl4, hba, hclb, (hx.2 e.1 hee.1).1, h6]
      exact And.intro hinb (br_t rfl h40)
  | cons u up ih =>
    intro hg hS hu
    have hlen : (u :: up ++ e :: low).length = (up ++ e :: low).length + 1 := rfl
    have hlen2 : (up ++ e :: low).length = up.length + (low.length + 1) := List.length_append
    have hg1 : (u :: up ++ e :: low).length ≤ 3 := hg.1
    have hee := hg.2 u List.mem_cons_self
    rw [hlen]
    have hin : vp_in (nI ((up ++ e :: low).length + 1)) 4 := vp_in_nI (by omega) (by decide)
    have hcl : (nI ((up ++ e :: low).length + 1)).toNatClampNeg = (up ++ e :: low).length + 1 := nI_clamp (by omega)
    have hb : ba ((up ++ e :: low).length + 1) = nI u.1 := hS.1
    have hin2 : vp_in (nI u.1) 24 := vp_in_nI (by omega) (by decide)
    have hcl2 : (nI u.1).toNatClampNeg = u.1 := nI_clamp (by omega)
    have hku := hu u List.mem_cons_self
    have hk2 := hee.2.1
    refine br_f (nI_ge (a := 1) (b := (up ++ e :: low).length + 1) (by omega) (by omega)) (And.intro hin ?_)
    rw [hcl, hb, hcl2, (hx.2 u.1 hee.1).1, show ch_K P u.1 = 4 by omega]
    refine And.intro hin2 (br_f (by decide) (nm_r (nI_pred _) ?_))
    exact ih (ch_gd_t hg) hS.2.2 (fun v hv => hu v (List.mem_cons_of_mem u hv))
theorem ch_RS_l {ba ro : Nat → Int32} {l : List (Nat × Nat)} : ∀ {up : List (Nat × Nat)}, ch_RS P (up ++ l) ba ro → ch_RS P l ba ro := by
  intro up
  induction up with
  | nil => exact fun h => h
  | cons u up ih => exact fun h => ih h.2.2
theorem ch_x7 (hx : ch_xp P f_size a_kind a_variable a_share a_low a_high) (w : ch_wf P) (he : ch_EO P a_elseOf a_endOf) : ch_r7 P (ch_GX P post ox f_height f_size f_opened f_greatestOnly f_watched f_known a_lower a_upper a_low a_high a_weights a_visited a_weightHere a_visitedHere a_atEnd a_kind a_variable a_share a_openAt a_elseOf a_endOf a_forced) := by
  intro t i up e low s k w' m hi hg hs hk h7 hup h6 hgo n x ba ro hn hxt hS
  obtain ⟨n', rfl⟩ : ∃ n', n = n' + 1 := ⟨n - 1, by omega⟩
  have hn24 := w.1
  have hxi := hx.2 i hi
  have hin : vp_in (nI i) 24 := vp_in_nI (by omega) (by decide)
  have hcl : (nI i).toNatClampNeg = i := nI_clamp (by omega)
  have hkd : ∀ c, ch_K P i = c → a_kind (nI i).toNatClampNeg = nI c := fun c hc => by rw [hcl, hxi.1, hc]
  have hc1 : nI i < f_size := by rw [hx.1]; exact nI_lt hi (by omega)
  have hc2 : ¬ f_size ≤ nI i := by rw [hx.1]; exact nI_ge hi (by omega)
  refine br_f (nI_ge (a := x) (b := 2000) (by omega) (by decide)) (br_t hc1 (br_f hc2 (And.intro hin ?_)))
  rw [hkd _ h7]
  refine br_f (by decide) (br_f (by decide) (br_f (by decide) (br_f (by decide) (br_f (by decide) (br_f (by decide) (br_f (by decide) (br_t rfl (Exists.intro (up.length + 1) ?_))))))))
  exact ch_xlv hx w he h6 (nm_r (nI_1 x) (hgo n' (x + 1) ba ro (by omega) (by omega) (ch_RS_l (up := up ++ [e]) (by rw [List.append_assoc]; exact hS)))) up hg hS hup
theorem ch_xf (hx : ch_xp P f_size a_kind a_variable a_share a_low a_high) (w : ch_wf P) : ch_rf P (ch_FX post f_height f_size f_opened f_greatestOnly f_watched f_known a_lower a_upper a_low a_high a_weights a_visited a_weightHere a_visitedHere a_atEnd a_kind a_variable a_share a_openAt a_elseOf a_endOf a_forced) (ch_GX P post ox f_height f_size f_opened f_greatestOnly f_watched f_known a_lower a_upper a_low a_high a_weights a_visited a_weightHere a_visitedHere a_atEnd a_kind a_variable a_share a_openAt a_elseOf a_endOf a_forced) := by
  intro t s k w' m hs hk hF n x ba ro hn hxt hS
  obtain ⟨n', rfl⟩ : ∃ n', n = n' + 1 := ⟨n - 1, by omega⟩
  have hn24 := w.1
  exact br_f (nI_ge (a := x) (b := 2000) (by omega) (by decide)) (br_f (by rw [hx.1]; exact nI_nlt (by omega) (by omega)) (br_t (by decide) (hF _ _ _)))
theorem ch_xm : ch_rm (ch_GX P post ox f_height f_size f_opened f_greatestOnly f_watched f_known a_lower a_upper a_low a_high a_weights a_visited a_weightHere a_visitedHere a_atEnd a_kind a_variable a_share a_openAt a_elseOf a_endOf a_forced) := by
  intro t i st s k w' m h n x ba ro hn hxt
  exact h n x ba ro (by omega) (by omega)
theorem ch_xfollow (hx : ch_xp P f_size a_kind a_variable a_share a_low a_high) (w : ch_wf P) (he : ch_EO P a_elseOf a_endOf) (ho : ∀ j, j < 6 → ((ox >>> ((2 * nI j) &&& 31)) &&& 3) = nI (o j)) (ho4 : ∀ j, o j < 4)
    (hD : ∀ e, ch_run ch_ok P o = .error e → ch_DX post f_height f_size f_opened f_greatestOnly f_watched f_known a_lower a_upper a_low a_high a_weights a_visited a_weightHere a_visitedHere a_atEnd a_kind a_variable a_share a_openAt a_elseOf a_endOf a_forced e) (hF : ∀ q, ch_run ch_ok P o = .ok q → ch_FX post f_height f_size f_opened f_greatestOnly f_watched f_known a_lower a_upper a_low a_high a_weights a_visited a_weightHere a_visitedHere a_atEnd a_kind a_variable a_share a_openAt a_elseOf a_endOf a_forced q) : wpX_follow post (f_height, f_size, f_opened, f_level, f_greatestOnly, f_watched, f_known, a_lower, a_upper, a_kind, a_variable, a_share, a_low, a_high, a_openAt, a_elseOf, a_endOf, a_weights, a_visited, a_blockAt, a_rounds, a_forced, a_weightHere, a_visitedHere, a_atEnd) ox := by
  have hG := ch_sim (P := P) w ho4 (ch_x0 hx w) (ch_x1r hx w ho ho4) (ch_x16 hx w) (ch_x10 hx w ho ho4) (ch_x30 hx w) (ch_x31 hx w) (ch_x41 hx w he) (ch_x4e hx w he) (ch_x4n hx w he) (ch_x5 hx w he) (ch_x6 hx w) (ch_x7 hx w he) (ch_x8 hx w) (ch_xf hx w) (ch_xm (P := P) (post := post)) 864 0 [] ch_q0 0 [] (ch_iv_0 P) (ch_mu_0 w) ch_q0_qi (Or.inl ⟨rfl, rfl, rfl⟩) hD hF
  exact Exists.intro 1731 (hG 1731 0 a_blockAt a_rounds (by omega) (by omega) trivial)
end
section
variable {f_height f_count f_open f_at f_depth f_state f_steps f_product f_end f_most f_mostRow f_mostSteps : Int32} {a_stack a_kinds a_variables a_numbers a_values a_opened a_begins a_left a_outcomes a_met a_sums : Nat → Int32} {a_visited : Nat → Int64} {P : ch_P} {post : Int32 → SY → Prop} {ox : Int32} {o : Nat → Nat}
theorem ch_yfo2 {r : Int32} (hy : ch_yp P f_count a_kinds a_variables a_numbers a_values) (w : ch_wf P) (ho : ∀ j, j < 6 → ((ox >>> ((2 * nI j) &&& 31)) &&& 3) = nI (o j)) (ho4 : ∀ j, o j < 4)
    (hD : ∀ e, ch_run ch_ok P o = .error e → r = ch_code e) (hF : ∀ q, ch_run ch_ok P o = .ok q → r = nI q.2.2.1)
    (h : ∀ (f_at f_depth f_state f_steps f_product f_end : Int32) (a_begins a_left a_outcomes a_met : Nat → Int32), post r (f_height, f_count, f_open, f_at, f_depth, f_state, f_steps, f_product, f_end, f_most, f_mostRow, f_mostSteps, a_stack, a_kinds, a_variables, a_numbers, a_values, a_opened, a_begins, a_left, a_outcomes, a_met, a_sums, a_visited)) :
    ∀ (d c : Nat) (ou : Nat → Int32), c + d = 6 → (∀ j, j < c → ou j = nI (o j)) → wY_follow_2 post ox f_height f_count f_open f_at f_depth f_state f_steps f_product f_end f_most f_mostRow f_mostSteps (d + 1) (nI c) a_stack a_kinds a_variables a_numbers a_values a_opened a_begins a_left ou a_met a_sums a_visited := by
  intro d
  induction d with
  | zero =>
    intro c ou hc hou
    have e : c = 6 := by omega
    subst e
    refine br_t (by decide) (ch_yrun hy w hou ho4 (fun e he => ?_) (fun q hq => ?_))
    · intro x1 x2 x3 x4 x5 x6 x7 x8
      refine br_f (ch_code_ne e) ?_
      rw [← hD e he]
      exact h _ _ _ _ _ _ _ _ _ _
    · intro be le me hm
      refine br_t rfl ?_
      rw [← hF q hq]
      exact h _ _ _ _ _ _ _ _ _ _
  | succ d ih =>
    intro c ou hc hou
    have hin : vp_in (nI c) 6 := vp_in_nI (by omega) (by decide)
    have hcl : (nI c).toNatClampNeg = c := nI_clamp (by omega)
    refine br_f (nI_ge (a := c) (b := 6) (by omega) (by omega)) (And.intro hin (fun a1 e1 => nm_r (nI_1 c) ?_))
    rw [hcl, ho c (by omega)] at e1
    refine ih (c + 1) a1 (by omega) (fun j hj => ?_)
    rw [e1]
    by_cases hjc : j = c
    · rw [hjc, pk_us]
    · rw [pk_un hjc]; exact hou j (by omega)
end
theorem i_vc_follow {k : Nat} {u : SX} {v : SY} (I : i_Rel k u v) (hk : k + 5 ≤ 2560) (v1 : Int32) : wpX_follow (fun r u' => wpY_follow (fun r' v' => r' = r ∧ i_Rel (k + 5) u' v') v v1) u v1 := by
  refine ch_el (Q := fun u v => wpX_follow (fun r u' => wpY_follow (fun r' v' => r' = r ∧ i_Rel (k + 5) u' v') v v1) u v1) ?_ I
  intro f_height f_size f_opened f_level f_greatestOnly f_watched f_known a_lower a_upper a_kind a_variable a_share a_low a_high a_openAt a_elseOf a_endOf a_weights a_visited a_blockAt a_rounds a_forced a_weightHere a_visitedHere a_atEnd yf_height yf_count yf_open yf_at yf_depth yf_state yf_steps yf_product yf_end yf_most yf_mostRow yf_mostSteps ya_stack ya_kinds ya_variables ya_numbers ya_values ya_opened ya_begins ya_left ya_outcomes ya_met ya_sums ya_visited P ht hR
  have hR0 := hR
  obtain ⟨w, hht, hh, hyh, hx, hy, hst, hop, hk1⟩ := hR
  obtain ⟨o, ho, ho4⟩ : ∃ o : Nat → Nat, (∀ j, j < 6 → ((v1 >>> ((2 * nI j) &&& 31)) &&& 3) = nI (o j)) ∧ ∀ j, o j < 4 := by
    refine ⟨fun j => ((v1 >>> ((2 * nI j) &&& 31))).toBitVec.toNat % 2 ^ 2, fun j _ => pk_and _ 2 (by decide), fun j => Nat.mod_lt _ (by decide)⟩
  refine ch_xfollow hx w hop.2.2 ho ho4 (fun e he => ?_) (fun q hq => ?_)
  · intro x1 x2 x3
    exact Exists.intro 7 (ch_yfo2 (r := ch_code e) hy w ho ho4 (fun e' he' => by rw [he] at he'; injection he' with he'; rw [he']) (fun q hq => by rw [he] at hq; cases hq) (fun _ _ _ _ _ _ _ _ _ _ => ⟨rfl, ch_inR ⟨w, hht, hh, hyh, hx, hy, hst, hop, hk1⟩⟩) 6 0 ya_outcomes (by omega) (fun j hj => by omega))
  · intro x1 x2 x3
    exact Exists.intro 7 (ch_yfo2 (r := nI q.2.2.1) hy w ho ho4 (fun e' he' => by rw [hq] at he'; cases he') (fun q' hq' => by rw [hq] at hq'; injection hq' with hq'; rw [hq']) (fun _ _ _ _ _ _ _ _ _ _ => ⟨rfl, ch_inR ⟨w, hht, hh, hyh, hx, hy, hst, hop, hk1⟩⟩) 6 0 ya_outcomes (by omega) (fun j hj => by omega))
end
section
/-! own rows: expressions on the stack -/
def ch_tk (c : Nat) : Nat := if c < 2 then 0 else if c = 7 then 1 else 2
/-- the value of two values under an operation -/
def ch_pv (c x y : Nat) : Nat :=
  if c = 2 then (x + y) % 4 else if c = 3 then (x + 4 - y) % 4 else if c = 4 then x * y % 4 else if c = 5 then (if x = y then 1 else 0) else if c = 6 then (if x < y then 1 else 0) else if c = 8 then (if x ≠ 0 ∧ y ≠ 0 then 1 else 0) else (if x ≠ 0 then x else y)
theorem ch_k9 {x c : Nat} (hx : x ≤ 9) (hc : c ≤ 9) (h : x ≠ c) : ¬ nI x = nI c := fun z => h ((nI_eq (by omega) (by omega)).mp z)
theorem ch_bits (P : Nat → Nat → Nat → Nat → Prop) (h : ∀ a, a < 2 → ∀ b, b < 2 → ∀ c, c < 2 → ∀ d, d < 2 → P a b c d) (l0 u0 l1 u1 : Int64) (s : Nat) : P (ch_bt l0 s) (ch_bt u0 s) (ch_bt l1 s) (ch_bt u1 s) :=
  h _ (ch_bt_lt _ _) _ (ch_bt_lt _ _) _ (ch_bt_lt _ _) _ (ch_bt_lt _ _)
section
variable {l0 u0 l1 u1 : Int64} {s : Nat}
theorem ch_p2 : ch_v (l0 ^^^ l1) ((u0 ^^^ u1) ^^^ (l0 &&& l1)) s = ch_pv 2 (ch_v l0 u0 s) (ch_v l1 u1 s) := by
  unfold ch_v
  simp only [ch_bt_xor, ch_bt_and]
  exact ch_bits (fun a b c d => (if a = 0 then c else 1 - c) + 2 * (if (if b = 0 then d else 1 - d) = 0 then (if a = 0 then 0 else c) else 1 - (if a = 0 then 0 else c)) = ch_pv 2 (a + 2 * b) (c + 2 * d)) (by decide) l0 u0 l1 u1 s
theorem ch_p3 (hs : s < 64) : ch_v (l0 ^^^ l1) ((u0 ^^^ u1) ^^^ ((l0 ^^^ (-1)) &&& l1)) s = ch_pv 3 (ch_v l0 u0 s) (ch_v l1 u1 s) := by
  unfold ch_v
  rw [ch_bt_xor, ch_bt_xor, ch_bt_xor, ch_bt_and, ch_bt_not _ hs]
  exact ch_bits (fun a b c d => (if a = 0 then c else 1 - c) + 2 * (if (if b = 0 then d else 1 - d) = 0 then (if 1 - a = 0 then 0 else c) else 1 - (if 1 - a = 0 then 0 else c)) = ch_pv 3 (a + 2 * b) (c + 2 * d)) (by decide) l0 u0 l1 u1 s
theorem ch_p4 : ch_v (l0 &&& l1) ((u0 &&& l1) ^^^ (l0 &&& u1)) s = ch_pv 4 (ch_v l0 u0 s) (ch_v l1 u1 s) := by
  unfold ch_v
  rw [ch_bt_xor, ch_bt_and, ch_bt_and, ch_bt_and]
  exact ch_bits (fun a b c d => (if a = 0 then 0 else c) + 2 * (if (if b = 0 then 0 else c) = 0 then (if a = 0 then 0 else d) else 1 - (if a = 0 then 0 else d)) = ch_pv 4 (a + 2 * b) (c + 2 * d)) (by decide) l0 u0 l1 u1 s
theorem ch_p5 (hs : s < 64) : ch_v (((l0 ^^^ l1) ^^^ (-1)) &&& ((u0 ^^^ u1) ^^^ (-1))) 0 s = ch_pv 5 (ch_v l0 u0 s) (ch_v l1 u1 s) := by
  unfold ch_v
  rw [ch_bt_and, ch_bt_not _ hs, ch_bt_not _ hs, ch_bt_xor, ch_bt_xor, ch_bt_0]
  exact ch_bits (fun a b c d => (if 1 - (if a = 0 then c else 1 - c) = 0 then 0 else 1 - (if b = 0 then d else 1 - d)) + 2 * 0 = ch_pv 5 (a + 2 * b) (c + 2 * d)) (by decide) l0 u0 l1 u1 s
theorem ch_p6 (hs : s < 64) : ch_v (((u0 ^^^ (-1)) &&& u1) ||| ((((u0 ^^^ u1) ^^^ (-1)) &&& (l0 ^^^ (-1))) &&& l1)) 0 s = ch_pv 6 (ch_v l0 u0 s) (ch_v l1 u1 s) := by
  unfold ch_v
  rw [ch_bt_or, ch_bt_and, ch_bt_not _ hs, ch_bt_and, ch_bt_and, ch_bt_not _ hs, ch_bt_not _ hs, ch_bt_xor, ch_bt_0]
  exact ch_bits (fun a b c d => (if (if 1 - b = 0 then 0 else d) = 0 then (if (if 1 - (if b = 0 then d else 1 - d) = 0 then 0 else 1 - a) = 0 then 0 else c) else 1) + 2 * 0 = ch_pv 6 (a + 2 * b) (c + 2 * d)) (by decide) l0 u0 l1 u1 s
theorem ch_p8 : ch_v ((l0 ||| u0) &&& (l1 ||| u1)) 0 s = ch_pv 8 (ch_v l0 u0 s) (ch_v l1 u1 s) := by
  unfold ch_v
  rw [ch_bt_and, ch_bt_or, ch_bt_or, ch_bt_0]
  exact ch_bits (fun a b c d => (if (if a = 0 then b else 1) = 0 then 0 else (if c = 0 then d else 1)) + 2 * 0 = ch_pv 8 (a + 2 * b) (c + 2 * d)) (by decide) l0 u0 l1 u1 s
theorem ch_p9 (hs : s < 64) : ch_v (l0 ||| (((l0 ||| u0) ^^^ (-1)) &&& l1)) (u0 ||| (((l0 ||| u0) ^^^ (-1)) &&& u1)) s = ch_pv 9 (ch_v l0 u0 s) (ch_v l1 u1 s) := by
  unfold ch_v
  rw [ch_bt_or, ch_bt_or, ch_bt_and, ch_bt_and, ch_bt_not _ hs, ch_bt_or]
  exact ch_bits (fun a b c d => (if a = 0 then (if 1 - (if a = 0 then b else 1) = 0 then 0 else c) else 1) + 2 * (if b = 0 then (if 1 - (if a = 0 then b else 1) = 0 then 0 else d) else 1) = ch_pv 9 (a + 2 * b) (c + 2 * d)) (by decide) l0 u0 l1 u1 s
theorem ch_p7 (hs : s < 64) : ch_v ((l0 ||| u0) ^^^ (-1)) 0 s = if ch_v l0 u0 s = 0 then 1 else 0 := by
  unfold ch_v
  rw [ch_bt_not _ hs, ch_bt_or, ch_bt_0]
  exact ch_bits (fun a b c d => 1 - (if a = 0 then b else 1) + 2 * 0 = if a + 2 * b = 0 then 1 else 0) (by decide) l0 u0 l0 u0 s
end
theorem ch_p0 : ∀ a, a < 4 → ∀ s, s < 64 → ch_v (if (nI a &&& 1) = 1 then -1 else 0) (if (nI a &&& 2) = 2 then -1 else 0) s = a := by decide +kernel
theorem ch_p1a : ∀ s, s < 64 → ch_v (-6148914691236517206) (-3689348814741910324) s = s / 4 ^ 0 % 4 := by decide +kernel
theorem ch_p1b : ∀ s, s < 64 → ch_v (-1085102592571150096) (-71777214294589696) s = s / 4 ^ 1 % 4 := by decide +kernel
theorem ch_p1c : ∀ s, s < 64 → ch_v (-281470681808896) (-4294967296) s = s / 4 ^ 2 % 4 := by decide +kernel
/-- the value that a push makes at a state; p the given number -/
def ch_made (c : Nat) (a x y s : Nat) : Nat := if c = 0 then a else if c = 1 then s / 4 ^ a % 4 else if c = 7 then (if x = 0 then 1 else 0) else ch_pv c x y
def ch_vld (c a : Nat) (p : Int32) : Prop := c ≤ 9 ∧ (c = 0 → a < 4 ∧ p = nI a) ∧ (c = 1 → a < 3 ∧ p = nI a)
section
variable {f_height f_size f_opened f_level f_greatestOnly f_watched f_known : Int32} {a_lower a_upper a_low a_high a_weights a_visited a_weightHere a_visitedHere a_atEnd : Nat → Int64} {a_kind a_variable a_share a_openAt a_elseOf a_endOf a_blockAt a_rounds a_forced : Nat → Int32}
theorem ch_xlay {post : SX → Prop} {h' : Nat} {l u : Int64} (hh : h' < 6) (h : post (nI (h' + 1), f_size, f_opened, f_level, f_greatestOnly, f_watched, f_known, vp_updL a_lower h' l, vp_updL a_upper h' u, a_kind, a_variable, a_share, a_low, a_high, a_openAt, a_elseOf, a_endOf, a_weights, a_visited, a_blockAt, a_rounds, a_forced, a_weightHere, a_visitedHere, a_atEnd)) : wpX_lay post (nI h', f_size, f_opened, f_level, f_greatestOnly, f_watched, f_known, a_lower, a_upper, a_kind, a_variable, a_share, a_low, a_high, a_openAt, a_elseOf, a_endOf, a_weights, a_visited, a_blockAt, a_rounds, a_forced, a_weightHere, a_visitedHere, a_atEnd) l u := by
  have hin : vp_in (nI h') 6 := vp_in_nI hh (by decide)
  have hcl : (nI h').toNatClampNeg = h' := nI_clamp (by omega)
  refine And.intro hin (fun a1 e1 => And.intro hin (fun a2 e2 => nm_r (nI_1 h') ?_))
  rw [hcl] at e1 e2
  rw [e1, e2]
  exact h
theorem ch_xjoin {post : SX → Prop} {c h' : Nat} {l0 u0 l1 u1 : Int64} (hh : h' < 6) (hc2 : 2 ≤ c) (hc9 : c ≤ 9) (hc7 : c ≠ 7)
    (h : ∀ l u, (∀ s, s < 64 → ch_v l u s = ch_pv c (ch_v l0 u0 s) (ch_v l1 u1 s)) → post (nI (h' + 1), f_size, f_opened, f_level, f_greatestOnly, f_watched, f_known, vp_updL a_lower h' l, vp_updL a_upper h' u, a_kind, a_variable, a_share, a_low, a_high, a_openAt, a_elseOf, a_endOf, a_weights, a_visited, a_blockAt, a_rounds, a_forced, a_weightHere, a_visitedHere, a_atEnd)) : wpX_join post (nI h', f_size, f_opened, f_level, f_greatestOnly, f_watched, f_known, a_lower, a_upper, a_kind, a_variable, a_share, a_low, a_high, a_openAt, a_elseOf, a_endOf, a_weights, a_visited, a_blockAt, a_rounds, a_forced, a_weightHere, a_visitedHere, a_atEnd) (nI c) l0 u0 l1 u1 := by
  have hc : c = 2 ∨ c = 3 ∨ c = 4 ∨ c = 5 ∨ c = 6 ∨ c = 8 ∨ c = 9 := by omega
  refine nm_e (nm_e ?_)
  rcases hc with rfl | rfl | rfl | rfl | rfl | rfl | rfl
  · exact br_f (by decide) (br_f (by decide) (br_t rfl (ch_xlay hh (h _ _ (fun s hs => ch_p2)))))
  · exact br_f (by decide) (br_f (by decide) (br_f (by decide) (br_t rfl (ch_xlay hh (h _ _ (fun s hs => ch_p3 hs))))))
  · exact br_f (by decide) (br_f (by decide) (br_f (by decide) (br_f (by decide) (br_t rfl (ch_xlay hh (h _ _ (fun s hs => ch_p4)))))))
  · exact br_f (by decide) (br_f (by decide) (br_f (by decide) (br_f (by decide) (br_f (by decide) (br_t rfl (ch_xlay hh (h _ _ (fun s hs => ch_p5 hs))))))))
  · exact br_f (by decide) (br_f (by decide) (br_f (by decide) (br_f (by decide) (br_f (by decide) (br_f (by decide) (br_t rfl (ch_xlay hh (h _ _ (fun s hs => ch_p6 hs)))))))))
  · exact br_f (by decide) (br_f (by decide) (br_f (by decide) (br_f (by decide) (br_f (by decide) (br_f (by decide) (br_f (by decide) (br_f (by decide) (br_t rfl (ch_xlay hh (h _ _ (fun s hs => ch_p8)))))))))))
  · exact br_f (by decide) (br_t (by decide) (ch_xlay hh (h _ _ (fun s hs => ch_p9 hs))))
theorem ch_x71 {post : Int32 → SX → Prop} {c a ht : Nat} {p : Int32} (hv : ch_vld c a p) (hht : ht ≤ 6) (htk : ch_tk c ≤ ht) (ht6 : ch_tk c = 0 → ht < 6)
    (h : ∀ l u, (∀ s, s < 64 → ch_v l u s = ch_made c a (ch_v (a_lower (ht - ch_tk c)) (a_upper (ht - ch_tk c)) s) (ch_v (a_lower (ht - ch_tk c + 1)) (a_upper (ht - ch_tk c + 1)) s) s) → post (nI (ht - ch_tk c + 1)) (nI (ht - ch_tk c + 1), f_size, f_opened, f_level, f_greatestOnly, f_watched, f_known, vp_updL a_lower (ht - ch_tk c) l, vp_updL a_upper (ht - ch_tk c) u, a_kind, a_variable, a_share, a_low, a_high, a_openAt, a_elseOf, a_endOf, a_weights, a_visited, a_blockAt, a_rounds, a_forced, a_weightHere, a_visitedHere, a_atEnd)) :
    wX_push_71 post (nI c) p (nI ht) f_size f_opened f_level f_greatestOnly f_watched f_known a_lower a_upper a_kind a_variable a_share a_low a_high a_openAt a_elseOf a_endOf a_weights a_visited a_blockAt a_rounds a_forced a_weightHere a_visitedHere a_atEnd := by
  by_cases h0 : c = 0
  · subst h0
    have hl := ht6 rfl
    obtain ⟨ha, rfl⟩ := hv.2.1 rfl
    have hgo : ∀ z1 z0, z1 = (if (nI a &&& 1) = 1 then (-1 : Int64) else 0) → z0 = (if (nI a &&& 2) = 2 then (-1 : Int64) else 0) → wX_push_104 post z0 z1 (nI ht) f_size f_opened f_level f_greatestOnly f_watched f_known a_lower a_upper a_kind a_variable a_share a_low a_high a_openAt a_elseOf a_endOf a_weights a_visited a_blockAt a_rounds a_forced a_weightHere a_visitedHere a_atEnd := by
      intro z1 z0 e1 e0
      exact ch_xlay hl (h z1 z0 (fun s hs => by rw [e1, e0]; exact ch_p0 a ha s hs))
    refine br_t rfl (br_c (fun z1 => ?_) (fun z1 => ?_))
    · exact br_c (fun z2 => hgo _ _ (by rw [if_pos z1]) (by rw [if_pos z2])) (fun z2 => hgo _ _ (by rw [if_pos z1]) (by rw [if_neg z2]))
    · exact br_c (fun z2 => hgo _ _ (by rw [if_neg z1]) (by rw [if_pos z2])) (fun z2 => hgo _ _ (by rw [if_neg z1]) (by rw [if_neg z2]))
  · refine br_f (ch_k9 hv.1 (c := 0) (by decide) h0) ?_
    by_cases h1 : c = 1
    · subst h1
      have hl := ht6 rfl
      obtain ⟨ha, rfl⟩ := hv.2.2 rfl
      refine br_t rfl ?_
      have ha3 : a = 0 ∨ a = 1 ∨ a = 2 := by omega
      rcases ha3 with rfl | rfl | rfl
      · refine nm_r (e' := nI 0) (by decide) (br_f (by decide) (br_f (by decide) (br_t rfl (nm_r (e' := nI 1) (by decide) (br_f (by decide) (br_f (by decide) (br_f (by decide) (br_t rfl ?_))))))))
        exact ch_xlay hl (h _ _ ch_p1a)
      · refine nm_r (e' := nI 2) (by decide) (br_f (by decide) (br_f (by decide) (br_f (by decide) (br_f (by decide) (br_t rfl (nm_r (e' := nI 3) (by decide) (br_f (by decide) (br_f (by decide) (br_f (by decide) (br_f (by decide) (br_f (by decide) (br_t rfl ?_))))))))))))
        exact ch_xlay hl (h _ _ ch_p1b)
      · refine nm_r (e' := nI 4) (by decide) (br_f (by decide) (br_f (by decide) (br_f (by decide) (br_f (by decide) (br_f (by decide) (br_f (by decide) (br_t rfl (nm_r (e' := nI 5) (by decide) (br_f (by decide) (br_t (by decide) ?_))))))))))
        exact ch_xlay hl (h _ _ ch_p1c)
    · refine br_f (ch_k9 hv.1 (c := 1) (by decide) h1) ?_
      by_cases h7 : c = 7
      · subst h7
        obtain ⟨j, rfl⟩ : ∃ j, ht = j + 1 := ⟨ht - 1, by have : 1 ≤ ht := htk; omega⟩
        have e : j + 1 - ch_tk 7 = j := rfl
        rw [e] at h
        have hin : vp_in (nI j) 6 := vp_in_nI (by omega) (by decide)
        have hcl : (nI j).toNatClampNeg = j := nI_clamp (by omega)
        refine br_t rfl (nm_r (nI_pred j) (And.intro hin (And.intro hin ?_)))
        rw [hcl]
        exact ch_xlay (by omega) (h _ _ (fun s hs => ch_p7 hs))
      · have et : ch_tk c = 2 := by
          unfold ch_tk
          rw [if_neg (by omega), if_neg h7]
        rw [et] at h htk
        have hin : vp_in (nI (ht - 2)) 6 := vp_in_nI (by omega) (by decide)
        have hcl : (nI (ht - 2)).toNatClampNeg = ht - 2 := nI_clamp (by omega)
        have hin2 : vp_in (nI (ht - 2 + 1)) 6 := vp_in_nI (by omega) (by decide)
        have hcl2 : (nI (ht - 2 + 1)).toNatClampNeg = ht - 2 + 1 := nI_clamp (by omega)
        refine br_f (ch_k9 hv.1 (c := 7) (by decide) h7) (nm_r (pk_sub (b := 2) htk) (And.intro hin (And.intro hin ?_)))
        rw [nI_1, hcl, hcl2]
        refine And.intro hin2 (And.intro hin2 (ch_xjoin (by omega) (by omega) hv.1 h7 (fun l u hlu => h l u (fun s hs => ?_))))
        rw [hlu s hs]
        unfold ch_made
        rw [if_neg h0, if_neg h1, if_neg h7]
theorem ch_xtak {post : Int32 → Prop} {c : Nat} (hc : c ≤ 9) (h : post (nI (ch_tk c))) : wpX_taken post (nI c) := by
  unfold ch_tk at h
  by_cases h0 : c = 0
  · subst h0; exact br_t rfl h
  · refine br_f (ch_k9 hc (c := 0) (by decide) h0) ?_
    by_cases h1 : c = 1
    · subst h1; exact br_t rfl h
    · refine br_f (ch_k9 hc (c := 1) (by decide) h1) ?_
      rw [if_neg (by omega)] at h
      by_cases h7 : c = 7
      · subst h7; exact br_t rfl h
      · rw [if_neg h7] at h
        exact br_f (ch_k9 hc (c := 7) (by decide) h7) h
end
end
section
/-! own rows: pushing, on both sides -/
def ch_pbad (p0 p1 : Int32) : Prop := (p0 < 0 ∨ 9 < p0) ∨ (p0 = nI 0 ∧ (p1 < 0 ∨ 3 < p1)) ∨ (p0 = nI 1 ∧ (p1 < 0 ∨ 2 < p1))
theorem ch_pgob (p0 p1 : Int32) : (∃ c a, ch_vld c a p1 ∧ p0 = nI c) ∨ ch_pbad p0 p1 := by
  by_cases h : p0 < 0
  · exact Or.inr (Or.inl (Or.inl h))
  · by_cases h9 : 9 < p0
    · exact Or.inr (Or.inl (Or.inr h9))
    · obtain ⟨c, hc, rfl⟩ := nI_of2 (M := 9) (n := 9) (by decide) h (Int32.not_lt.mp h9)
      by_cases h0 : c = 0
      · subst h0
        rcases ch_isk p1 with ⟨a, ha, e⟩ | hb
        · exact Or.inl ⟨0, a, ⟨hc, fun _ => ⟨ha, e⟩, fun z => nomatch z⟩, rfl⟩
        · exact Or.inr (Or.inr (Or.inl ⟨rfl, hb⟩))
      · by_cases h1 : c = 1
        · subst h1
          rcases ch_isv p1 with ⟨a, ha, e⟩ | hb
          · exact Or.inl ⟨1, a, ⟨hc, (fun z => nomatch z), fun _ => ⟨ha, e⟩⟩, rfl⟩
          · exact Or.inr (Or.inr (Or.inr ⟨rfl, hb⟩))
        · exact Or.inl ⟨c, 0, ⟨hc, fun z => absurd z h0, fun z => absurd z h1⟩, rfl⟩
theorem ch_b0' {p c : Int32} {A B : Prop} (h : p < 0 ∨ c < p) (a : A) : (p < 0 → A) ∧ (¬ p < 0 → ((p ≤ c → B) ∧ (¬ p ≤ c → A))) := by
  by_cases h0 : p < 0
  · exact br_t h0 a
  · exact br_f h0 (br_f (Int32.not_le.mpr (h.resolve_left h0)) a)
theorem ch_b1' {v c : Nat} {A B : Prop} (hv : v ≤ c) (hc : c < 2 ^ 31) (b : B) : (nI v < 0 → A) ∧ (¬ nI v < 0 → ((nI v ≤ nI c → B) ∧ (¬ nI v ≤ nI c → A))) :=
  br_f (nI_pos (by omega)) (br_t (nI_le hv hc) b)
section
variable {f_height f_size f_opened f_level f_greatestOnly f_watched f_known : Int32} {a_lower a_upper a_low a_high a_weights a_visited a_weightHere a_visitedHere a_atEnd : Nat → Int64} {a_kind a_variable a_share a_openAt a_elseOf a_endOf a_blockAt a_rounds a_forced : Nat → Int32}
theorem ch_xpu {post : Int32 → SX → Prop} {c a : Nat} {p : Int32} (hv : ch_vld c a p) (h : wX_push_39 post (nI c) p f_height f_size f_opened f_level f_greatestOnly f_watched f_known a_lower a_upper a_kind a_variable a_share a_low a_high a_openAt a_elseOf a_endOf a_weights a_visited a_blockAt a_rounds a_forced a_weightHere a_visitedHere a_atEnd) : wpX_push post (f_height, f_size, f_opened, f_level, f_greatestOnly, f_watched, f_known, a_lower, a_upper, a_kind, a_variable, a_share, a_low, a_high, a_openAt, a_elseOf, a_endOf, a_weights, a_visited, a_blockAt, a_rounds, a_forced, a_weightHere, a_visitedHere, a_atEnd) (nI c) p := by
  refine ch_b1 (c := 9) hv.1 (by decide) ?_
  by_cases h0 : c = 0
  · subst h0
    obtain ⟨ha, rfl⟩ := hv.2.1 rfl
    exact br_t rfl (ch_b1 (c := 3) (by omega) (by decide) (br_f (by decide) h))
  · refine br_f (ch_k9 hv.1 (c := 0) (by decide) h0) ?_
    by_cases h1 : c = 1
    · subst h1
      obtain ⟨ha, rfl⟩ := hv.2.2 rfl
      exact br_t rfl (ch_b1' (c := 2) (by omega) (by decide) h)
    · exact br_f (ch_k9 hv.1 (c := 1) (by decide) h1) h
theorem ch_xpb {post : Int32 → SX → Prop} {p0 p1 : Int32} (hb : ch_pbad p0 p1) (h : post (-1) (f_height, f_size, f_opened, f_level, f_greatestOnly, f_watched, f_known, a_lower, a_upper, a_kind, a_variable, a_share, a_low, a_high, a_openAt, a_elseOf, a_endOf, a_weights, a_visited, a_blockAt, a_rounds, a_forced, a_weightHere, a_visitedHere, a_atEnd)) : wpX_push post (f_height, f_size, f_opened, f_level, f_greatestOnly, f_watched, f_known, a_lower, a_upper, a_kind, a_variable, a_share, a_low, a_high, a_openAt, a_elseOf, a_endOf, a_weights, a_visited, a_blockAt, a_rounds, a_forced, a_weightHere, a_visitedHere, a_atEnd) p0 p1 := by
  rcases hb with hb | ⟨rfl, hb⟩ | ⟨rfl, hb⟩
  · exact ch_b0 hb h
  · exact ch_b1 (c := 9) (by decide) (by decide) (br_t rfl (ch_b0 hb h))
  · exact ch_b1 (c := 9) (by decide) (by decide) (br_f (by decide) (br_t rfl (ch_b0' hb h)))
end
section
variable {f_height f_count f_open f_at f_depth f_state f_steps f_product f_end f_most f_mostRow f_mostSteps : Int32} {a_stack a_kinds a_variables a_numbers a_values a_opened a_begins a_left a_outcomes a_met a_sums : Nat → Int32} {a_visited : Nat → Int64}
theorem ch_ypu {post : Int32 → SY → Prop} {c a : Nat} {p : Int32} (hv : ch_vld c a p) (h : wY_push_39 post (nI c) p f_height f_count f_open f_at f_depth f_state f_steps f_product f_end f_most f_mostRow f_mostSteps a_stack a_kinds a_variables a_numbers a_values a_opened a_begins a_left a_outcomes a_met a_sums a_visited) : wpY_push post (f_height, f_count, f_open, f_at, f_depth, f_state, f_steps, f_product, f_end, f_most, f_mostRow, f_mostSteps, a_stack, a_kinds, a_variables, a_numbers, a_values, a_opened, a_begins, a_left, a_outcomes, a_met, a_sums, a_visited) (nI c) p := by
  refine ch_b1 (c := 9) hv.1 (by decide) ?_
  by_cases h0 : c = 0
  · subst h0
    obtain ⟨ha, rfl⟩ := hv.2.1 rfl
    exact br_t rfl (ch_b1 (c := 3) (by omega) (by decide) (br_f (by decide) h))
  · refine br_f (ch_k9 hv.1 (c := 0) (by decide) h0) ?_
    by_cases h1 : c = 1
    · subst h1
      obtain ⟨ha, rfl⟩ := hv.2.2 rfl
      exact br_t rfl (ch_b1' (c := 2) (by omega) (by decide) h)
    · exact br_f (ch_k9 hv.1 (c := 1) (by decide) h1) h
theorem ch_ypb {post : Int32 → SY → Prop} {p0 p1 : Int32} (hb : ch_pbad p0 p1) (h : post (-1) (f_height, f_count, f_open, f_at, f_depth, f_state, f_steps, f_product, f_end, f_most, f_mostRow, f_mostSteps, a_stack, a_kinds, a_variables, a_numbers, a_values, a_opened, a_begins, a_left, a_outcomes, a_met, a_sums, a_visited)) : wpY_push post (f_height, f_count, f_open, f_at, f_depth, f_state, f_steps, f_product, f_end, f_most, f_mostRow, f_mostSteps, a_stack, a_kinds, a_variables, a_numbers, a_values, a_opened, a_begins, a_left, a_outcomes, a_met, a_sums, a_visited) p0 p1 := by
  rcases hb with hb | ⟨rfl, hb⟩ | ⟨rfl, hb⟩
  · exact ch_b0 hb h
  · exact ch_b1 (c := 9) (by decide) (by decide) (br_t rfl (ch_b0 hb h))
  · exact ch_b1 (c := 9) (by decide) (by decide) (br_f (by decide) (br_t rfl (ch_b0' hb h)))
end
section
variable {f_height f_count f_open f_at f_depth f_state f_steps f_product f_end f_most f_mostRow f_mostSteps : Int32} {a_stack a_kinds a_variables a_numbers a_values a_opened a_begins a_left a_outcomes a_met a_sums : Nat → Int32} {a_visited : Nat → Int64}
theorem ch_ycomb {post : Int32 → Prop} {c x y : Nat} (hc2 : 2 ≤ c) (hc9 : c ≤ 9) (hc7 : c ≠ 7) (hx : x < 4) (hy : y < 4) (h : post (nI (ch_pv c x y))) : wpY_combine post (f_height, f_count, f_open, f_at, f_depth, f_state, f_steps, f_product, f_end, f_most, f_mostRow, f_mostSteps, a_stack, a_kinds, a_variables, a_numbers, a_values, a_opened, a_begins, a_left, a_outcomes, a_met, a_sums, a_visited) (nI c) (nI x) (nI y) := by
  have hc : c = 2 ∨ c = 3 ∨ c = 4 ∨ c = 5 ∨ c = 6 ∨ c = 8 ∨ c = 9 := by omega
  rcases hc with rfl | rfl | rfl | rfl | rfl | rfl | rfl
  · have e : ∀ x, x < 4 → ∀ y, y < 4 → (nI x + nI y) - (nI x + nI y) / 4 * 4 = nI (ch_pv 2 x y) := by decide +kernel
    refine br_t rfl (And.intro (by decide) ?_)
    rw [e x hx y hy]
    exact h
  · have e : ∀ x, x < 4 → ∀ y, y < 4 → ((nI x + 4) - nI y) - ((nI x + 4) - nI y) / 4 * 4 = nI (ch_pv 3 x y) := by decide +kernel
    refine br_f (by decide) (br_t rfl (And.intro (by decide) ?_))
    rw [e x hx y hy]
    exact h
  · have e : ∀ x, x < 4 → ∀ y, y < 4 → (nI x * nI y) - (nI x * nI y) / 4 * 4 = nI (ch_pv 4 x y) := by decide +kernel
    refine br_f (by decide) (br_f (by decide) (br_t rfl (And.intro (by decide) ?_)))
    rw [e x hx y hy]
    exact h
  · refine br_f (by decide) (br_f (by decide) (br_f (by decide) (br_t rfl ?_)))
    have e : ch_pv 5 x y = if x = y then 1 else 0 := rfl
    rw [e] at h
    by_cases hxy : x = y
    · rw [if_pos hxy] at h
      exact br_t (by rw [hxy]) h
    · rw [if_neg hxy] at h
      exact br_f (fun z => hxy ((nI_eq (by omega) (by omega)).mp z)) h
  · refine br_f (by decide) (br_f (by decide) (br_f (by decide) (br_f (by decide) (br_t rfl ?_))))
    have e : ch_pv 6 x y = if x < y then 1 else 0 := rfl
    rw [e] at h
    by_cases hxy : x < y
    · rw [if_pos hxy] at h
      exact br_f (nI_ge hxy (by omega)) h
    · rw [if_neg hxy] at h
      exact br_t (nI_le (by omega) (by omega)) h
  · refine br_f (by decide) (br_f (by decide) (br_f (by decide) (br_f (by decide) (br_f (by decide) (br_t rfl ?_)))))
    have e : ch_pv 8 x y = if x ≠ 0 ∧ y ≠ 0 then 1 else 0 := rfl
    rw [e] at h
    by_cases hx0 : x = 0
    · rw [if_neg (fun z => z.1 hx0)] at h
      exact br_t (by rw [hx0]; rfl) h
    · refine br_f (nI_ne0 (by omega) (by omega)) ?_
      by_cases hy0 : y = 0
      · rw [if_neg (fun z => z.2 hy0)] at h
        exact br_t (by rw [hy0]; rfl) h
      · rw [if_pos ⟨hx0, hy0⟩] at h
        exact br_f (nI_ne0 (by omega) (by omega)) h
  · refine br_f (by decide) (br_f (by decide) (br_f (by decide) (br_f (by decide) (br_f (by decide) (br_f (by decide) ?_)))))
    have e : ch_pv 9 x y = if x ≠ 0 then x else y := rfl
    rw [e] at h
    by_cases hx0 : x = 0
    · rw [if_neg (fun z => z hx0)] at h
      exact br_t (by rw [hx0]; rfl) h
    · rw [if_pos hx0] at h
      exact br_f (nI_ne0 (by omega) (by omega)) h
def ch_pI (b : Nat) (f : Nat → Nat) (s : Nat) (k0 k : Nat → Int32) : Prop := (∀ t, t < s → k (b + t) = nI (f t)) ∧ ∀ j, ¬ (b ≤ j ∧ j < b + s) → k j = k0 j
theorem ch_pI_s {b s : Nat} {f : Nat → Nat} {k0 k : Nat → Int32} (h : ch_pI b f s k0 k) : ch_pI b f (s + 1) k0 (upd k (b + s) (nI (f s))) := by
  refine ⟨fun t ht => ?_, fun j hj => ?_⟩
  · by_cases hts : t = s
    · rw [hts, pk_us]
    · rw [pk_un (by omega)]; exact h.1 t (by omega)
  · rw [pk_un (by omega)]
    exact h.2 j (by omega)
theorem ch_y102 {post : Int32 → SY → Prop} {c a h' : Nat} {p : Int32} {X Y : Nat → Nat} {k0 : Nat → Int32} (hv : ch_vld c a p) (hh : h' < 6) (hX4 : ∀ s, X s < 4) (hY4 : ∀ s, Y s < 4) (hX : 2 ≤ c → ∀ s, s < 64 → k0 (64 * h' + s) = nI (X s)) (hY : 2 ≤ c → c ≠ 7 → h' < 5 ∧ ∀ s, s < 64 → k0 (64 * (h' + 1) + s) = nI (Y s))
    (h : ∀ k, ch_pI (64 * h') (fun s => ch_made c a (X s) (Y s) s) 64 k0 k → post (nI (h' + 1)) (nI (h' + 1), f_count, f_open, f_at, f_depth, f_state, f_steps, f_product, f_end, f_most, f_mostRow, f_mostSteps, k, a_kinds, a_variables, a_numbers, a_values, a_opened, a_begins, a_left, a_outcomes, a_met, a_sums, a_visited)) :
    ∀ (d s : Nat) (k : Nat → Int32), s + d = 64 → ch_pI (64 * h') (fun s => ch_made c a (X s) (Y s) s) s k0 k → wY_push_102 post (nI c) p (nI (ch_tk c)) (nI (h' + 1)) f_count f_open f_at f_depth f_state f_steps f_product f_end f_most f_mostRow f_mostSteps (d + 1) (nI s) k a_kinds a_variables a_numbers a_values a_opened a_begins a_left a_outcomes a_met a_sums a_visited := by
  intro d
  induction d with
  | zero =>
    intro s k hs hk
    have e : s = 64 := by omega
    subst e
    exact br_t (by decide) (h k hk)
  | succ d ih =>
    intro s k hs hk
    have hs64 : s < 64 := by omega
    have hin : vp_in (nI (64 * h' + s)) 384 := vp_in_nI (by omega) (by decide)
    have hcl : (nI (64 * h' + s)).toNatClampNeg = 64 * h' + s := nI_clamp (by omega)
    have e5 : (64 * nI (h' + 1) - 64) + nI s = nI (64 * h' + s) := by
      rw [show (64 : Int32) = nI 64 from rfl, pk_mul, pk_sub (by omega), nI_add, show 64 * (h' + 1) - 64 = 64 * h' by omega]
    have fin : ∀ k', k' = upd k (64 * h' + s) (nI (ch_made c a (X s) (Y s) s)) → wY_push_102 post (nI c) p (nI (ch_tk c)) (nI (h' + 1)) f_count f_open f_at f_depth f_state f_steps f_product f_end f_most f_mostRow f_mostSteps (d + 1) (nI (s + 1)) k' a_kinds a_variables a_numbers a_values a_opened a_begins a_left a_outcomes a_met a_sums a_visited := fun k' ek => by
      rw [ek]
      exact ih (s + 1) _ (by omega) (ch_pI_s (f := fun s => ch_made c a (X s) (Y s) s) hk)
    refine br_f (nI_ge (a := s) (b := 64) hs64 (by omega)) (nm_r e5 (And.intro hin (fun x6 e6 => ?_)))
    rw [hcl, hk.2 _ (by omega)] at e6
    by_cases h0 : c = 0
    · subst h0
      obtain ⟨ha, rfl⟩ := hv.2.1 rfl
      refine br_t rfl (br_f (by decide) (br_f (by decide) (And.intro hin (fun k' ek => nm_r (nI_1 s) (fin k' ?_)))))
      rw [ek, hcl]
      rfl
    · refine br_f (ch_k9 hv.1 (c := 0) (by decide) h0) ?_
      by_cases h1 : c = 1
      · subst h1
        obtain ⟨ha, rfl⟩ := hv.2.2 rfl
        refine br_c (fun _ => br_t rfl (ch_yval hs64 ha (br_f (by decide) (And.intro hin (fun k' ek => nm_r (nI_1 s) (fin k' ?_)))))) (fun _ => br_t rfl (ch_yval hs64 ha (br_f (by decide) (And.intro hin (fun k' ek => nm_r (nI_1 s) (fin k' ?_))))))
        · rw [ek, hcl]
          rfl
        · rw [ek, hcl]
          rfl
      · have hx6 := hX (by omega) s hs64
        rw [hx6] at e6
        rw [e6]
        by_cases h7 : c = 7
        · subst h7
          by_cases hz : X s = 0
          · rw [hz]
            refine br_t rfl (br_f (by decide) (br_f (by decide) (And.intro hin (fun k' ek => nm_r (nI_1 s) (fin k' ?_)))))
            rw [ek, hcl]
            have em : ch_made 7 a (X s) (Y s) s = if X s = 0 then 1 else 0 := rfl
            rw [em, if_pos hz]
            rfl
          · have hX4s := hX4 s
            refine br_f (nI_ne0 (by omega) (by omega)) (br_f (by decide) (br_f (by decide) (And.intro hin (fun k' ek => nm_r (nI_1 s) (fin k' ?_)))))
            rw [ek, hcl]
            have em : ch_made 7 a (X s) (Y s) s = if X s = 0 then 1 else 0 := rfl
            rw [em, if_neg hz]
            rfl
        · have et : ch_tk c = 2 := by
            unfold ch_tk
            rw [if_neg (by omega), if_neg h7]
          have hYs := hY (by omega) h7
          have e64 : nI (64 * h' + s) + 64 = nI (64 * (h' + 1) + s) := by
            rw [show (64 : Int32) = nI 64 from rfl, nI_add, show 64 * h' + s + 64 = 64 * (h' + 1) + s by omega]
          have hin2 : vp_in (nI (64 * (h' + 1) + s)) 384 := vp_in_nI (by omega) (by decide)
          have hcl2 : (nI (64 * (h' + 1) + s)).toNatClampNeg = 64 * (h' + 1) + s := nI_clamp (by omega)
          have em : ch_made c a (X s) (Y s) s = ch_pv c (X s) (Y s) := by
            unfold ch_made
            rw [if_neg h0, if_neg h1, if_neg h7]
          have h167 : ∀ z0, wY_push_151 post (wY_push_102 post (nI c) p (nI (ch_tk c)) (nI (h' + 1)) f_count f_open f_at f_depth f_state f_steps f_product f_end f_most f_mostRow f_mostSteps (d + 1)) (nI c) p (nI (ch_tk c)) (nI s) (nI (64 * h' + s)) (nI (X s)) z0 (nI (h' + 1)) f_count f_open f_at f_depth f_state f_steps f_product f_end f_most f_mostRow f_mostSteps k a_kinds a_variables a_numbers a_values a_opened a_begins a_left a_outcomes a_met a_sums a_visited := by
            intro z0
            refine br_f (ch_k9 hv.1 (c := 1) (by decide) h1) (br_t (by rw [et]; rfl) ?_)
            rw [e64, hcl2, hk.2 _ (by omega), hYs.2 s hs64]
            refine And.intro hin2 (ch_ycomb (by omega) hv.1 h7 (hX4 s) (hY4 s) (And.intro hin (fun k' ek => nm_r (nI_1 s) (fin k' ?_))))
            rw [ek, hcl, em]
          exact br_c (fun _ => h167 1) (fun _ => h167 0)
theorem ch_y39 {post : Int32 → SY → Prop} {c : Nat} {p : Int32} (hc : c ≤ 9) (h : wY_push_59 post (nI c) p (nI (ch_tk c)) f_height f_count f_open f_at f_depth f_state f_steps f_product f_end f_most f_mostRow f_mostSteps a_stack a_kinds a_variables a_numbers a_values a_opened a_begins a_left a_outcomes a_met a_sums a_visited) : wY_push_39 post (nI c) p f_height f_count f_open f_at f_depth f_state f_steps f_product f_end f_most f_mostRow f_mostSteps a_stack a_kinds a_variables a_numbers a_values a_opened a_begins a_left a_outcomes a_met a_sums a_visited := by
  unfold ch_tk at h
  by_cases h2 : c < 2
  · rw [if_pos h2] at h
    exact br_f (nI_ge (a := c) (b := 2) h2 (by decide)) h
  · rw [if_neg h2] at h
    refine br_t (nI_le (a := 2) (b := c) (by omega) (by omega)) ?_
    by_cases h7 : c = 7
    · rw [if_pos h7] at h
      exact br_t (by rw [h7]; rfl) h
    · rw [if_neg h7] at h
      exact br_f (ch_k9 hc (c := 7) (by decide) h7) h
end
theorem ch_tk_le (c : Nat) : ch_tk c ≤ 2 := by
  unfold ch_tk
  split
  · decide
  · split <;> decide
theorem i_vc_push {k : Nat} {u : SX} {v : SY} (I : i_Rel k u v) (hk : k + 5 ≤ 2560) (v1 : Int32) (v2 : Int32) : wpX_push (fun r u' => wpY_push (fun r' v' => r' = r ∧ i_Rel (k + 5) u' v') v v1 v2) u v1 v2 := by
  refine ch_el (Q := fun u v => wpX_push (fun r u' => wpY_push (fun r' v' => r' = r ∧ i_Rel (k + 5) u' v') v v1 v2) u v1 v2) ?_ I
  intro f_height f_size f_opened f_level f_greatestOnly f_watched f_known a_lower a_upper a_kind a_variable a_share a_low a_high a_openAt a_elseOf a_endOf a_weights a_visited a_blockAt a_rounds a_forced a_weightHere a_visitedHere a_atEnd yf_height yf_count yf_open yf_at yf_depth yf_state yf_steps yf_product yf_end yf_most yf_mostRow yf_mostSteps ya_stack ya_kinds ya_variables ya_numbers ya_values ya_opened ya_begins ya_left ya_outcomes ya_met ya_sums ya_visited P ht hR
  have hR0 := hR
  obtain ⟨w, hht, hh, hyh, hx, hy, hst, hop, hk1⟩ := hR
  subst hh hyh
  rcases ch_pgob v1 v2 with ⟨c, a, hv, rfl⟩ | hb
  · refine ch_xpu hv (ch_xtak hv.1 ?_)
    have htk2 := ch_tk_le c
    by_cases htk : ch_tk c ≤ ht
    · have hgoX : (ch_tk c = 0 → ht < 6) → wX_push_71 (fun r u' => wpY_push (fun r' v' => r' = r ∧ i_Rel (k + 5) u' v') (nI ht, yf_count, yf_open, yf_at, yf_depth, yf_state, yf_steps, yf_product, yf_end, yf_most, yf_mostRow, yf_mostSteps, ya_stack, ya_kinds, ya_variables, ya_numbers, ya_values, ya_opened, ya_begins, ya_left, ya_outcomes, ya_met, ya_sums, ya_visited) (nI c) v2) (nI c) v2 (nI ht) f_size f_opened f_level f_greatestOnly f_watched f_known a_lower a_upper a_kind a_variable a_share a_low a_high a_openAt a_elseOf a_endOf a_weights a_visited a_blockAt a_rounds a_forced a_weightHere a_visitedHere a_atEnd := by
        intro h6
        refine ch_x71 hv hht htk h6 (fun l u hlu => ?_)
        refine ch_ypu hv (ch_y39 hv.1 (br_t (nI_le htk (by omega)) ?_))
        have hgoY : wY_push_87 (fun r' v' => r' = nI (ht - ch_tk c + 1) ∧ i_Rel (k + 5) (nI (ht - ch_tk c + 1), f_size, f_opened, f_level, f_greatestOnly, f_watched, f_known, vp_updL a_lower (ht - ch_tk c) l, vp_updL a_upper (ht - ch_tk c) u, a_kind, a_variable, a_share, a_low, a_high, a_openAt, a_elseOf, a_endOf, a_weights, a_visited, a_blockAt, a_rounds, a_forced, a_weightHere, a_visitedHere, a_atEnd) v') (nI c) v2 (nI (ch_tk c)) (nI ht) yf_count yf_open yf_at yf_depth yf_state yf_steps yf_product yf_end yf_most yf_mostRow yf_mostSteps ya_stack ya_kinds ya_variables ya_numbers ya_values ya_opened ya_begins ya_left ya_outcomes ya_met ya_sums ya_visited := by
          refine nm_r (e' := nI (ht - ch_tk c + 1)) (by rw [pk_sub htk, nI_1]) (Exists.intro 65 ?_)
          have hh' : ht - ch_tk c < 6 := by
            by_cases h0 : ch_tk c = 0
            · have := h6 h0; omega
            · omega
          refine ch_y102 (h' := ht - ch_tk c) (X := fun s => ch_v (a_lower (ht - ch_tk c)) (a_upper (ht - ch_tk c)) s) (Y := fun s => ch_v (a_lower (ht - ch_tk c + 1)) (a_upper (ht - ch_tk c + 1)) s) (k0 := ya_stack) hv hh' (fun s => by have := ch_v_le (a_lower (ht - ch_tk c)) (a_upper (ht - ch_tk c)) s; omega) (fun s => by have := ch_v_le (a_lower (ht - ch_tk c + 1)) (a_upper (ht - ch_tk c + 1)) s; omega) (fun hc2 s hs => ?_) (fun hc2 hc7 => ?_) (fun kk hkk => ?_) 64 0 ya_stack (by omega) ⟨fun t ht => by omega, fun j _ => rfl⟩
          · refine hst _ s ?_ hs
            unfold ch_tk at htk ⊢
            rw [if_neg (by omega)] at htk ⊢
            split at htk <;> split <;> omega
          · have et : ch_tk c = 2 := by
              unfold ch_tk
              rw [if_neg (by omega), if_neg hc7]
            rw [et] at htk ⊢
            exact ⟨by omega, fun s hs => hst _ s (by omega) hs⟩
          · refine ⟨rfl, ch_inR ⟨w, by omega, rfl, rfl, hx, hy, fun e s he hs => ?_, hop, hk1⟩⟩
            by_cases hee : e = ht - ch_tk c
            · subst hee
              rw [hkk.1 s hs, pk_uLs, pk_uLs, hlu s hs]
            · rw [hkk.2 _ (by omega), pk_uLn hee, pk_uLn hee]
              exact hst e s (by omega) hs
        by_cases h0 : ch_tk c = 0
        · have h66 := h6 h0
          refine br_t (by rw [h0]; rfl) (br_f (fun z => absurd ((nI_eq (b := 6) (by omega) (by decide)).mp z) (by omega)) hgoY)
        · exact br_f (nI_ne0 (by omega) (by omega)) hgoY
      refine br_t (nI_le htk (by omega)) ?_
      by_cases h0 : ch_tk c = 0
      · refine br_t (by rw [h0]; rfl) ?_
        by_cases h6 : ht < 6
        · exact br_t (nI_lt (b := 6) h6 (by decide)) (hgoX (fun _ => h6))
        · have e6 : ht = 6 := by omega
          refine br_f (nI_nlt (b := 6) (by omega) (by omega)) (ch_ypu hv (ch_y39 hv.1 (br_t (nI_le htk (by omega)) (br_t (by rw [h0]; rfl) (br_t (by rw [e6]; rfl) ⟨rfl, ch_inR hR0⟩)))))
      · exact br_f (nI_ne0 (by omega) (by omega)) (hgoX (fun z => absurd z h0))
    · exact br_f (nI_ge (by omega) (by omega)) (ch_ypu hv (ch_y39 hv.1 (br_f (nI_ge (by omega) (by omega)) ⟨rfl, ch_inR hR0⟩)))
  · exact ch_xpb hb (ch_ypb hb ⟨rfl, ch_inR hR0⟩)
end
section
/-! own rows: a program and its beginnings -/
def ch_at (P : ch_P) (m : Nat) : ch_P := (m, P.2)
theorem ch_st_cg {P P' : ch_P} : ∀ q, (∀ i, i < q → ch_K P i = ch_K P' i) → ch_st P q = ch_st P' q := by
  intro q
  induction q with
  | zero => intro _; rfl
  | succ q ih =>
    intro h
    show ch_st1 P q (ch_st P q) = ch_st1 P' q (ch_st P' q)
    rw [ih (fun i hi => h i (by omega))]
    unfold ch_st1
    rw [h q (by omega)]
theorem ch_nx_cg {P P' : ch_P} {k i : Nat} (h : ch_K P k = ch_K P' k) : ch_nx P k i = ch_nx P' k i := by
  unfold ch_nx
  rw [h]
theorem ch_sc_cg {P P' : ch_P} (oe : Bool) : ∀ f i k, (∀ j, j < k + f → ch_K P j = ch_K P' j) → ch_sc P oe f i k = ch_sc P' oe f i k := by
  intro f
  induction f with
  | zero => intro i k _; rfl
  | succ f ih =>
    intro i k h
    have hk := h k (by omega)
    show (if i = 0 ∧ (ch_K P k = 8 ∨ (oe = true ∧ ch_K P k = 5)) then k else ch_sc P oe f (ch_nx P k i) (k + 1)) = (if i = 0 ∧ (ch_K P' k = 8 ∨ (oe = true ∧ ch_K P' k = 5)) then k else ch_sc P' oe f (ch_nx P' k i) (k + 1))
    rw [hk, ch_nx_cg hk, ih _ _ (fun j hj => h j (by omega))]
theorem ch_fd_cg {P P' : ch_P} {oe : Bool} {b : Nat} (hn : ch_n P = ch_n P') (hb : b < ch_n P) (h : ∀ j, j < ch_n P → ch_K P j = ch_K P' j) : ch_fd P oe b = ch_fd P' oe b := by
  unfold ch_fd
  rw [← hn]
  exact ch_sc_cg oe _ _ _ (fun j hj => h j (by omega))
theorem ch_sc_st {P : ch_P} (oe : Bool) : ∀ f i k, ch_sc P oe f i k < k + f → ch_sc P oe (f + 1) i k = ch_sc P oe f i k := by
  intro f
  induction f with
  | zero => intro i k h; exact absurd h (Nat.lt_irrefl k)
  | succ f ih =>
    intro i k h
    by_cases hc : i = 0 ∧ (ch_K P k = 8 ∨ (oe = true ∧ ch_K P k = 5))
    · have e1 : ch_sc P oe (f + 1) i k = k := if_pos hc
      have e2 : ch_sc P oe (f + 1 + 1) i k = k := if_pos hc
      rw [e1, e2]
    · rw [ch_sc_n hc] at h
      rw [ch_sc_n hc, ch_sc_n hc]
      exact ih _ _ (by omega)
theorem ch_sc_st' {P : ch_P} (oe : Bool) : ∀ f i k, ch_sc P oe (f + 1) i k < k + f → ch_sc P oe f i k = ch_sc P oe (f + 1) i k := by
  intro f
  induction f with
  | zero =>
    intro i k h
    have := ch_sc_ge P oe (0 + 1) i k
    omega
  | succ f ih =>
    intro i k h
    by_cases hc : i = 0 ∧ (ch_K P k = 8 ∨ (oe = true ∧ ch_K P k = 5))
    · have e1 : ch_sc P oe (f + 1) i k = k := if_pos hc
      have e2 : ch_sc P oe (f + 1 + 1) i k = k := if_pos hc
      rw [e1, e2]
    · rw [ch_sc_n hc] at h
      rw [ch_sc_n hc, ch_sc_n hc]
      exact ih _ _ (by omega)
theorem ch_sc_tle (P : ch_P) : ∀ f i k, ch_sc P true f i k ≤ ch_sc P false f i k := by
  intro f
  induction f with
  | zero => intro i k; exact Nat.le_refl k
  | succ f ih =>
    intro i k
    by_cases hc : i = 0 ∧ (ch_K P k = 8 ∨ (true = true ∧ ch_K P k = 5))
    · have e1 : ch_sc P true (f + 1) i k = k := if_pos hc
      rw [e1]
      exact ch_sc_ge _ _ _ _ _
    · have hc2 : ¬ (i = 0 ∧ (ch_K P k = 8 ∨ (false = true ∧ ch_K P k = 5))) := fun z => hc ⟨z.1, z.2.elim Or.inl (fun y => absurd y.1 (by decide))⟩
      rw [ch_sc_n hc, ch_sc_n hc2]
      exact ih _ _
/-- the scan as it comes to a place where the block is open, whatever stood before -/
theorem ch_scan2 (P : ch_P) (oe : Bool) (b : Nat) : ∀ (q : Nat) (up : List (Nat × Nat)) (f : Nat) (low : List (Nat × Nat)), b < q → q ≤ ch_n P → ch_st P q = up ++ (b, f) :: low → ch_fd P oe b = ch_sc P oe (ch_n P - q) up.length q ∨ ch_fd P oe b < q := by
  intro q
  induction q with
  | zero => intro up f low h; omega
  | succ q ih =>
    intro up f low hb hq h
    have hK := (ch_suf P _ _ _ _ _ h).2.1
    by_cases hbq : b = q
    · subst hbq
      rw [ch_st_u hK] at h
      cases up with
      | nil => exact Or.inl rfl
      | cons u up =>
        injection h with h1 h2
        have := (ch_suf P _ _ _ _ _ h2).1
        omega
    · have hlt : b < q := by omega
      have ef : ch_n P - q = (ch_n P - (q + 1)) + 1 := by omega
      have step : ∀ (up2 : List (Nat × Nat)) (f2 : Nat), ch_st P q = up2 ++ (b, f2) :: low → ch_nx P q up2.length = up.length → (up2.length = 0 → ch_K P q = 8 → False) → ch_fd P oe b = ch_sc P oe (ch_n P - (q + 1)) up.length (q + 1) ∨ ch_fd P oe b < q + 1 := by
        intro up2 f2 h2 hnx h8
        rcases ih up2 f2 low hlt (by omega) h2 with z | z
        · rw [ef] at z
          by_cases hc : up2.length = 0 ∧ (ch_K P q = 8 ∨ (oe = true ∧ ch_K P q = 5))
          · have e1 : ch_sc P oe (ch_n P - (q + 1) + 1) up2.length q = q := if_pos hc
            exact Or.inr (by omega)
          · rw [ch_sc_n hc, hnx] at z
            exact Or.inl z
        · exact Or.inr (by omega)
      by_cases hu : ch_K P q = 4 ∨ ch_K P q = 6
      · rw [ch_st_u hu] at h
        cases up with
        | nil =>
          injection h with h1 h2
          injection h1 with h3 h4
          omega
        | cons u up =>
          injection h with h1 h2
          exact step up f h2 (ch_nx_u hu) (fun _ z => by omega)
      · by_cases h5 : ch_K P q = 5
        · rw [ch_st_5 h5] at h
          cases hs : ch_st P q with
          | nil =>
            rw [hs] at h
            exact absurd h (by cases up <;> exact fun z => nomatch z)
          | cons e t =>
            rw [hs] at h
            cases up with
            | nil =>
              injection h with h1 h2
              injection h1 with h3 h4
              exact step [] e.2 (by rw [hs, ← h2, ← h3]; rfl) (ch_nx_s (by omega) (by omega) (by omega)) (fun _ z => by omega)
            | cons u up =>
              injection h with h1 h2
              exact step (e :: up) f (by rw [hs, h2]; rfl) (ch_nx_s (by omega) (by omega) (by omega)) (fun _ z => by omega)
        · by_cases h8 : ch_K P q = 8
          · rw [ch_st_8 h8] at h
            cases hs : ch_st P q with
            | nil =>
              rw [hs] at h
              exact absurd h (by cases up <;> exact fun z => nomatch z)
            | cons e t =>
              rw [hs] at h
              exact step (e :: up) f (by rw [hs]; exact congrArg (List.cons e) h) (ch_nx_d h8) (fun z _ => nomatch z)
          · rw [ch_st_s (by omega) (by omega) h5 h8] at h
            exact step up f h (ch_nx_s (by omega) (by omega) h8) (fun _ z => h8 z)
section
variable {P : ch_P} {m b : Nat}
theorem ch_at_st (q : Nat) : ch_st (ch_at P m) q = ch_st P q := ch_st_cg q (fun _ _ => rfl)
theorem ch_fA (oe : Bool) : ch_fd (ch_at P (m + 1)) oe m = m + 1 := by
  show ch_sc (ch_at P (m + 1)) oe (m + 1 - (m + 1)) 0 (m + 1) = m + 1
  rw [Nat.sub_self]
  rfl
theorem ch_fB {oe : Bool} (hb : b < m) (h : ch_fd (ch_at P m) oe b < m) : ch_fd (ch_at P (m + 1)) oe b = ch_fd (ch_at P m) oe b := by
  have e : m - (b + 1) + 1 = m + 1 - (b + 1) := by omega
  have h1 := ch_sc_st (P := ch_at P m) oe (m - (b + 1)) 0 (b + 1) (by
    have e2 : b + 1 + (m - (b + 1)) = m := by omega
    rw [e2]
    exact h)
  rw [e] at h1
  refine Eq.trans ?_ h1
  exact ch_sc_cg oe _ _ _ (fun _ _ => rfl)
theorem ch_fC {oe : Bool} {up low : List (Nat × Nat)} {f : Nat} (hb : b < m) (hs : ch_st P m = up ++ (b, f) :: low) (h : ch_fd (ch_at P m) oe b = m) : ch_fd (ch_at P (m + 1)) oe b = if up.length = 0 ∧ (ch_K P m = 8 ∨ (oe = true ∧ ch_K P m = 5)) then m else m + 1 := by
  rcases ch_scan2 (ch_at P (m + 1)) oe b m up f low hb (Nat.le_succ m) (by rw [ch_at_st]; exact hs) with z | z
  · rw [z]
    show ch_sc (ch_at P (m + 1)) oe (m + 1 - m) up.length m = _
    rw [show m + 1 - m = 0 + 1 by omega]
    rfl
  · have e : m - (b + 1) + 1 = m + 1 - (b + 1) := by omega
    have e2 : b + 1 + (m - (b + 1)) = m := by omega
    have h1 := ch_sc_st' (P := ch_at P (m + 1)) oe (m - (b + 1)) 0 (b + 1) (by
      rw [e, e2]
      exact z)
    rw [e] at h1
    have h2 : ch_fd (ch_at P m) oe b = ch_fd (ch_at P (m + 1)) oe b := by
      refine Eq.trans ?_ h1
      exact ch_sc_cg oe _ _ _ (fun _ _ => rfl)
    omega
theorem ch_fE (hb : b < m) (h : ch_fd (ch_at P m) true b = m) : ch_fd (ch_at P m) false b = m := by
  have h1 : ch_fd (ch_at P m) true b ≤ ch_fd (ch_at P m) false b := ch_sc_tle _ _ _ _
  have h2 := ch_fd_le (P := ch_at P m) (oe := false) (b := b) hb
  have h3 : ch_n (ch_at P m) = m := rfl
  omega
end
theorem ch_oc2 (P : ch_P) (b : Nat) (hK : ch_K P b = 4 ∨ ch_K P b = 6) : ∀ m, b < m → (∃ up f low, ch_st P m = up ++ (b, f) :: low) ∨ ch_fd (ch_at P m) false b < m := by
  intro m
  induction m with
  | zero => intro h; omega
  | succ m ih =>
    intro hb
    by_cases hbm : b = m
    · subst hbm
      exact Or.inl ⟨[], 0, ch_st P b, by rw [ch_st_u hK]; rfl⟩
    · rcases ih (by omega) with ⟨up, f, low, hs⟩ | hc
      · by_cases hu : ch_K P m = 4 ∨ ch_K P m = 6
        · exact Or.inl ⟨(m, 0) :: up, f, low, by rw [ch_st_u hu, hs]; rfl⟩
        · by_cases h5 : ch_K P m = 5
          · rw [ch_st_5 h5, hs]
            cases up with
            | nil => exact Or.inl ⟨[], 1, low, rfl⟩
            | cons u up => exact Or.inl ⟨(u.1, 1) :: up, f, low, rfl⟩
          · by_cases h8 : ch_K P m = 8
            · cases up with
              | nil =>
                refine Or.inr ?_
                have e := ch_f1 (P := ch_at P (m + 1)) (q := m) (b := b) (f := f) (low := low) (Nat.lt_succ_self m) (by rw [ch_at_st]; exact hs) h8
                omega
              | cons u up => exact Or.inl ⟨up, f, low, by rw [ch_st_8 h8, hs]; rfl⟩
            · exact Or.inl ⟨up, f, low, by rw [ch_st_s (by omega) (by omega) h5 h8]; exact hs⟩
      · refine Or.inr ?_
        rw [ch_fB (by omega) hc]
        omega
theorem ch_fl1 (P : ch_P) : ∀ (m : Nat) (up : List (Nat × Nat)) (b : Nat) (low : List (Nat × Nat)), ch_st P m = up ++ (b, 1) :: low → ∃ q f, q < m ∧ ch_K P q = 5 ∧ ch_st P q = (b, f) :: low := by
  intro m
  induction m with
  | zero =>
    intro up b low h
    exact absurd h (by cases up <;> exact fun z => nomatch z)
  | succ m ih =>
    intro up b low h
    have lift : ∀ up2, ch_st P m = up2 ++ (b, 1) :: low → ∃ q f, q < m + 1 ∧ ch_K P q = 5 ∧ ch_st P q = (b, f) :: low := fun up2 h2 => by
      obtain ⟨q, f, h3, h4⟩ := ih up2 b low h2
      exact ⟨q, f, by omega, h4⟩
    by_cases hu : ch_K P m = 4 ∨ ch_K P m = 6
    · rw [ch_st_u hu] at h
      cases up with
      | nil =>
        injection h with h1 h2
        injection h1 with h3 h4
        omega
      | cons u up =>
        injection h with h1 h2
        exact lift up h2
    · by_cases h5 : ch_K P m = 5
      · rw [ch_st_5 h5] at h
        cases hs : ch_st P m with
        | nil =>
          rw [hs] at h
          exact absurd h (by cases up <;> exact fun z => nomatch z)
        | cons e t =>
          rw [hs] at h
          cases up with
          | nil =>
            injection h with h1 h2
            injection h1 with h3 h4
            exact ⟨m, e.2, Nat.lt_succ_self m, h5, by rw [hs, ← h3, ← h2]⟩
          | cons u up =>
            injection h with h1 h2
            exact lift (e :: up) (by rw [hs, h2]; rfl)
      · by_cases h8 : ch_K P m = 8
        · rw [ch_st_8 h8] at h
          cases hs : ch_st P m with
          | nil =>
            rw [hs] at h
            exact absurd h (by cases up <;> exact fun z => nomatch z)
          | cons e t =>
            rw [hs] at h
            exact lift (e :: up) (by rw [hs]; exact congrArg (List.cons e) h)
        · rw [ch_st_s (by omega) (by omega) h5 h8] at h
          exact lift up h
/-- the marks that entering a statement leaves -/
def ch_top (P : ch_P) (m b : Nat) : Prop := ∃ f t, ch_st P m = (b, f) :: t
def ch_mk2 (P : ch_P) (m : Nat) (el en el' en' : Nat → Int32) : Prop :=
  (∀ b, b < m → (ch_K P m = 5 ∧ ch_top P m b → el' b = nI m) ∧ (¬ (ch_K P m = 5 ∧ ch_top P m b) → el' b = el b)) ∧ (∀ b, b < m → (ch_K P m = 8 ∧ ch_top P m b → en' b = nI m) ∧ (¬ (ch_K P m = 8 ∧ ch_top P m b) → en' b = en b)) ∧ (ch_K P m = 4 → el' m = -1) ∧ ((ch_K P m = 4 ∨ ch_K P m = 6) → en' m = -1)
theorem ch_top_up {P : ch_P} {m b : Nat} {up low : List (Nat × Nat)} {f : Nat} (hs : ch_st P m = up ++ (b, f) :: low) (h : ch_top P m b) : up.length = 0 := by
  cases up with
  | nil => rfl
  | cons u up =>
    obtain ⟨f2, t, h2⟩ := h
    rw [h2] at hs
    injection hs with h3 h4
    have h5 := (ch_suf P m [] b f2 t h2).2.2
    have h6 := (ch_suf P b up b f low (by rw [h5]; exact h4)).1
    omega
theorem ch_EO_s {P : ch_P} {m : Nat} {el en el' en' : Nat → Int32} (hmay : ch_may P (ch_st P m) (ch_K P m)) (hE : ch_EO (ch_at P m) el en) (hm : ch_mk2 P m el en el' en') : ch_EO (ch_at P (m + 1)) el' en' := by
  intro b hb hK
  have hb1 : b < m + 1 := hb
  have hK1 : ch_K P b = 4 ∨ ch_K P b = 6 := hK
  have en1 : ch_n (ch_at P (m + 1)) = m + 1 := rfl
  have en0 : ch_n (ch_at P m) = m := rfl
  have eK : ∀ j, ch_K (ch_at P (m + 1)) j = ch_K P j := fun _ => rfl
  have eK0 : ∀ j, ch_K (ch_at P m) j = ch_K P j := fun _ => rfl
  rw [en1, eK]
  by_cases hbm : b = m
  · subst hbm
    rw [ch_fA, ch_fA, if_neg (Nat.lt_irrefl _), if_neg (fun z => Nat.lt_irrefl _ z.1)]
    exact ⟨hm.2.2.2 hK1, hm.2.2.1⟩
  · have hlt : b < m := by omega
    have hEb := hE b hlt hK1
    rw [en0, eK0] at hEb
    constructor
    · rcases ch_oc2 P b hK1 m hlt with ⟨up, f, low, hs⟩ | hc
      · have h3 : ch_fd (ch_at P m) false b = m := ch_f3 (P := ch_at P m) (up := up) (low := low) (f := f) (by rw [ch_at_st]; exact hs)
        have hC := ch_fC (oe := false) hlt hs h3
        have hEb1 := hEb.1
        rw [h3, if_neg (Nat.lt_irrefl _)] at hEb1
        by_cases h8 : ch_K P m = 8 ∧ ch_top P m b
        · rw [if_pos ⟨ch_top_up hs h8.2, Or.inl h8.1⟩] at hC
          rw [hC, if_pos (Nat.lt_succ_self m)]
          exact (hm.2.1 b hlt).1 h8
        · have hn : ¬ (up.length = 0 ∧ (ch_K P m = 8 ∨ (false = true ∧ ch_K P m = 5))) := by
            intro z
            rcases z.2 with y | y
            · refine h8 ⟨y, ?_⟩
              cases up with
              | nil => exact ⟨f, low, hs⟩
              | cons u up => exact absurd z.1 (fun x => nomatch x)
            · exact absurd y.1 (by decide)
          rw [if_neg hn] at hC
          rw [hC, if_neg (Nat.lt_irrefl _), (hm.2.1 b hlt).2 h8]
          exact hEb1
      · have h8 : ¬ (ch_K P m = 8 ∧ ch_top P m b) := fun z => by
          obtain ⟨f, t, hs⟩ := z.2
          have h3 : ch_fd (ch_at P m) false b = m := ch_f3 (P := ch_at P m) (up := []) (low := t) (f := f) (by rw [ch_at_st]; exact hs)
          omega
        have hEb1 := hEb.1
        rw [if_pos hc] at hEb1
        rw [(hm.2.1 b hlt).2 h8, ch_fB hlt hc, if_pos (by omega)]
        exact hEb1
    · intro h4
      have hEb2 := hEb.2 h4
      by_cases he : ch_fd (ch_at P m) true b < m
      · have h5 : ¬ (ch_K P m = 5 ∧ ch_top P m b) := fun z => by
          obtain ⟨b2, t2, hs2, _⟩ := hmay.2.1 z.1
          obtain ⟨f, t, hs⟩ := z.2
          rw [hs] at hs2
          injection hs2 with h6 h7
          injection h6 with h8 h9
          subst h9
          have h3 : ch_fd (ch_at P m) true b = m := ch_f3e (P := ch_at P m) (up := []) (low := t) (by rw [ch_at_st]; exact hs)
          omega
        rw [(hm.1 b hlt).2 h5, ch_fB hlt he, hEb2, eK0, eK]
        by_cases h55 : ch_K P (ch_fd (ch_at P m) true b) = 5
        · rw [if_pos ⟨he, h55⟩, if_pos ⟨by omega, h55⟩]
        · rw [if_neg (fun z => h55 z.2), if_neg (fun z => h55 z.2)]
      · have hle := ch_fd_le (P := ch_at P m) (oe := true) (b := b) hlt
        have hem : ch_fd (ch_at P m) true b = m := by omega
        have hfm := ch_fE hlt hem
        rcases ch_oc2 P b hK1 m hlt with ⟨up, f, low, hs⟩ | hc
        · have hC := ch_fC (oe := true) hlt hs hem
          rw [if_neg (fun z => he z.1)] at hEb2
          by_cases h5 : ch_K P m = 5 ∧ ch_top P m b
          · rw [if_pos ⟨ch_top_up hs h5.2, Or.inr ⟨rfl, h5.1⟩⟩] at hC
            rw [hC, eK, if_pos ⟨Nat.lt_succ_self m, h5.1⟩]
            exact (hm.1 b hlt).1 h5
          · rw [(hm.1 b hlt).2 h5, hEb2, if_neg]
            intro z
            rw [eK] at z
            by_cases hc : up.length = 0 ∧ (ch_K P m = 8 ∨ (true = true ∧ ch_K P m = 5))
            · rw [if_pos hc] at hC
              rw [hC] at z
              refine h5 ⟨z.2, ?_⟩
              cases up with
              | nil => exact ⟨f, low, hs⟩
              | cons u up => exact absurd hc.1 (fun x => nomatch x)
            · rw [if_neg hc] at hC
              omega
        · omega
end
section
/-! own rows: the component enters statements; drop, tune -/
theorem ch_st_mem {P : ch_P} {q : Nat} {e : Nat × Nat} (h : e ∈ ch_st P q) : e.1 < q ∧ (ch_K P e.1 = 4 ∨ ch_K P e.1 = 6) := by
  obtain ⟨s, t, hst⟩ := List.append_of_mem h
  have := ch_suf P q s e.1 e.2 t hst
  exact ⟨this.1, this.2.1⟩
theorem ch_OA_u {x : Int32} {k : Nat} {oa : Nat → Int32} : ∀ {l : List (Nat × Nat)}, ch_OA l oa → l.length ≤ k → ch_OA l (upd oa k x) := by
  intro l
  induction l with
  | nil => intro _ _; trivial
  | cons e l ih =>
    intro h hk
    have hk2 : l.length + 1 ≤ k := hk
    exact ⟨by rw [pk_un (by omega)]; exact h.1, ih h.2 (by omega)⟩
theorem ch_OA_mk {oa : Nat → Int32} {l : List (Nat × Nat)} (h : ch_OA l oa) : ch_OA (ch_mk l) oa := by
  cases l with
  | nil => exact h
  | cons e l => exact h
section
variable {f_height f_size f_opened f_level f_greatestOnly f_watched f_known : Int32} {a_lower a_upper a_low a_high a_weights a_visited a_weightHere a_visitedHere a_atEnd : Nat → Int64} {a_kind a_variable a_share a_openAt a_elseOf a_endOf a_blockAt a_rounds a_forced : Nat → Int32} {P : ch_P} {m : Nat}
theorem ch_xil7 {post : Int32 → Prop} (hkd : ∀ i, i < m → a_kind i = nI (ch_K P i)) (hm : m ≤ 24) : ∀ (l : List (Nat × Nat)), l.length ≤ 3 → (∀ e, e ∈ l → e.1 < m ∧ (ch_K P e.1 = 4 ∨ ch_K P e.1 = 6)) → ch_OA l a_openAt → ((∃ e, e ∈ l ∧ ch_K P e.1 = 6) → ∀ b, b < 24 → post (nI b)) → ((¬ ∃ e, e ∈ l ∧ ch_K P e.1 = 6) → post (-1)) → wX_innermostLoop_7 post f_height f_size f_opened f_level f_greatestOnly f_watched f_known a_lower a_upper a_kind a_variable a_share a_low a_high a_openAt a_elseOf a_endOf a_weights a_visited a_blockAt a_rounds a_forced a_weightHere a_visitedHere a_atEnd (l.length + 1) (nI l.length + (-1)) := by
  intro l
  induction l with
  | nil =>
    intro _ _ _ _ h0
    exact br_t (by decide) (h0 (fun ⟨e, he, _⟩ => by cases he))
  | cons e l ih =>
    intro hl hg hO h1 h0
    have hl3 : l.length + 1 ≤ 3 := hl
    have he := hg e List.mem_cons_self
    show wX_innermostLoop_7 post f_height f_size f_opened f_level f_greatestOnly f_watched f_known a_lower a_upper a_kind a_variable a_share a_low a_high a_openAt a_elseOf a_endOf a_weights a_visited a_blockAt a_rounds a_forced a_weightHere a_visitedHere a_atEnd (l.length + 1 + 1) (nI (l.length + 1) + (-1))
    rw [pk_m1]
    have hin : vp_in (nI l.length) 3 := vp_in_nI (by omega) (by decide)
    have hcl : (nI l.length).toNatClampNeg = l.length := nI_clamp (by omega)
    have hin2 : vp_in (nI e.1) 24 := vp_in_nI (by omega) (by decide)
    have hcl2 : (nI e.1).toNatClampNeg = e.1 := nI_clamp (by omega)
    have hoa : a_openAt l.length = nI e.1 := hO.1
    refine br_f (nI_pos (by omega)) (And.intro hin ?_)
    rw [hcl, hoa, hcl2, hkd e.1 he.1]
    refine And.intro hin2 ?_
    by_cases h6 : ch_K P e.1 = 6
    · rw [h6]
      exact br_t rfl (And.intro hin (h1 ⟨e, List.mem_cons_self, h6⟩ e.1 (by omega)))
    · have h4 : ch_K P e.1 = 4 := by
        rcases he.2 with z | z
        · exact z
        · exact absurd z h6
      rw [h4]
      refine br_f (by decide) (nm_e (ih (by omega) (fun a ha => hg a (List.mem_cons_of_mem e ha)) hO.2 (fun ⟨a, ha, h⟩ => h1 ⟨a, List.mem_cons_of_mem e ha, h⟩) (fun hn => h0 (fun ⟨a, ha, h⟩ => ?_))))
      cases ha with
      | head => exact h6 h
      | tail _ ha => exact hn ⟨a, ha, h⟩
theorem ch_xil {post : Int32 → Prop} (hkd : ∀ i, i < m → a_kind i = nI (ch_K P i)) (hm : m ≤ 24) (hl : (ch_st P m).length ≤ 3) (hO : ch_OA (ch_st P m) a_openAt) (h1 : (∃ e, e ∈ ch_st P m ∧ ch_K P e.1 = 6) → ∀ b, b < 24 → post (nI b)) (h0 : (¬ ∃ e, e ∈ ch_st P m ∧ ch_K P e.1 = 6) → post (-1)) : wpX_innermostLoop post (f_height, f_size, nI (ch_st P m).length, f_level, f_greatestOnly, f_watched, f_known, a_lower, a_upper, a_kind, a_variable, a_share, a_low, a_high, a_openAt, a_elseOf, a_endOf, a_weights, a_visited, a_blockAt, a_rounds, a_forced, a_weightHere, a_visitedHere, a_atEnd) := by
  refine nm_r (Int32.sub_eq_add_neg _ _) (Exists.intro ((ch_st P m).length + 1) ?_)
  exact ch_xil7 hkd hm _ hl (fun e he => ch_st_mem he) hO h1 h0
theorem ch_enter {post : SX → Prop} (hm : m < 24) (hkd : ∀ i, i ≤ m → a_kind i = nI (ch_K P i)) (hK8 : ch_K P m ≤ 8) (hl : (ch_st P m).length ≤ 3) (hmay : ch_may P (ch_st P m) (ch_K P m)) (hO : ch_OA (ch_st P m) a_openAt) (hE : ch_EO (ch_at P m) a_elseOf a_endOf)
    (h : ∀ oa el en : Nat → Int32, ch_OA (ch_st P (m + 1)) oa → ch_EO (ch_at P (m + 1)) el en → post (f_height, f_size, nI (ch_st P (m + 1)).length, f_level, f_greatestOnly, f_watched, f_known, a_lower, a_upper, a_kind, a_variable, a_share, a_low, a_high, oa, el, en, a_weights, a_visited, a_blockAt, a_rounds, a_forced, a_weightHere, a_visitedHere, a_atEnd)) : wpX_enter post (f_height, f_size, nI (ch_st P m).length, f_level, f_greatestOnly, f_watched, f_known, a_lower, a_upper, a_kind, a_variable, a_share, a_low, a_high, a_openAt, a_elseOf, a_endOf, a_weights, a_visited, a_blockAt, a_rounds, a_forced, a_weightHere, a_visitedHere, a_atEnd) (nI m) := by
  have hin : vp_in (nI m) 24 := vp_in_nI hm (by decide)
  have hcl : (nI m).toNatClampNeg = m := nI_clamp (by omega)
  have hkd0 : ∀ c, ch_K P m = c → a_kind (nI m).toNatClampNeg = nI c := fun c hc => by rw [hcl, hkd m (Nat.le_refl m), hc]
  refine And.intro hin (fun el1 e1 => And.intro hin (fun en1 e2 => And.intro hin ?_))
  rw [hcl] at e1 e2
  have hmk : ∀ el' en', (∀ b, b < m → (ch_K P m = 5 ∧ ch_top P m b → el' b = nI m) ∧ (¬ (ch_K P m = 5 ∧ ch_top P m b) → el' b = el1 b)) → (∀ b, b < m → (ch_K P m = 8 ∧ ch_top P m b → en' b = nI m) ∧ (¬ (ch_K P m = 8 ∧ ch_top P m b) → en' b = en1 b)) → (ch_K P m = 4 → el' m = el1 m) → ((ch_K P m = 4 ∨ ch_K P m = 6) → en' m = en1 m) → ch_EO (ch_at P (m + 1)) el' en' := by
    intro el' en' h1 h2 h3 h4
    refine ch_EO_s hmay hE ⟨fun b hb => ⟨(h1 b hb).1, fun z => ?_⟩, fun b hb => ⟨(h2 b hb).1, fun z => ?_⟩, fun z => ?_, fun z => ?_⟩
    · rw [(h1 b hb).2 z, e1, pk_un (by omega)]
    · rw [(h2 b hb).2 z, e2, pk_un (by omega)]
    · rw [h3 z, e1, pk_us]
    · rw [h4 z, e2, pk_us]
  by_cases hlt : ch_K P m < 4
  · have hEO := hmk el1 en1 (fun b hb => ⟨fun z => by omega, fun _ => rfl⟩) (fun b hb => ⟨fun z => by omega, fun _ => rfl⟩) (fun _ => rfl) (fun _ => rfl)
    have es := ch_st_s (P := P) (q := m) (by omega) (by omega) (by omega) (by omega)
    have h2 := h a_openAt el1 en1 (by rw [es]; exact hO) hEO
    rw [es] at h2
    exact nm_r (hkd0 _ rfl) (br_t (nI_lt (b := 4) hlt (by decide)) h2)
  · by_cases h46 : ch_K P m = 4 ∨ ch_K P m = 6
    · have hlen := hmay.1 h46
      have hin3 : vp_in (nI (ch_st P m).length) 3 := vp_in_nI hlen (by decide)
      have hcl3 : (nI (ch_st P m).length).toNatClampNeg = (ch_st P m).length := nI_clamp (by omega)
      have es := ch_st_u (P := P) (q := m) h46
      have hEO := hmk el1 en1 (fun b hb => ⟨fun z => by omega, fun _ => rfl⟩) (fun b hb => ⟨fun z => by omega, fun _ => rfl⟩) (fun _ => rfl) (fun _ => rfl)
      have h56 : wX_enter_56 post (nI m) f_height f_size (nI (ch_st P m).length) f_level f_greatestOnly f_watched f_known a_lower a_upper a_kind a_variable a_share a_low a_high a_openAt el1 en1 a_weights a_visited a_blockAt a_rounds a_forced a_weightHere a_visitedHere a_atEnd := by
        refine And.intro hin3 (fun oa eo => nm_r (nI_1 _) ?_)
        rw [hcl3] at eo
        have h2 := h oa el1 en1 (by rw [es, eo]; exact ⟨pk_us, ch_OA_u hO (Nat.le_refl _)⟩) hEO
        rw [es] at h2
        exact h2
      rcases h46 with h4 | h6
      · exact nm_r (hkd0 4 h4) (br_f (by decide) (br_f (by decide) (br_t rfl h56)))
      · exact nm_r (hkd0 6 h6) (br_f (by decide) (br_f (by decide) (br_f (by decide) (br_f (by decide) (br_t rfl h56)))))
    · by_cases h5 : ch_K P m = 5
      · obtain ⟨b, t, hs, h4⟩ := hmay.2.1 h5
        have es := ch_st_5 (P := P) (q := m) h5
        have hlen : (ch_st P m).length = t.length + 1 := by rw [hs]; rfl
        have hsuf := ch_suf P m [] b 0 t hs
        have hin3 : vp_in (nI t.length) 3 := vp_in_nI (by omega) (by decide)
        have hcl3 : (nI t.length).toNatClampNeg = t.length := nI_clamp (by omega)
        have hinb : vp_in (nI b) 24 := vp_in_nI (by omega) (by decide)
        have hclb : (nI b).toNatClampNeg = b := nI_clamp (by omega)
        have hoa : a_openAt t.length = nI b := by
          rw [hs] at hO
          exact hO.1
        refine nm_r (hkd0 5 h5) (br_f (by decide) (br_f (by decide) (br_f (by decide) (br_t rfl ?_))))
        rw [hlen, nI_pred, hcl3, hoa, hclb]
        refine And.intro hin3 (And.intro hinb (fun el2 e3 => ?_))
        have hEO := hmk el2 en1 (fun b2 hb2 => ⟨fun z => ?_, fun z => ?_⟩) (fun b hb => ⟨fun z => by omega, fun _ => rfl⟩) (fun z => by omega) (fun _ => rfl)
        · have h2 := h a_openAt el2 en1 (by rw [es]; exact ch_OA_mk hO) hEO
          rw [es, ch_mk_len, hlen] at h2
          exact h2
        · obtain ⟨f2, t2, hs2⟩ := z.2
          rw [hs] at hs2
          injection hs2 with h6 h7
          injection h6 with h8 h9
          rw [e3, ← h8, pk_us]
        · have hne : b2 ≠ b := fun y => z ⟨h5, 0, t, by rw [y]; exact hs⟩
          rw [e3, pk_un hne]
      · by_cases h7 : ch_K P m = 7
        · have es := ch_st_s (P := P) (q := m) (by omega) (by omega) (by omega) (by omega)
          have hgo : ∀ r, ∀ el2, el2 = upd el1 (nI m).toNatClampNeg r → post (f_height, f_size, nI (ch_st P m).length, f_level, f_greatestOnly, f_watched, f_known, a_lower, a_upper, a_kind, a_variable, a_share, a_low, a_high, a_openAt, el2, en1, a_weights, a_visited, a_blockAt, a_rounds, a_forced, a_weightHere, a_visitedHere, a_atEnd) := by
            intro r el2 e3
            rw [hcl] at e3
            have hEO := hmk el2 en1 (fun b hb => ⟨fun z => by omega, fun _ => by rw [e3, pk_un (by omega)]⟩) (fun b hb => ⟨fun z => by omega, fun _ => rfl⟩) (fun z => by omega) (fun _ => rfl)
            have h2 := h a_openAt el2 en1 (by rw [es]; exact hO) hEO
            rw [es] at h2
            exact h2
          refine nm_r (hkd0 7 h7) (br_f (by decide) (br_f (by decide) (br_f (by decide) (br_f (by decide) (br_f (by decide) (br_t rfl ?_))))))
          exact ch_xil (fun i hi => hkd i (by omega)) (by omega) hl hO (fun _ b _ => And.intro hin (hgo (nI b))) (fun _ => And.intro hin (hgo (-1)))
        · have h8 : ch_K P m = 8 := by omega
          have es := ch_st_8 (P := P) (q := m) h8
          cases hs : ch_st P m with
          | nil => exact absurd hs (hmay.2.2.2 h8)
          | cons e t =>
            have hsuf := ch_suf P m [] e.1 e.2 t hs
            rw [hs] at es hO hl
            have hl3 : t.length + 1 ≤ 3 := hl
            have hin3 : vp_in (nI t.length) 3 := vp_in_nI (by omega) (by decide)
            have hcl3 : (nI t.length).toNatClampNeg = t.length := nI_clamp (by omega)
            have hinb : vp_in (nI e.1) 24 := vp_in_nI (by omega) (by decide)
            have hclb : (nI e.1).toNatClampNeg = e.1 := nI_clamp (by omega)
            refine nm_r (hkd0 8 h8) (br_f (by decide) (br_f (by decide) (br_f (by decide) (br_f (by decide) (br_f (by decide) (br_f (by decide) (br_t rfl (nm_r (nI_pred t.length) ?_))))))))
            rw [hcl3, hO.1, hclb]
            refine And.intro hin3 (And.intro hinb (fun en2 e3 => ?_))
            have hEO := hmk el1 en2 (fun b hb => ⟨fun z => by omega, fun _ => rfl⟩) (fun b2 hb2 => ⟨fun z => ?_, fun z => ?_⟩) (fun _ => rfl) (fun z => by omega)
            · have h2 := h a_openAt el1 en2 (by rw [es]; exact hO.2) hEO
              rw [es] at h2
              exact h2
            · obtain ⟨f2, t2, hs2⟩ := z.2
              rw [hs] at hs2
              injection hs2 with h6 h7
              have h9 : e.1 = b2 := by rw [h6]
              rw [e3, ← h9, pk_us]
            · have hne : b2 ≠ e.1 := fun y => z ⟨h8, e.2, t, by rw [y]; exact hs⟩
              rw [e3, pk_un hne]
theorem ch_xdr26 {post : Int32 → SX → Prop} (w : ch_wf P) (hx : ch_xp P (nI (ch_n P)) a_kind a_variable a_share a_low a_high)
    (h : ∀ (f_opened : Int32) (a_openAt a_elseOf a_endOf : Nat → Int32), ch_op3 P f_opened a_openAt a_elseOf a_endOf → post (nI (ch_n P)) (f_height, nI (ch_n P), f_opened, f_level, f_greatestOnly, f_watched, 0, a_lower, a_upper, a_kind, a_variable, a_share, a_low, a_high, a_openAt, a_elseOf, a_endOf, a_weights, a_visited, a_blockAt, a_rounds, a_forced, a_weightHere, a_visitedHere, a_atEnd)) :
    ∀ (d q : Nat) (oa el en : Nat → Int32), q + d = ch_n P → ch_OA (ch_st P q) oa → ch_EO (ch_at P q) el en → wX_drop_26 post (d + 1) (nI q) f_height (nI (ch_n P)) (nI (ch_st P q).length) f_level f_greatestOnly f_watched f_known a_lower a_upper a_kind a_variable a_share a_low a_high oa el en a_weights a_visited a_blockAt a_rounds a_forced a_weightHere a_visitedHere a_atEnd := by
  have hn := w.1
  intro d
  induction d with
  | zero =>
    intro q oa el en hq hO hE
    have e : q = ch_n P := by omega
    subst e
    exact br_t (nI_le (Nat.le_refl _) (by omega)) (h _ _ _ _ ⟨rfl, hO, hE⟩)
  | succ d ih =>
    intro q oa el en hq hO hE
    have hqn : q < ch_n P := by omega
    have hw := w.2 q hqn
    refine br_f (nI_ge hqn (by omega)) (ch_enter (by omega) (fun i hi => (hx.2 i (by omega)).1) hw.1.1 (ch_st_len w q (by omega)) hw.2 hO hE (fun oa' el' en' hO' hE' => nm_r (nI_1 q) ?_))
    exact ih (q + 1) oa' el' en' (by omega) hO' hE'
end
theorem ch_wf_at {P : ch_P} (w : ch_wf P) {m : Nat} (hm : m ≤ ch_n P) : ch_wf (ch_at P m) := by
  refine ⟨Nat.le_trans hm w.1, fun q hq => ?_⟩
  have h := w.2 q (Nat.lt_of_lt_of_le hq hm)
  refine ⟨h.1, ?_⟩
  rw [ch_at_st]
  exact h.2
theorem i_vc_drop {k : Nat} {u : SX} {v : SY} (I : i_Rel k u v) (hk : k + 5 ≤ 2560) : wpX_drop (fun r u' => wpY_drop (fun r' v' => r' = r ∧ i_Rel (k + 5) u' v') v) u := by
  refine ch_el (Q := fun u v => wpX_drop (fun r u' => wpY_drop (fun r' v' => r' = r ∧ i_Rel (k + 5) u' v') v) u) ?_ I
  intro f_height f_size f_opened f_level f_greatestOnly f_watched f_known a_lower a_upper a_kind a_variable a_share a_low a_high a_openAt a_elseOf a_endOf a_weights a_visited a_blockAt a_rounds a_forced a_weightHere a_visitedHere a_atEnd yf_height yf_count yf_open yf_at yf_depth yf_state yf_steps yf_product yf_end yf_most yf_mostRow yf_mostSteps ya_stack ya_kinds ya_variables ya_numbers ya_values ya_opened ya_begins ya_left ya_outcomes ya_met ya_sums ya_visited P ht hR
  have hR0 := hR
  obtain ⟨w, hht, hh, hyh, hx, hy, hst, hop, hk1⟩ := hR
  have hn := w.1
  have hs := hx.1
  have hc := hy.1
  subst hs hc
  by_cases h0 : ch_n P = 0
  · have hz : nI (ch_n P) = 0 := by rw [h0]; rfl
    exact br_t hz (br_t hz ⟨rfl, ch_inR hR0⟩)
  · obtain ⟨m, hm⟩ : ∃ m, ch_n P = m + 1 := ⟨ch_n P - 1, by omega⟩
    have hne : ¬ nI (ch_n P) = 0 := nI_ne0 (by omega) (by omega)
    have epred : nI (ch_n P) - 1 = nI m := by rw [hm, nI_pred]
    have w' := ch_wf_at w (m := m) (by omega)
    have hx' : ch_xp (ch_at P m) (nI m) a_kind a_variable a_share a_low a_high := ⟨rfl, fun i hi => hx.2 i (by have : i < m := hi; omega)⟩
    have hy' : ch_yp (ch_at P m) (nI m) ya_kinds ya_variables ya_numbers ya_values := ⟨rfl, fun i hi => hy.2 i (by have : i < m := hi; omega)⟩
    refine br_f hne (nm_r epred (Exists.intro (m + 1) ?_))
    refine ch_xdr26 (P := ch_at P m) w' hx' (fun o2 oa el en h3 => ?_) m 0 a_openAt a_elseOf a_endOf (by show 0 + m = m; omega) trivial (fun b hb => absurd hb (Nat.not_lt_zero b))
    exact br_f hne (nm_r epred ⟨rfl, ch_inR ⟨w', hht, hh, hyh, hx', hy', hst, h3, fun z => absurd rfl z⟩⟩)
theorem i_vc_tune {k : Nat} {u : SX} {v : SY} (I : i_Rel k u v) (hk : k + 5 ≤ 2560) (v1 : Int32) (v2 : Int32) : wpX_tune (fun r u' => wpY_tune (fun r' v' => r' = r ∧ i_Rel (k + 5) u' v') v v1 v2) u v1 v2 := by
  refine ch_el (Q := fun u v => wpX_tune (fun r u' => wpY_tune (fun r' v' => r' = r ∧ i_Rel (k + 5) u' v') v v1 v2) u v1 v2) ?_ I
  intro f_height f_size f_opened f_level f_greatestOnly f_watched f_known a_lower a_upper a_kind a_variable a_share a_low a_high a_openAt a_elseOf a_endOf a_weights a_visited a_blockAt a_rounds a_forced a_weightHere a_visitedHere a_atEnd yf_height yf_count yf_open yf_at yf_depth yf_state yf_steps yf_product yf_end yf_most yf_mostRow yf_mostSteps ya_stack ya_kinds ya_variables ya_numbers ya_values ya_opened ya_begins ya_left ya_outcomes ya_met ya_sums ya_visited P ht hR
  have hR0 := hR
  obtain ⟨w, hht, hh, hyh, hx, hy, hst, hop, hk1⟩ := hR
  have hn := w.1
  have hs := hx.1
  have hc := hy.1
  subst hs hc
  unfold wpX_tune
  unfold wpY_tune
  rcases pk_ix v1 (n := ch_n P) (by omega) with h0 | h1 | ⟨i, hi, rfl⟩
  · exact br_t h0 (br_t h0 ⟨rfl, ch_inR hR0⟩)
  · have h2 : ¬ v1 < 0 := fun z => absurd (Int32.lt_of_lt_of_le z (nI_pos' (n := ch_n P) (by omega))) (Int32.not_lt.mpr h1)
    exact br_f h2 (br_t h1 (br_f h2 (br_t h1 ⟨rfl, ch_inR hR0⟩)))
  · have hp : ¬ nI i < 0 := nI_pos (by omega)
    have hl : ¬ nI (ch_n P) ≤ nI i := nI_ge hi (by omega)
    have hin : vp_in (nI i) 24 := vp_in_nI (by omega) (by decide)
    have hcl : (nI i).toNatClampNeg = i := nI_clamp (by omega)
    have hK8 := (w.2 i hi).1.1
    have hkx : ∀ c, ch_K P i = c → a_kind (nI i).toNatClampNeg = nI c := fun c hc => by rw [hcl, (hx.2 i hi).1, hc]
    have hky : ∀ c, ch_K P i = c → ya_kinds (nI i).toNatClampNeg = nI c := fun c hc => by rw [hcl, (hy.2 i hi).1, hc]
    have hnx : ∀ c, c ≤ 8 → ch_K P i ≠ c → ¬ a_kind (nI i).toNatClampNeg = nI c := fun c hc hne => by rw [hcl, (hx.2 i hi).1]; exact ch_kn hK8 hc hne
    have hny : ∀ c, c ≤ 8 → ch_K P i ≠ c → ¬ ya_kinds (nI i).toNatClampNeg = nI c := fun c hc hne => by rw [hcl, (hy.2 i hi).1]; exact ch_kn hK8 hc hne
    refine br_f hp (br_f hl (And.intro hin ?_))
    by_cases h1 : ch_K P i = 1
    · refine br_t (hkx 1 h1) ?_
      by_cases hb : v2 < 0 ∨ 16 < v2
      · exact ch_b0' hb (br_f hp (br_f hl (And.intro hin (br_t (hky 1 h1) (ch_b0' hb ⟨rfl, ch_inR hR0⟩)))))
      · obtain ⟨p, hp16, rfl⟩ := nI_of2 (x := v2) (M := 16) (n := 16) (by decide) (fun z => hb (Or.inl z)) (Int32.not_lt.mp (fun z => hb (Or.inr z)))
        refine ch_b1' (c := 16) hp16 (by decide) (And.intro hin (fun x3 e3 => And.intro hin (fun sh2 es => ?_)))
        refine br_f hp (br_f hl (And.intro hin (br_t (hky 1 h1) (ch_b1' (c := 16) hp16 (by decide) (And.intro hin (fun y3 f3 => And.intro hin (fun nu2 en => ?_)))))))
        rw [hcl] at es e3 en f3
        refine ⟨?_, ?_⟩
        · rw [e3, f3, (hx.2 i hi).2.2.1 (Or.inl h1), (hy.2 i hi).2.2.1 (Or.inl h1)]
        · let P' : ch_P := (ch_n P, ch_K P, ch_V P, ch_u (ch_S P) i p, ch_E P)
          have w' : ch_wf P' := by
            refine ⟨hn, fun q hq => ?_⟩
            have hwq := w.2 q hq
            have est : ch_st P' q = ch_st P q := ch_st_cg q (fun _ _ => rfl)
            rw [est]
            refine ⟨⟨hwq.1.1, hwq.1.2.1, fun z => ?_, fun z => ?_, hwq.1.2.2.2.2⟩, hwq.2⟩
            · show ch_u (ch_S P) i p q ≤ 16
              by_cases hqi : q = i
              · rw [hqi, ch_us]; exact hp16
              · rw [ch_un hqi]; exact hwq.1.2.2.1 z
            · show 1 ≤ ch_u (ch_S P) i p q ∧ ch_u (ch_S P) i p q ≤ 3
              have hz : ch_K P q = 6 := z
              have hqi : q ≠ i := fun y => by rw [y] at hz; omega
              rw [ch_un hqi]
              exact hwq.1.2.2.2.1 hz
          have hsh : ∀ (arr arr2 : Nat → Int32), (∀ q, q < ch_n P → (ch_K P q = 1 ∨ ch_K P q = 6) → arr q = nI (ch_S P q)) → arr2 = upd arr i (nI p) → ∀ q, q < ch_n P → (ch_K P q = 1 ∨ ch_K P q = 6) → arr2 q = nI (ch_u (ch_S P) i p q) := by
            intro arr arr2 ha e2 q hq hz
            rw [e2]
            by_cases hqi : q = i
            · rw [hqi, pk_us, ch_us]
            · rw [pk_un hqi, ch_un hqi]; exact ha q hq hz
          have hx' : ch_xp P' (nI (ch_n P)) a_kind a_variable sh2 a_low a_high := ⟨rfl, fun q hq => ⟨(hx.2 q hq).1, (hx.2 q hq).2.1, hsh a_share sh2 (fun q hq => (hx.2 q hq).2.2.1) es q hq, (hx.2 q hq).2.2.2⟩⟩
          have hy' : ch_yp P' (nI (ch_n P)) ya_kinds ya_variables nu2 ya_values := ⟨rfl, fun q hq => ⟨(hy.2 q hq).1, (hy.2 q hq).2.1, hsh ya_numbers nu2 (fun q hq => (hy.2 q hq).2.2.1) en q hq, (hy.2 q hq).2.2.2⟩⟩
          have est : ch_st P' (ch_n P) = ch_st P (ch_n P) := ch_st_cg _ (fun _ _ => rfl)
          have hop' : ch_op3 P' f_opened a_openAt a_elseOf a_endOf := by
            refine ⟨?_, ?_, fun b hb hK => ?_⟩
            · show f_opened = nI (ch_st P' (ch_n P)).length
              rw [est]; exact hop.1
            · show ch_OA (ch_st P' (ch_n P)) a_openAt
              rw [est]; exact hop.2.1
            · have h3 := hop.2.2 b hb hK
              rw [ch_fd_cg (P := P') (P' := P) rfl hb (fun _ _ => rfl), ch_fd_cg (P := P') (P' := P) rfl hb (fun _ _ => rfl)]
              exact h3
          exact ch_inR (P := P') ⟨w', hht, hh, hyh, hx', hy', hst, hop', fun z => absurd rfl z⟩
    · exact br_f (hnx 1 (by decide) h1) (br_f hp (br_f hl (And.intro hin (br_f (hny 1 (by decide) h1) ⟨rfl, ch_inR hR0⟩))))
end
section
/-! own rows: putting a statement -/
def ch_oc3 (P : ch_P) (e : Nat × Nat) : Nat := if ch_K P e.1 = 6 then 3 else if e.2 = 0 then 1 else 2
def ch_OY (P : ch_P) : List (Nat × Nat) → (Nat → Int32) → Prop
  | [], _ => True
  | e :: l, op => op l.length = nI (ch_oc3 P e) ∧ ch_OY P l op
theorem ch_OY_u {P : ch_P} {x : Int32} {k : Nat} {op : Nat → Int32} : ∀ {l : List (Nat × Nat)}, ch_OY P l op → l.length ≤ k → ch_OY P l (upd op k x) := by
  intro l
  induction l with
  | nil => intro _ _; trivial
  | cons e l ih =>
    intro h hk
    have hk2 : l.length + 1 ≤ k := hk
    exact ⟨by rw [pk_un (by omega)]; exact h.1, ih h.2 (by omega)⟩
theorem ch_oc3_3 {P : ch_P} {e : Nat × Nat} : ch_oc3 P e = 3 ↔ ch_K P e.1 = 6 := by
  unfold ch_oc3
  by_cases h6 : ch_K P e.1 = 6
  · rw [if_pos h6]; exact ⟨fun _ => h6, fun _ => rfl⟩
  · rw [if_neg h6]
    refine ⟨fun z => ?_, fun z => absurd z h6⟩
    split at z <;> exact nomatch z
theorem ch_oc3_le {P : ch_P} (e : Nat × Nat) : ch_oc3 P e ≤ 3 := by
  unfold ch_oc3
  split
  · decide
  · split <;> decide
theorem ch_OY_ex {P : ch_P} {op : Nat → Int32} : ∀ {l : List (Nat × Nat)}, ch_OY P l op → ((∃ k, k < l.length ∧ op k = nI 3) ↔ ∃ e, e ∈ l ∧ ch_K P e.1 = 6) := by
  intro l
  induction l with
  | nil =>
    intro _
    exact ⟨fun ⟨k, hk, _⟩ => absurd hk (Nat.not_lt_zero k), fun ⟨e, he, _⟩ => by cases he⟩
  | cons e l ih =>
    intro h
    have hle := ch_oc3_le (P := P) e
    refine ⟨fun ⟨k, hk, hk3⟩ => ?_, fun ⟨a, ha, h6⟩ => ?_⟩
    · by_cases hkl : k = l.length
      · rw [hkl, h.1] at hk3
        exact ⟨e, List.mem_cons_self, ch_oc3_3.mp ((nI_eq (by omega) (by decide)).mp hk3)⟩
      · have hk2 : k < l.length + 1 := hk
        obtain ⟨a, ha, h6⟩ := (ih h.2).mp ⟨k, by omega, hk3⟩
        exact ⟨a, List.mem_cons_of_mem e ha, h6⟩
    · cases ha with
      | head => exact ⟨l.length, Nat.lt_succ_self _, by rw [h.1, ch_oc3_3.mpr h6]⟩
      | tail _ ha =>
        obtain ⟨k, hk, hk3⟩ := (ih h.2).mpr ⟨a, ha, h6⟩
        exact ⟨k, Nat.lt_succ_of_lt hk, hk3⟩
section
variable {f_height f_count f_open f_at f_depth f_state f_steps f_product f_end f_most f_mostRow f_mostSteps : Int32} {a_stack a_kinds a_variables a_numbers a_values a_opened a_begins a_left a_outcomes a_met a_sums : Nat → Int32} {a_visited : Nat → Int64} {P : ch_P}
theorem ch_y70 {post : SY → Prop} {J : Int32 → Int32 → (Nat → Int32) → (Nat → Int32) → (Nat → Int32) → (Nat → Int32) → (Nat → Int32) → (Nat → Int32) → (Nat → Int32) → (Nat → Int32) → (Nat → Int32) → (Nat → Int32) → (Nat → Int32) → (Nat → Int64) → Prop} {q d : Nat} (hy : ch_yp P f_count a_kinds a_variables a_numbers a_values) (hq : q < ch_n P) (hn : ch_n P ≤ 24) (hK8 : ch_K P q ≤ 8) (h5 : ch_K P q ≠ 5) (h8 : ch_K P q ≠ 8)
    (h : J (nI (q + 1)) (nI d) a_stack a_kinds a_variables a_numbers a_values a_opened a_begins a_left a_outcomes a_met a_sums a_visited) : wY_findOpen_70 post J (nI q) f_height f_count (nI d) f_at f_depth f_state f_steps f_product f_end f_most f_mostRow f_mostSteps a_stack a_kinds a_variables a_numbers a_values a_opened a_begins a_left a_outcomes a_met a_sums a_visited := by
  have hin : vp_in (nI q) 24 := vp_in_nI (by omega) (by decide)
  have hcl : (nI q).toNatClampNeg = q := nI_clamp (by omega)
  have hnk : ∀ c, c ≤ 8 → ch_K P q ≠ c → ¬ a_kinds (nI q).toNatClampNeg = nI c := fun c hc hne => by rw [hcl, (hy.2 q hq).1]; exact ch_kn hK8 hc hne
  exact And.intro hin (br_f (hnk 5 (by decide) h5) (And.intro hin (br_f (hnk 8 (by decide) h8) (nm_r (nI_1 q) h))))
theorem ch_yfo7 {post : SY → Prop} (hy : ch_yp P f_count a_kinds a_variables a_numbers a_values) (w : ch_wf P) (h : ∀ op : Nat → Int32, ch_OY P (ch_st P (ch_n P)) op → post (f_height, f_count, nI (ch_st P (ch_n P)).length, f_at, f_depth, f_state, f_steps, f_product, f_end, f_most, f_mostRow, f_mostSteps, a_stack, a_kinds, a_variables, a_numbers, a_values, op, a_begins, a_left, a_outcomes, a_met, a_sums, a_visited)) :
    ∀ (d q : Nat) (op : Nat → Int32), q + d = ch_n P → ch_OY P (ch_st P q) op → wY_findOpen_7 post f_height f_count f_at f_depth f_state f_steps f_product f_end f_most f_mostRow f_mostSteps (d + 1) (nI q) (nI (ch_st P q).length) a_stack a_kinds a_variables a_numbers a_values op a_begins a_left a_outcomes a_met a_sums a_visited := by
  have hn := w.1
  intro d
  induction d with
  | zero =>
    intro q op hq hO
    have e : q = ch_n P := by omega
    subst e
    exact br_t (by rw [hy.1]; exact nI_le (Nat.le_refl _) (by omega)) (h op hO)
  | succ d ih =>
    intro q op hq hO
    have hqn : q < ch_n P := by omega
    have hw := w.2 q hqn
    have hK8 := hw.1.1
    have hl3 := ch_st_len w q (by omega)
    have hin : vp_in (nI q) 24 := vp_in_nI (by omega) (by decide)
    have hcl : (nI q).toNatClampNeg = q := nI_clamp (by omega)
    have hkd : ∀ c, ch_K P q = c → a_kinds (nI q).toNatClampNeg = nI c := fun c hc => by rw [hcl, (hy.2 q hqn).1, hc]
    have hnk : ∀ c, c ≤ 8 → ch_K P q ≠ c → ¬ a_kinds (nI q).toNatClampNeg = nI c := fun c hc hne => by rw [hcl, (hy.2 q hqn).1]; exact ch_kn hK8 hc hne
    refine br_f (by rw [hy.1]; exact nI_ge hqn (by omega)) (And.intro hin ?_)
    by_cases h46 : ch_K P q = 4 ∨ ch_K P q = 6
    · have hlen := hw.2.1 h46
      have hin3 : vp_in (nI (ch_st P q).length) 3 := vp_in_nI hlen (by decide)
      have hcl3 : (nI (ch_st P q).length).toNatClampNeg = (ch_st P q).length := nI_clamp (by omega)
      have es := ch_st_u (P := P) (q := q) h46
      have hgo : ∀ c, c = ch_oc3 P (q, 0) → wY_findOpen_59 post (wY_findOpen_7 post f_height f_count f_at f_depth f_state f_steps f_product f_end f_most f_mostRow f_mostSteps (d + 1)) (nI q) (nI c) (nI (ch_st P q).length) f_height f_count (nI (ch_st P q).length) f_at f_depth f_state f_steps f_product f_end f_most f_mostRow f_mostSteps a_stack a_kinds a_variables a_numbers a_values op a_begins a_left a_outcomes a_met a_sums a_visited := by
        intro c hc
        refine And.intro hin3 (fun op' eo => nm_r (nI_1 _) (ch_y70 hy hqn hn hK8 (by omega) (by omega) ?_))
        rw [hcl3] at eo
        have h2 := ih (q + 1) op' (by omega) (by rw [es, eo]; exact ⟨by rw [pk_us, hc], ch_OY_u hO (Nat.le_refl _)⟩)
        rw [es] at h2
        exact h2
      rcases h46 with h4 | h6
      · refine br_t (hkd 4 h4) (And.intro hin (br_t (hkd 4 h4) (hgo 1 ?_)))
        have h6 : ¬ ch_K P (q, 0).1 = 6 := by show ¬ ch_K P q = 6; omega
        unfold ch_oc3
        rw [if_neg h6]
        rfl
      · exact br_f (hnk 4 (by decide) (by omega)) (And.intro hin (br_t (hkd 6 h6) (And.intro hin (br_f (hnk 4 (by decide) (by omega)) (hgo 3 (ch_oc3_3.mpr h6).symm)))))
    · refine br_f (hnk 4 (by decide) (by omega)) (And.intro hin (br_f (hnk 6 (by decide) (by omega)) ?_))
      by_cases h5 : ch_K P q = 5
      · obtain ⟨b, t, hs, h4⟩ := hw.2.2.1 h5
        have es := ch_st_5 (P := P) (q := q) h5
        rw [hs] at es hO hl3
        have hl4 : t.length + 1 ≤ 3 := hl3
        have hin3 : vp_in (nI t.length) 3 := vp_in_nI (by omega) (by decide)
        have hcl3 : (nI t.length).toNatClampNeg = t.length := nI_clamp (by omega)
        rw [hs]
        refine And.intro hin (br_t (hkd 5 h5) (br_f (nI_nle (Nat.succ_pos _) (show t.length + 1 < 2 ^ 31 by omega)) ?_))
        show vp_in (nI (t.length + 1) - 1) 3 ∧ _
        have ep : nI ((b, 0) :: t).length - 1 = nI t.length := nI_pred t.length
        rw [ep, nI_pred, hcl3]
        refine And.intro hin3 (fun op' eo => And.intro hin (br_f (hnk 8 (by decide) (by omega)) (nm_r (nI_1 q) ?_)))
        have h2 := ih (q + 1) op' (by omega) (by
          rw [es, eo]
          refine ⟨?_, ch_OY_u hO.2 (Nat.le_refl _)⟩
          rw [pk_us]
          have h6 : ¬ ch_K P (b, 1).1 = 6 := by show ¬ ch_K P b = 6; omega
          have h1 : ¬ (b, 1).2 = 0 := by show ¬ 1 = 0; omega
          show (2 : Int32) = nI (ch_oc3 P (b, 1))
          unfold ch_oc3
          rw [if_neg h6, if_neg h1]
          rfl)
        rw [es] at h2
        exact h2
      · by_cases h8 : ch_K P q = 8
        · have es := ch_st_8 (P := P) (q := q) h8
          cases hs : ch_st P q with
          | nil => exact absurd hs (hw.2.2.2.2 h8)
          | cons e t =>
            rw [hs] at es hO
            refine And.intro hin (br_f (hnk 5 (by decide) h5) (And.intro hin (br_t (hkd 8 h8) (nm_r (nI_pred t.length) (nm_r (nI_1 q) ?_)))))
            have h2 := ih (q + 1) op (by omega) (by rw [es]; exact hO.2)
            rw [es] at h2
            exact h2
        · have es := ch_st_s (P := P) (q := q) (by omega) (by omega) h5 h8
          have h2 := ih (q + 1) op (by omega) (by rw [es]; exact hO)
          rw [es] at h2
          exact ch_y70 hy hqn hn hK8 h5 h8 h2
theorem ch_yil4 {post : Int32 → Prop} {N : Nat} (hN : N ≤ 3) (h1 : (∃ k, k < N ∧ a_opened k = nI 3) → post 1) (h0 : (¬ ∃ k, k < N ∧ a_opened k = nI 3) → post 0) :
    ∀ (d c : Nat), c + d = N → ((¬ ∃ k, k < c ∧ a_opened k = nI 3) → wY_inLoop_4 post f_height f_count (nI N) f_at f_depth f_state f_steps f_product f_end f_most f_mostRow f_mostSteps a_stack a_kinds a_variables a_numbers a_values a_opened a_begins a_left a_outcomes a_met a_sums a_visited (d + 1) 0 (nI c)) ∧ ((∃ k, k < c ∧ a_opened k = nI 3) → wY_inLoop_4 post f_height f_count (nI N) f_at f_depth f_state f_steps f_product f_end f_most f_mostRow f_mostSteps a_stack a_kinds a_variables a_numbers a_values a_opened a_begins a_left a_outcomes a_met a_sums a_visited (d + 1) 1 (nI c)) := by
  intro d
  induction d with
  | zero =>
    intro c hc
    have e : c = N := by omega
    subst e
    exact ⟨fun hn => br_t (nI_le (Nat.le_refl _) (by omega)) (And.intro rfl (h0 hn)), fun he => br_t (nI_le (Nat.le_refl _) (by omega)) (And.intro rfl (h1 he))⟩
  | succ d ih =>
    intro c hc
    have hin : vp_in (nI c) 3 := vp_in_nI (by omega) (by decide)
    have hcl : (nI c).toNatClampNeg = c := nI_clamp (by omega)
    have hi := ih (c + 1) (by omega)
    refine ⟨fun hn => br_f (nI_ge (by omega) (by omega)) (br_t rfl (And.intro hin ?_)), fun ⟨k, hk, h3⟩ => br_f (nI_ge (by omega) (by omega)) (br_f (by decide) (nm_r (nI_1 c) (hi.2 ⟨k, by omega, h3⟩)))⟩
    rw [hcl]
    by_cases h3 : a_opened c = nI 3
    · exact br_t h3 (nm_r (nI_1 c) (hi.2 ⟨c, by omega, h3⟩))
    · refine br_f h3 (nm_r (nI_1 c) (hi.1 (fun ⟨k, hk, hk3⟩ => ?_)))
      by_cases hkc : k = c
      · exact h3 (hkc ▸ hk3)
      · exact hn ⟨k, by omega, hk3⟩
theorem ch_yinl {post : Int32 → Prop} {N : Nat} (hN : N ≤ 3) (h1 : (∃ k, k < N ∧ a_opened k = nI 3) → post 1) (h0 : (¬ ∃ k, k < N ∧ a_opened k = nI 3) → post 0) : wpY_inLoop post (f_height, f_count, nI N, f_at, f_depth, f_state, f_steps, f_product, f_end, f_most, f_mostRow, f_mostSteps, a_stack, a_kinds, a_variables, a_numbers, a_values, a_opened, a_begins, a_left, a_outcomes, a_met, a_sums, a_visited) :=
  Exists.intro (N + 1) ((ch_yil4 hN h1 h0 N 0 (by omega)).1 (fun ⟨k, hk, _⟩ => by omega))
theorem ch_ymis {post : Int32 → SY → Prop} {c : Nat} (hc : c ≤ 8) (hy : ch_yp P f_count a_kinds a_variables a_numbers a_values) (w : ch_wf P)
    (h1 : ch_may P (ch_st P (ch_n P)) c → ∀ (f_open : Int32) (a_opened : Nat → Int32), post 0 (f_height, f_count, f_open, f_at, f_depth, f_state, f_steps, f_product, f_end, f_most, f_mostRow, f_mostSteps, a_stack, a_kinds, a_variables, a_numbers, a_values, a_opened, a_begins, a_left, a_outcomes, a_met, a_sums, a_visited)) (h0 : ¬ ch_may P (ch_st P (ch_n P)) c → ∀ (f_open : Int32) (a_opened : Nat → Int32), post 1 (f_height, f_count, f_open, f_at, f_depth, f_state, f_steps, f_product, f_end, f_most, f_mostRow, f_mostSteps, a_stack, a_kinds, a_variables, a_numbers, a_values, a_opened, a_begins, a_left, a_outcomes, a_met, a_sums, a_visited)) : wpY_isMisplaced post (f_height, f_count, f_open, f_at, f_depth, f_state, f_steps, f_product, f_end, f_most, f_mostRow, f_mostSteps, a_stack, a_kinds, a_variables, a_numbers, a_values, a_opened, a_begins, a_left, a_outcomes, a_met, a_sums, a_visited) (nI c) := by
  have hn := w.1
  have hl3 := ch_st_len w (ch_n P) (Nat.le_refl _)
  unfold wpY_isMisplaced
  refine Exists.intro (ch_n P + 1) (ch_yfo7 hy w (fun op hO => ?_) (ch_n P) 0 a_opened (by omega) trivial)
  have h46 : (c = 4 ∨ c = 6) → wY_isMisplaced_15 post f_height f_count (nI (ch_st P (ch_n P)).length) f_at f_depth f_state f_steps f_product f_end f_most f_mostRow f_mostSteps a_stack a_kinds a_variables a_numbers a_values op a_begins a_left a_outcomes a_met a_sums a_visited := fun z => by
    by_cases h3 : (ch_st P (ch_n P)).length = 3
    · refine br_t (by rw [h3]; rfl) (h0 (fun y => ?_) _ _)
      have := y.1 z
      omega
    · exact br_f (fun y => h3 ((nI_eq (b := 3) (by omega) (by decide)).mp y)) (h1 ⟨fun _ => by omega, fun y => by omega, fun y => by omega, fun y => by omega⟩ _ _)
  by_cases h4 : c = 4
  · exact br_t (by rw [h4]; rfl) (h46 (Or.inl h4))
  · refine br_f (ch_kn hc (c := 4) (by decide) h4) ?_
    by_cases h6 : c = 6
    · exact br_t (by rw [h6]; rfl) (h46 (Or.inr h6))
    · refine br_f (ch_kn hc (c := 6) (by decide) h6) ?_
      by_cases h5 : c = 5
      · refine br_t (by rw [h5]; rfl) ?_
        cases hs : ch_st P (ch_n P) with
        | nil =>
          refine br_t rfl (h0 (fun y => ?_) _ _)
          obtain ⟨b, t, hb, _⟩ := y.2.1 h5
          rw [hs] at hb
          cases hb
        | cons e t =>
          rw [hs] at hl3 hO
          have hl4 : t.length + 1 ≤ 3 := hl3
          have hin3 : vp_in (nI t.length) 3 := vp_in_nI (by omega) (by decide)
          have hcl3 : (nI t.length).toNatClampNeg = t.length := nI_clamp (by omega)
          have hsm := ch_st_mem (P := P) (q := ch_n P) (e := e) (by rw [hs]; exact List.mem_cons_self)
          refine br_f (nI_ne0 (Nat.succ_pos _) (show t.length + 1 < 2 ^ 31 by omega)) ?_
          show vp_in (nI (t.length + 1) - 1) 3 ∧ _
          have ep : nI (e :: t).length - 1 = nI t.length := nI_pred t.length
          rw [ep, nI_pred, hcl3, hO.1]
          refine And.intro hin3 ?_
          have hle := ch_oc3_le (P := P) e
          by_cases hz : ch_K P e.1 = 4 ∧ e.2 = 0
          · have e1 : ch_oc3 P e = 1 := by
              unfold ch_oc3
              rw [if_neg (by omega), if_pos hz.2]
            refine br_t (by rw [e1]; rfl) (h1 ⟨fun y => by omega, fun _ => ⟨e.1, t, by rw [hs, ← hz.2], hz.1⟩, fun y => by omega, fun y => by omega⟩ _ _)
          · refine br_f (fun y => ?_) (h0 (fun y => ?_) _ _)
            · have e1 : ch_oc3 P e = 1 := (nI_eq (b := 1) (by omega) (by decide)).mp y
              unfold ch_oc3 at e1
              by_cases h66 : ch_K P e.1 = 6
              · rw [if_pos h66] at e1
                exact nomatch e1
              · rw [if_neg h66] at e1
                by_cases he2 : e.2 = 0
                · exact hz ⟨by omega, he2⟩
                · rw [if_neg he2] at e1
                  exact nomatch e1
            · obtain ⟨b, t2, hb, hb4⟩ := y.2.1 h5
              rw [hs] at hb
              injection hb with hb1 hb2
              rw [hb1] at hz
              exact hz ⟨hb4, rfl⟩
      · refine br_f (ch_kn hc (c := 5) (by decide) h5) ?_
        by_cases h7 : c = 7
        · refine br_t (by rw [h7]; rfl) ?_
          have hex := ch_OY_ex hO
          exact ch_yinl hl3 (fun hk => br_f (by decide) (h1 ⟨fun y => by omega, fun y => by omega, fun _ => hex.mp hk, fun y => by omega⟩ _ _)) (fun hk => br_t rfl (h0 (fun y => hk (hex.mpr (y.2.2.1 h7))) _ _))
        · refine br_f (ch_kn hc (c := 7) (by decide) h7) ?_
          by_cases h8 : c = 8
          · refine br_t (by rw [h8]; rfl) ?_
            cases hs : ch_st P (ch_n P) with
            | nil => exact br_t rfl (h0 (fun y => y.2.2.2 h8 hs) _ _)
            | cons e t =>
              rw [hs] at hl3
              have hl4 : t.length + 1 ≤ 3 := hl3
              exact br_f (nI_ne0 (Nat.succ_pos _) (show t.length + 1 < 2 ^ 31 by omega)) (h1 ⟨fun y => by omega, fun y => by omega, fun y => by omega, fun _ => by rw [hs]; exact fun z => nomatch z⟩ _ _)
          · exact br_f (ch_kn hc (c := 8) (by decide) h8) (h1 ⟨fun y => by omega, fun y => by omega, fun y => by omega, fun y => by omega⟩ _ _)
end
section
variable {f_height f_size f_opened f_level f_greatestOnly f_watched f_known : Int32} {a_lower a_upper a_low a_high a_weights a_visited a_weightHere a_visitedHere a_atEnd : Nat → Int64} {a_kind a_variable a_share a_openAt a_elseOf a_endOf a_blockAt a_rounds a_forced : Nat → Int32} {P : ch_P}
theorem ch_xmay {post : Int32 → Prop} {c : Nat} (hc : c ≤ 8) (w : ch_wf P) (hx : ch_xp P f_size a_kind a_variable a_share a_low a_high) (hop : ch_op3 P f_opened a_openAt a_elseOf a_endOf) (h1 : ch_may P (ch_st P (ch_n P)) c → post 1) (h0 : ¬ ch_may P (ch_st P (ch_n P)) c → post 0) : wpX_mayStand post (f_height, f_size, f_opened, f_level, f_greatestOnly, f_watched, f_known, a_lower, a_upper, a_kind, a_variable, a_share, a_low, a_high, a_openAt, a_elseOf, a_endOf, a_weights, a_visited, a_blockAt, a_rounds, a_forced, a_weightHere, a_visitedHere, a_atEnd) (nI c) := by
  have hn := w.1
  have hl3 := ch_st_len w (ch_n P) (Nat.le_refl _)
  obtain ⟨hopn, hO, hE⟩ := hop
  subst hopn
  by_cases hlt : c < 4
  · exact br_t (nI_lt (b := 4) hlt (by decide)) (h1 ⟨fun y => by omega, fun y => by omega, fun y => by omega, fun y => by omega⟩)
  · refine br_f (nI_nlt (b := 4) (by omega) (by omega)) (br_f (nI_nlt (a := 8) hc (by decide)) ?_)
    have h46 : (c = 4 ∨ c = 6) → wX_mayStand_36 post f_height f_size (nI (ch_st P (ch_n P)).length) f_level f_greatestOnly f_watched f_known a_lower a_upper a_kind a_variable a_share a_low a_high a_openAt a_elseOf a_endOf a_weights a_visited a_blockAt a_rounds a_forced a_weightHere a_visitedHere a_atEnd := fun z => by
      by_cases h3 : (ch_st P (ch_n P)).length < 3
      · exact br_f (nI_ge (b := 3) h3 (by decide)) (h1 ⟨fun _ => h3, fun y => by omega, fun y => by omega, fun y => by omega⟩)
      · exact br_t (nI_le (a := 3) (by omega) (by omega)) (h0 (fun y => h3 (y.1 z)))
    by_cases h4 : c = 4
    · exact br_t (by rw [h4]; rfl) (h46 (Or.inl h4))
    · refine br_f (ch_kn hc (c := 4) (by decide) h4) ?_
      by_cases h5 : c = 5
      · refine br_t (by rw [h5]; rfl) ?_
        cases hs : ch_st P (ch_n P) with
        | nil =>
          refine br_t (by decide) (h0 (fun y => ?_))
          obtain ⟨b, t, hb, _⟩ := y.2.1 h5
          rw [hs] at hb
          cases hb
        | cons e t =>
          have hsuf := ch_suf P (ch_n P) [] e.1 e.2 t hs
          rw [hs] at hl3 hO
          have hl4 : t.length + 1 ≤ 3 := hl3
          have hin3 : vp_in (nI t.length) 3 := vp_in_nI (by omega) (by decide)
          have hcl3 : (nI t.length).toNatClampNeg = t.length := nI_clamp (by omega)
          have hinb : vp_in (nI e.1) 24 := vp_in_nI (by omega) (by decide)
          have hclb : (nI e.1).toNatClampNeg = e.1 := nI_clamp (by omega)
          have hoa : a_openAt t.length = nI e.1 := hO.1
          refine br_f (nI_nle (Nat.succ_pos _) (show t.length + 1 < 2 ^ 31 by omega)) ?_
          show vp_in (nI (t.length + 1) - 1) 3 ∧ _
          have ep : nI (e :: t).length - 1 = nI t.length := nI_pred t.length
          rw [ep, nI_pred, hcl3, hoa, hclb, (hx.2 e.1 hsuf.1).1]
          refine And.intro hin3 (And.intro hinb ?_)
          by_cases hb4 : ch_K P e.1 = 4
          · have hel := (hE e.1 hsuf.1 (Or.inl hb4)).2 hb4
            rw [hb4, hel]
            refine br_t rfl (And.intro hin3 (And.intro hinb ?_))
            by_cases he2 : e.2 = 0
            · have hs0 : ch_st P (ch_n P) = [] ++ (e.1, 0) :: t := by rw [hs, ← he2]; rfl
              have hft := ch_f3e hs0
              rw [if_neg (fun z => by omega)]
              exact br_f (by decide) (h1 ⟨fun y => by omega, fun _ => ⟨e.1, t, hs0, hb4⟩, fun y => by omega, fun y => by omega⟩)
            · have hno : ¬ ch_may P (ch_st P (ch_n P)) c := fun y => by
                obtain ⟨b, t2, hb, _⟩ := y.2.1 h5
                rw [hs] at hb
                injection hb with hb1 hb2
                rw [hb1] at he2
                exact he2 rfl
              -- the flag is 1: an ELSE has been
              have hfl : e.2 = 1 := by
                have hflag : ∀ q, q ≤ ch_n P → ∀ a, a ∈ ch_st P q → a.2 = 0 ∨ a.2 = 1 := by
                  intro q
                  induction q with
                  | zero => intro _ a ha; cases ha
                  | succ q ih =>
                    intro hq a ha
                    by_cases hu : ch_K P q = 4 ∨ ch_K P q = 6
                    · rw [ch_st_u hu] at ha
                      cases ha with
                      | head => exact Or.inl rfl
                      | tail _ ha => exact ih (by omega) a ha
                    · by_cases hq5 : ch_K P q = 5
                      · rw [ch_st_5 hq5] at ha
                        cases hsq : ch_st P q with
                        | nil => rw [hsq] at ha; cases ha
                        | cons e2 t2 =>
                          rw [hsq] at ha
                          cases ha with
                          | head => exact Or.inr rfl
                          | tail _ ha => exact ih (by omega) a (by rw [hsq]; exact List.mem_cons_of_mem e2 ha)
                      · by_cases hq8 : ch_K P q = 8
                        · rw [ch_st_8 hq8] at ha
                          exact ih (by omega) a (List.mem_of_mem_tail ha)
                        · rw [ch_st_s (by omega) (by omega) hq5 hq8] at ha
                          exact ih (by omega) a ha
                rcases hflag (ch_n P) (Nat.le_refl _) e (by rw [hs]; exact List.mem_cons_self) with z | z
                · exact absurd z he2
                · exact z
              obtain ⟨q, f, hq, hq5, hsq⟩ := ch_fl1 P (ch_n P) [] e.1 t (by rw [hs, ← hfl]; rfl)
              obtain ⟨b, t2, hb, _⟩ := (w.2 q hq).2.2.1 hq5
              have hf0 : f = 0 := by
                rw [hsq] at hb
                injection hb with hb1 hb2
                injection hb1
              subst hf0
              have hft := ch_f1e hq hsq (Or.inr hq5)
              rw [hft, if_pos ⟨hq, hq5⟩]
              exact br_t (nI_pos' (by omega)) (h0 hno)
          · have hb6 : ch_K P e.1 = 6 := by
              rcases hsuf.2.1 with z | z
              · exact absurd z hb4
              · exact z
            rw [hb6]
            refine br_f (by decide) (h0 (fun y => ?_))
            obtain ⟨b, t2, hb, hbb⟩ := y.2.1 h5
            rw [hs] at hb
            injection hb with hb1 hb2
            rw [hb1] at hb4
            exact hb4 hbb
      · refine br_f (ch_kn hc (c := 5) (by decide) h5) ?_
        by_cases h6 : c = 6
        · exact br_t (by rw [h6]; rfl) (h46 (Or.inr h6))
        · refine br_f (ch_kn hc (c := 6) (by decide) h6) ?_
          by_cases h7 : c = 7
          · refine br_t (by rw [h7]; rfl) (ch_xil (fun i hi => (hx.2 i hi).1) hn hl3 hO (fun hk b hb => br_f (nI_pos (by omega)) (h1 ⟨fun y => by omega, fun y => by omega, fun _ => hk, fun y => by omega⟩)) (fun hk => br_t ch_m1lt (h0 (fun y => hk (y.2.2.1 h7)))))
          · have h8 : c = 8 := by omega
            refine br_f (ch_kn hc (c := 7) (by decide) h7) (br_t (by rw [h8]; rfl) ?_)
            cases hs : ch_st P (ch_n P) with
            | nil => exact br_t (by decide) (h0 (fun y => y.2.2.2 h8 hs))
            | cons e t =>
              rw [hs] at hl3
              have hl4 : t.length + 1 ≤ 3 := hl3
              exact br_f (nI_nle (Nat.succ_pos _) (show t.length + 1 < 2 ^ 31 by omega)) (h1 ⟨fun y => by omega, fun y => by omega, fun y => by omega, fun _ => by rw [hs]; exact fun z => nomatch z⟩)
end
end
section
/-! own rows: putting a statement, on both sides -/
def ch_tv (c a p : Nat) (p1 p2 : Int32) : Prop := c ≤ 8 ∧ (c ≤ 2 → a < 3 ∧ p1 = nI a) ∧ (c = 1 → p ≤ 16 ∧ p2 = nI p) ∧ (c = 6 → 1 ≤ p ∧ p ≤ 3 ∧ p2 = nI p)
def ch_tb (p0 p1 p2 : Int32) : Prop := (p0 < 0 ∨ 8 < p0) ∨ ∃ c, c ≤ 8 ∧ p0 = nI c ∧ ((c ≤ 2 ∧ (p1 < 0 ∨ 2 < p1)) ∨ (c = 1 ∧ (∃ a, a < 3 ∧ p1 = nI a) ∧ (p2 < 0 ∨ 16 < p2)) ∨ (c = 6 ∧ (p2 < 1 ∨ 3 < p2)))
theorem ch_tgob (p0 p1 p2 : Int32) : (∃ c a p, ch_tv c a p p1 p2 ∧ p0 = nI c) ∨ ch_tb p0 p1 p2 := by
  by_cases h : p0 < 0
  · exact Or.inr (Or.inl (Or.inl h))
  · by_cases h8 : 8 < p0
    · exact Or.inr (Or.inl (Or.inr h8))
    · obtain ⟨c, hc, rfl⟩ := nI_of2 (M := 8) (n := 8) (by decide) h (Int32.not_lt.mp h8)
      have hbig : (∃ a, c ≤ 2 → a < 3 ∧ p1 = nI a) ∨ (c ≤ 2 ∧ (p1 < 0 ∨ 2 < p1)) := by
        by_cases hc2 : c ≤ 2
        · rcases ch_isv p1 with ⟨a, ha, e⟩ | hb
          · exact Or.inl ⟨a, fun _ => ⟨ha, e⟩⟩
          · exact Or.inr ⟨hc2, hb⟩
        · exact Or.inl ⟨0, fun z => absurd z hc2⟩
      rcases hbig with ⟨a, ha⟩ | hb
      · by_cases h1 : c = 1
        · by_cases hb : p2 < 0 ∨ 16 < p2
          · exact Or.inr (Or.inr ⟨c, hc, rfl, Or.inr (Or.inl ⟨h1, ⟨a, ha (by omega)⟩, hb⟩)⟩)
          · obtain ⟨p, hp, e⟩ := nI_of2 (x := p2) (M := 16) (n := 16) (by decide) (fun z => hb (Or.inl z)) (Int32.not_lt.mp (fun z => hb (Or.inr z)))
            exact Or.inl ⟨c, a, p, ⟨hc, ha, fun _ => ⟨hp, e⟩, fun z => by omega⟩, rfl⟩
        · by_cases h6 : c = 6
          · by_cases hb : p2 < 1 ∨ 3 < p2
            · exact Or.inr (Or.inr ⟨c, hc, rfl, Or.inr (Or.inr ⟨h6, hb⟩)⟩)
            · have hb1 : ¬ p2 < 1 := fun z => hb (Or.inl z)
              have hb0 : ¬ p2 < 0 := fun z => hb1 (Int32.lt_trans z (by decide))
              obtain ⟨p, hp, e⟩ := nI_of2 (x := p2) (M := 3) (n := 3) (by decide) hb0 (Int32.not_lt.mp (fun z => hb (Or.inr z)))
              have hp1 : 1 ≤ p := by
                rw [e] at hb1
                exact Nat.le_of_not_lt (fun z => hb1 (nI_lt (b := 1) z (by decide)))
              exact Or.inl ⟨c, a, p, ⟨hc, ha, fun z => absurd z h1, fun _ => ⟨hp1, hp, e⟩⟩, rfl⟩
          · exact Or.inl ⟨c, a, 0, ⟨hc, ha, fun z => absurd z h1, fun z => absurd z h6⟩, rfl⟩
      · exact Or.inr (Or.inr ⟨c, hc, rfl, Or.inl hb⟩)
theorem ch_b06 {p : Int32} {A B : Prop} (h : p < 1 ∨ 3 < p) (a : A) : (p < 1 → A) ∧ (¬ p < 1 → ((3 < p → A) ∧ (¬ 3 < p → B))) := by
  by_cases h0 : p < 1
  · exact br_t h0 a
  · exact br_f h0 (br_t (h.resolve_left h0) a)
theorem ch_b06' {p : Int32} {A B : Prop} (h : p < 1 ∨ 3 < p) (a : A) : (p < 1 → A) ∧ (¬ p < 1 → ((p ≤ 3 → B) ∧ (¬ p ≤ 3 → A))) := by
  by_cases h0 : p < 1
  · exact br_t h0 a
  · exact br_f h0 (br_f (Int32.not_le.mpr (h.resolve_left h0)) a)
theorem ch_b16 {p : Nat} {A B : Prop} (h1 : 1 ≤ p) (h3 : p ≤ 3) (b : B) : (nI p < 1 → A) ∧ (¬ nI p < 1 → ((3 < nI p → A) ∧ (¬ 3 < nI p → B))) :=
  br_f (nI_nlt (a := p) (b := 1) h1 (by omega)) (br_f (nI_nlt (a := 3) (b := p) h3 (by decide)) b)
theorem ch_b16' {p : Nat} {A B : Prop} (h1 : 1 ≤ p) (h3 : p ≤ 3) (b : B) : (nI p < 1 → A) ∧ (¬ nI p < 1 → ((nI p ≤ 3 → B) ∧ (¬ nI p ≤ 3 → A))) :=
  br_f (nI_nlt (a := p) (b := 1) h1 (by omega)) (br_t (nI_le (b := 3) h3 (by decide)) b)
theorem ch_fit25 {post : Int32 → Prop} {c a p : Nat} {p1 p2 : Int32} (hv : ch_tv c a p p1 p2) (h : post 1) : wX_fits_25 post (nI c) p2 := by
  by_cases h1 : c = 1
  · obtain ⟨hp, rfl⟩ := hv.2.2.1 h1
    exact br_t (by rw [h1]; rfl) (ch_b1 (c := 16) hp (by decide) h)
  · refine br_f (ch_kn hv.1 (c := 1) (by decide) h1) ?_
    by_cases h6 : c = 6
    · obtain ⟨hp1, hp3, rfl⟩ := hv.2.2.2 h6
      exact br_t (by rw [h6]; rfl) (ch_b16 hp1 hp3 h)
    · exact br_f (ch_kn hv.1 (c := 6) (by decide) h6) h
theorem ch_fit1 {post : Int32 → Prop} {c a p : Nat} {p1 p2 : Int32} (hv : ch_tv c a p p1 p2) (h : post 1) : wpX_fits post (nI c) p1 p2 := by
  have h25 := ch_fit25 hv h
  have h14 : c ≤ 2 → wX_fits_14 post (nI c) p1 p2 := fun hc => by
    obtain ⟨ha, rfl⟩ := hv.2.1 hc
    exact ch_b1' (c := 2) (by omega) (by decide) h25
  by_cases h0 : c = 0
  · exact br_t (by rw [h0]; rfl) (h14 (by omega))
  · refine br_f (ch_kn hv.1 (c := 0) (by decide) h0) ?_
    by_cases h1 : c = 1
    · exact br_t (by rw [h1]; rfl) (h14 (by omega))
    · refine br_f (ch_kn hv.1 (c := 1) (by decide) h1) ?_
      by_cases h2 : c = 2
      · exact br_t (by rw [h2]; rfl) (h14 (by omega))
      · exact br_f (ch_kn hv.1 (c := 2) (by decide) h2) h25
theorem ch_fit0 {post : Int32 → Prop} {c : Nat} {p1 p2 : Int32} (hc : c ≤ 8) (hb : (c ≤ 2 ∧ (p1 < 0 ∨ 2 < p1)) ∨ (c = 1 ∧ (∃ a, a < 3 ∧ p1 = nI a) ∧ (p2 < 0 ∨ 16 < p2)) ∨ (c = 6 ∧ (p2 < 1 ∨ 3 < p2))) (h : post 0) : wpX_fits post (nI c) p1 p2 := by
  rcases hb with ⟨hc2, hb⟩ | ⟨h1, ⟨a, ha, rfl⟩, hb⟩ | ⟨h6, hb⟩
  · have h14 : wX_fits_14 post (nI c) p1 p2 := ch_b0' hb h
    by_cases h0 : c = 0
    · exact br_t (by rw [h0]; rfl) h14
    · refine br_f (ch_kn hc (c := 0) (by decide) h0) ?_
      by_cases h1 : c = 1
      · exact br_t (by rw [h1]; rfl) h14
      · exact br_f (ch_kn hc (c := 1) (by decide) h1) (br_t (by rw [show c = 2 by omega]; rfl) h14)
  · subst h1
    exact br_f (by decide) (br_t rfl (ch_b1' (c := 2) (by omega) (by decide) (br_t rfl (ch_b0 hb h))))
  · subst h6
    exact br_f (by decide) (br_f (by decide) (br_f (by decide) (br_f (by decide) (br_t rfl (ch_b06 hb h)))))
def ch_te (c : Nat) : Bool := decide (c = 0 ∨ c = 3 ∨ c = 4)
theorem ch_xte {post : Int32 → Prop} {c : Nat} (hc : c ≤ 8) (h : post (ch_gg (ch_te c))) : wpX_takesExpression post (nI c) := by
  by_cases h0 : c = 0
  · subst h0; exact br_t rfl h
  · refine br_f (ch_kn hc (c := 0) (by decide) h0) ?_
    by_cases h3 : c = 3
    · subst h3; exact br_t rfl h
    · refine br_f (ch_kn hc (c := 3) (by decide) h3) ?_
      by_cases h4 : c = 4
      · subst h4; exact br_t rfl h
      · have e : ch_te c = false := decide_eq_false (fun z => by omega)
        rw [e] at h
        exact br_f (ch_kn hc (c := 4) (by decide) h4) h
section
variable {f_height f_size f_opened f_level f_greatestOnly f_watched f_known : Int32} {a_lower a_upper a_low a_high a_weights a_visited a_weightHere a_visitedHere a_atEnd : Nat → Int64} {a_kind a_variable a_share a_openAt a_elseOf a_endOf a_blockAt a_rounds a_forced : Nat → Int32} {P : ch_P}
theorem ch_xptb {post : Int32 → SX → Prop} {p0 p1 p2 : Int32} (hb : ch_tb p0 p1 p2) (h : post (-1) (f_height, f_size, f_opened, f_level, f_greatestOnly, f_watched, f_known, a_lower, a_upper, a_kind, a_variable, a_share, a_low, a_high, a_openAt, a_elseOf, a_endOf, a_weights, a_visited, a_blockAt, a_rounds, a_forced, a_weightHere, a_visitedHere, a_atEnd)) : wpX_put post (f_height, f_size, f_opened, f_level, f_greatestOnly, f_watched, f_known, a_lower, a_upper, a_kind, a_variable, a_share, a_low, a_high, a_openAt, a_elseOf, a_endOf, a_weights, a_visited, a_blockAt, a_rounds, a_forced, a_weightHere, a_visitedHere, a_atEnd) p0 p1 p2 := by
  rcases hb with hb | ⟨c, hc, rfl, hb⟩
  · exact ch_b0' hb h
  · exact ch_b1' (c := 8) hc (by decide) (ch_fit0 hc hb (br_t rfl h))
theorem ch_xpt {post : Int32 → SX → Prop} {c a p ht : Nat} {p1 p2 : Int32} (hv : ch_tv c a p p1 p2) (hn : ch_n P ≤ 24) (hht : ht ≤ 6)
    (h2 : ch_n P = 24 → post (-2) (nI ht, nI (ch_n P), f_opened, f_level, f_greatestOnly, f_watched, f_known, a_lower, a_upper, a_kind, a_variable, a_share, a_low, a_high, a_openAt, a_elseOf, a_endOf, a_weights, a_visited, a_blockAt, a_rounds, a_forced, a_weightHere, a_visitedHere, a_atEnd)) (h3 : ch_n P < 24 → ch_te c = true → ht = 0 → post (-3) (nI ht, nI (ch_n P), f_opened, f_level, f_greatestOnly, f_watched, f_known, a_lower, a_upper, a_kind, a_variable, a_share, a_low, a_high, a_openAt, a_elseOf, a_endOf, a_weights, a_visited, a_blockAt, a_rounds, a_forced, a_weightHere, a_visitedHere, a_atEnd)) (h60 : ch_n P < 24 → (ch_te c = true → 0 < ht) → wX_put_60 post (nI c) p1 p2 (ch_gg (ch_te c)) (nI ht) (nI (ch_n P)) f_opened f_level f_greatestOnly f_watched f_known a_lower a_upper a_kind a_variable a_share a_low a_high a_openAt a_elseOf a_endOf a_weights a_visited a_blockAt a_rounds a_forced a_weightHere a_visitedHere a_atEnd) : wpX_put post (nI ht, nI (ch_n P), f_opened, f_level, f_greatestOnly, f_watched, f_known, a_lower, a_upper, a_kind, a_variable, a_share, a_low, a_high, a_openAt, a_elseOf, a_endOf, a_weights, a_visited, a_blockAt, a_rounds, a_forced, a_weightHere, a_visitedHere, a_atEnd) (nI c) p1 p2 := by
  refine ch_b1' (c := 8) hv.1 (by decide) (ch_fit1 hv (br_f (by decide) ?_))
  by_cases h24 : ch_n P < 24
  · refine br_t (nI_lt (b := 24) h24 (by decide)) (ch_xte hv.1 ?_)
    cases hte : ch_te c with
    | false =>
      have h := h60 h24 (fun z => by rw [hte] at z; cases z)
      rw [hte] at h
      exact br_t rfl h
    | true =>
      refine br_f (by decide) ?_
      by_cases h0 : ht = 0
      · exact br_t (by rw [h0]; rfl) (h3 h24 hte h0)
      · have h := h60 h24 (fun _ => by omega)
        rw [hte] at h
        exact br_f (nI_ne0 (by omega) (by omega)) h
  · exact br_f (nI_nlt (b := 24) (by omega) (by omega)) (h2 (by omega))
end
section
variable {f_height f_count f_open f_at f_depth f_state f_steps f_product f_end f_most f_mostRow f_mostSteps : Int32} {a_stack a_kinds a_variables a_numbers a_values a_opened a_begins a_left a_outcomes a_met a_sums : Nat → Int32} {a_visited : Nat → Int64} {P : ch_P}
theorem ch_ypt14 {post : Int32 → SY → Prop} {p0 p1 p2 : Int32} (h0 : ¬ (¬ p0 < 0 ∧ ¬ 2 < p0) → wY_put_14 post p0 p1 p2 0 f_height f_count f_open f_at f_depth f_state f_steps f_product f_end f_most f_mostRow f_mostSteps a_stack a_kinds a_variables a_numbers a_values a_opened a_begins a_left a_outcomes a_met a_sums a_visited) (h1 : ¬ p0 < 0 → ¬ 2 < p0 → wY_put_14 post p0 p1 p2 1 f_height f_count f_open f_at f_depth f_state f_steps f_product f_end f_most f_mostRow f_mostSteps a_stack a_kinds a_variables a_numbers a_values a_opened a_begins a_left a_outcomes a_met a_sums a_visited) : wpY_put post (f_height, f_count, f_open, f_at, f_depth, f_state, f_steps, f_product, f_end, f_most, f_mostRow, f_mostSteps, a_stack, a_kinds, a_variables, a_numbers, a_values, a_opened, a_begins, a_left, a_outcomes, a_met, a_sums, a_visited) p0 p1 p2 := by
  by_cases h : p0 < 0
  · exact br_t h (h0 (fun z => z.1 h))
  · refine br_f h ?_
    by_cases h2 : 2 < p0
    · exact br_t h2 (h0 (fun z => z.2 h2))
    · exact br_f h2 (h1 h h2)
theorem ch_yptb {post : Int32 → SY → Prop} {p0 p1 p2 : Int32} (hb : ch_tb p0 p1 p2) (h : post (-1) (f_height, f_count, f_open, f_at, f_depth, f_state, f_steps, f_product, f_end, f_most, f_mostRow, f_mostSteps, a_stack, a_kinds, a_variables, a_numbers, a_values, a_opened, a_begins, a_left, a_outcomes, a_met, a_sums, a_visited)) : wpY_put post (f_height, f_count, f_open, f_at, f_depth, f_state, f_steps, f_product, f_end, f_most, f_mostRow, f_mostSteps, a_stack, a_kinds, a_variables, a_numbers, a_values, a_opened, a_begins, a_left, a_outcomes, a_met, a_sums, a_visited) p0 p1 p2 := by
  rcases hb with hb | ⟨c, hc, rfl, hb⟩
  · exact ch_ypt14 (fun _ => ch_b0 hb h) (fun _ _ => ch_b0 hb h)
  · have h55 : c = 6 → (p2 < 1 ∨ 3 < p2) → wY_put_55 post (nI c) p1 p2 f_height f_count f_open f_at f_depth f_state f_steps f_product f_end f_most f_mostRow f_mostSteps a_stack a_kinds a_variables a_numbers a_values a_opened a_begins a_left a_outcomes a_met a_sums a_visited := fun h6 hb => br_t (by rw [h6]; rfl) (ch_b06' hb h)
    have h40 : ¬ c ≤ 2 ∨ (∃ a, a < 3 ∧ p1 = nI a) → wY_put_40 post (nI c) p1 p2 f_height f_count f_open f_at f_depth f_state f_steps f_product f_end f_most f_mostRow f_mostSteps a_stack a_kinds a_variables a_numbers a_values a_opened a_begins a_left a_outcomes a_met a_sums a_visited := fun hz => by
      rcases hb with ⟨hc2, hb⟩ | ⟨h1, _, hb⟩ | ⟨h6, hb⟩
      · rcases hz with hz | ⟨a, ha, rfl⟩
        · exact absurd hc2 hz
        · exact absurd hb (fun z => z.elim (nI_pos (by omega)) (nI_nlt (a := 2) (b := a) (by omega) (by decide)))
      · exact br_t (by rw [h1]; rfl) (ch_b0 hb h)
      · exact br_f (ch_kn hc (c := 1) (by decide) (by omega)) (h55 h6 hb)
    refine ch_ypt14 (fun hz => ch_b1 (c := 8) hc (by decide) (br_t rfl (h40 (Or.inl (fun hc2 => hz ⟨nI_pos (by omega), nI_nlt (a := 2) (b := c) hc2 (by decide)⟩))))) (fun _ h2 => ch_b1 (c := 8) hc (by decide) (br_f (by decide) ?_))
    have hc2 : c ≤ 2 := Nat.le_of_not_lt (fun z => h2 (nI_lt (a := 2) (b := c) z (by omega)))
    rcases hb with ⟨_, hb⟩ | ⟨h1, ⟨a, ha, rfl⟩, hb⟩ | ⟨h6, _⟩
    · exact ch_b0 hb h
    · exact ch_b1 (c := 2) (by omega) (by decide) (h40 (Or.inr ⟨a, ha, rfl⟩))
    · omega
theorem ch_ypt {post : Int32 → SY → Prop} {c a p ht : Nat} {p1 p2 : Int32} (hv : ch_tv c a p p1 p2) (hn : ch_n P ≤ 24) (hht : ht ≤ 6)
    (h2 : ch_n P = 24 → post (-2) (nI ht, nI (ch_n P), f_open, f_at, f_depth, f_state, f_steps, f_product, f_end, f_most, f_mostRow, f_mostSteps, a_stack, a_kinds, a_variables, a_numbers, a_values, a_opened, a_begins, a_left, a_outcomes, a_met, a_sums, a_visited)) (h3 : ch_n P < 24 → ch_te c = true → ht = 0 → post (-3) (nI ht, nI (ch_n P), f_open, f_at, f_depth, f_state, f_steps, f_product, f_end, f_most, f_mostRow, f_mostSteps, a_stack, a_kinds, a_variables, a_numbers, a_values, a_opened, a_begins, a_left, a_outcomes, a_met, a_sums, a_visited)) (h121 : ch_n P < 24 → (ch_te c = true → 0 < ht) → wY_put_121 post (nI c) p1 p2 (ch_gg (ch_te c)) (nI ht) (nI (ch_n P)) f_open f_at f_depth f_state f_steps f_product f_end f_most f_mostRow f_mostSteps a_stack a_kinds a_variables a_numbers a_values a_opened a_begins a_left a_outcomes a_met a_sums a_visited) : wpY_put post (nI ht, nI (ch_n P), f_open, f_at, f_depth, f_state, f_steps, f_product, f_end, f_most, f_mostRow, f_mostSteps, a_stack, a_kinds, a_variables, a_numbers, a_values, a_opened, a_begins, a_left, a_outcomes, a_met, a_sums, a_visited) (nI c) p1 p2 := by
  have h73 : wY_put_73 post (nI c) p1 p2 (nI ht) (nI (ch_n P)) f_open f_at f_depth f_state f_steps f_product f_end f_most f_mostRow f_mostSteps a_stack a_kinds a_variables a_numbers a_values a_opened a_begins a_left a_outcomes a_met a_sums a_visited := by
    by_cases h24 : ch_n P = 24
    · exact br_t (by rw [h24]; rfl) (h2 h24)
    · have hlt : ch_n P < 24 := by omega
      refine br_f (fun z => h24 ((nI_eq (b := 24) (by omega) (by decide)).mp z)) ?_
      have h99 : ch_te c = true → wY_put_99 post (nI c) p1 p2 (nI ht) (nI (ch_n P)) f_open f_at f_depth f_state f_steps f_product f_end f_most f_mostRow f_mostSteps a_stack a_kinds a_variables a_numbers a_values a_opened a_begins a_left a_outcomes a_met a_sums a_visited := fun hte => by
        refine br_f (by decide) ?_
        by_cases h0 : ht = 0
        · exact br_t (by rw [h0]; rfl) (h3 hlt hte h0)
        · have h := h121 hlt (fun _ => by omega)
          rw [hte] at h
          exact br_f (nI_ne0 (by omega) (by omega)) h
      by_cases h0 : c = 0
      · exact br_t (by rw [h0]; rfl) (h99 (decide_eq_true (Or.inl h0)))
      · refine br_f (ch_kn hv.1 (c := 0) (by decide) h0) ?_
        by_cases h3 : c = 3
        · exact br_t (by rw [h3]; rfl) (h99 (decide_eq_true (Or.inr (Or.inl h3))))
        · refine br_f (ch_kn hv.1 (c := 3) (by decide) h3) ?_
          by_cases h4 : c = 4
          · exact br_t (by rw [h4]; rfl) (h99 (decide_eq_true (Or.inr (Or.inr h4))))
          · have e : ch_te c = false := decide_eq_false (fun z => by omega)
            have h := h121 hlt (fun z => by rw [e] at z; cases z)
            rw [e] at h
            exact br_f (ch_kn hv.1 (c := 4) (by decide) h4) (br_t rfl h)
  have h55 : wY_put_55 post (nI c) p1 p2 (nI ht) (nI (ch_n P)) f_open f_at f_depth f_state f_steps f_product f_end f_most f_mostRow f_mostSteps a_stack a_kinds a_variables a_numbers a_values a_opened a_begins a_left a_outcomes a_met a_sums a_visited := by
    by_cases h6 : c = 6
    · obtain ⟨hp1, hp3, rfl⟩ := hv.2.2.2 h6
      exact br_t (by rw [h6]; rfl) (ch_b16' hp1 hp3 h73)
    · exact br_f (ch_kn hv.1 (c := 6) (by decide) h6) h73
  have h40 : wY_put_40 post (nI c) p1 p2 (nI ht) (nI (ch_n P)) f_open f_at f_depth f_state f_steps f_product f_end f_most f_mostRow f_mostSteps a_stack a_kinds a_variables a_numbers a_values a_opened a_begins a_left a_outcomes a_met a_sums a_visited := by
    by_cases h1 : c = 1
    · obtain ⟨hp, rfl⟩ := hv.2.2.1 h1
      exact br_t (by rw [h1]; rfl) (ch_b1 (c := 16) hp (by decide) h55)
    · exact br_f (ch_kn hv.1 (c := 1) (by decide) h1) h55
  refine ch_ypt14 (fun _ => ch_b1 (c := 8) hv.1 (by decide) (br_t rfl h40)) (fun _ h2 => ch_b1 (c := 8) hv.1 (by decide) (br_f (by decide) ?_))
  have hc2 : c ≤ 2 := Nat.le_of_not_lt (fun z => h2 (nI_lt (a := 2) (b := c) z (by have := hv.1; omega)))
  obtain ⟨ha, rfl⟩ := hv.2.1 hc2
  exact ch_b1 (c := 2) (by omega) (by decide) h40
theorem ch_y187 {post : Int32 → SY → Prop} {te : Bool} {n h' : Nat} {vl0 : Nat → Int32} (hn : n < 24) (hh : te = true → h' < 6)
    (h : ∀ vl : Nat → Int32, (∀ j, j < 64 * n → vl j = vl0 j) → (te = true → ∀ s, s < 64 → vl (64 * n + s) = a_stack (64 * h' + s)) → post (nI n) (nI h', nI (n + 1), f_open, f_at, f_depth, f_state, f_steps, f_product, f_end, f_most, f_mostRow, f_mostSteps, a_stack, a_kinds, a_variables, a_numbers, vl, a_opened, a_begins, a_left, a_outcomes, a_met, a_sums, a_visited)) :
    ∀ (d s : Nat) (vl : Nat → Int32), s + d = 64 → (∀ j, j < 64 * n → vl j = vl0 j) → (te = true → ∀ t, t < s → vl (64 * n + t) = a_stack (64 * h' + t)) → wY_put_187 post (ch_gg te) (nI h') (nI n) f_open f_at f_depth f_state f_steps f_product f_end f_most f_mostRow f_mostSteps (d + 1) (nI s) a_stack a_kinds a_variables a_numbers vl a_opened a_begins a_left a_outcomes a_met a_sums a_visited := by
  intro d
  induction d with
  | zero =>
    intro s vl hs h1 h2
    have e : s = 64 := by omega
    subst e
    refine br_t (by decide) (nm_r (nI_1 n) ?_)
    rw [nI_pred]
    exact h vl h1 h2
  | succ d ih =>
    intro s vl hs h1 h2
    have hs64 : s < 64 := by omega
    have hin : vp_in (nI (64 * n + s)) 1536 := vp_in_nI (by omega) (by decide)
    have hcl : (nI (64 * n + s)).toNatClampNeg = 64 * n + s := nI_clamp (by omega)
    refine br_f (nI_ge (a := s) (b := 64) hs64 (by omega)) ?_
    cases te with
    | false =>
      refine br_t rfl ?_
      rw [ch_64, hcl]
      refine And.intro hin (fun vl' ev => nm_r (nI_1 s) (ih (s + 1) vl' (by omega) (fun j hj => ?_) (fun z => nomatch z)))
      rw [ev, pk_un (by omega)]
      exact h1 j hj
    | true =>
      have hh6 := hh rfl
      have hin2 : vp_in (nI (64 * h' + s)) 384 := vp_in_nI (by omega) (by decide)
      have hcl2 : (nI (64 * h' + s)).toNatClampNeg = 64 * h' + s := nI_clamp (by omega)
      refine br_f (by decide) ?_
      rw [ch_64, ch_64, hcl, hcl2]
      refine And.intro hin2 (And.intro hin (fun vl' ev => nm_r (nI_1 s) (ih (s + 1) vl' (by omega) (fun j hj => ?_) (fun _ t ht => ?_))))
      · rw [ev, pk_un (by omega)]
        exact h1 j hj
      · rw [ev]
        by_cases hts : t = s
        · rw [hts, pk_us]
        · rw [pk_un (by omega)]
          exact h2 rfl t (by omega)
end
theorem ch_may_cg {P P' : ch_P} {l : List (Nat × Nat)} {c : Nat} (h : ∀ e, e ∈ l → ch_K P e.1 = ch_K P' e.1) (hm : ch_may P l c) : ch_may P' l c := by
  refine ⟨hm.1, fun z => ?_, fun z => ?_, hm.2.2.2⟩
  · obtain ⟨b, t, hb, hK⟩ := hm.2.1 z
    refine ⟨b, t, hb, ?_⟩
    have := h (b, 0) (by rw [hb]; exact List.mem_cons_self)
    rw [← this]
    exact hK
  · obtain ⟨e, he, hK⟩ := hm.2.2.1 z
    exact ⟨e, he, by rw [← h e he]; exact hK⟩
end
section
/-! own rows: the program with one statement more; put -/
def ch_ext (P : ch_P) (c a p : Nat) (lo hi : Nat → Int64) : ch_P := (ch_n P + 1, ch_u (ch_K P) (ch_n P) c, ch_u (ch_V P) (ch_n P) a, ch_u (ch_S P) (ch_n P) p, fun i s => ch_v (lo i) (hi i) s)
section
variable {P : ch_P} {c a p : Nat} {lo hi lo0 hi0 : Nat → Int64} {p1 p2 : Int32}
theorem ch_ext_K {j : Nat} (hj : j < ch_n P) : ch_K P j = ch_K (ch_ext P c a p lo hi) j := (ch_un (by omega)).symm
theorem ch_ext_st {q : Nat} (hq : q ≤ ch_n P) : ch_st (ch_ext P c a p lo hi) q = ch_st P q := ch_st_cg q (fun i hi => (ch_ext_K (by omega)).symm)
theorem ch_ext_wf (w : ch_wf P) (hlt : ch_n P < 24) (hv : ch_tv c a p p1 p2) (hm : ch_may P (ch_st P (ch_n P)) c) : ch_wf (ch_ext P c a p lo hi) := by
  refine ⟨hlt, fun q hq => ?_⟩
  have hq1 : q < ch_n P + 1 := hq
  have hE : ∀ s, ch_E (ch_ext P c a p lo hi) q s ≤ 3 := fun s => ch_v_le _ _ _
  rw [ch_ext_st (by omega)]
  by_cases hqn : q = ch_n P
  · have eK : ch_K (ch_ext P c a p lo hi) q = c := by rw [hqn]; exact ch_us
    have eV : ch_V (ch_ext P c a p lo hi) q = a := by rw [hqn]; exact ch_us
    have eS : ch_S (ch_ext P c a p lo hi) q = p := by rw [hqn]; exact ch_us
    unfold ch_dat
    rw [eK, eV, eS]
    refine ⟨⟨hv.1, fun z => by have := (hv.2.1 z).1; omega, fun z => (hv.2.2.1 z).1, fun z => ⟨(hv.2.2.2 z).1, (hv.2.2.2 z).2.1⟩, hE⟩, ?_⟩
    rw [hqn]
    exact ch_may_cg (fun e he => ch_ext_K (ch_st_mem he).1) hm
  · have hqlt : q < ch_n P := by omega
    have hw := w.2 q hqlt
    have eK : ch_K (ch_ext P c a p lo hi) q = ch_K P q := ch_un hqn
    have eV : ch_V (ch_ext P c a p lo hi) q = ch_V P q := ch_un hqn
    have eS : ch_S (ch_ext P c a p lo hi) q = ch_S P q := ch_un hqn
    unfold ch_dat
    rw [eK, eV, eS]
    refine ⟨⟨hw.1.1, hw.1.2.1, hw.1.2.2.1, hw.1.2.2.2.1, hE⟩, ?_⟩
    exact ch_may_cg (fun e he => ch_ext_K (by have := (ch_st_mem he).1; omega)) hw.2
theorem ch_ext_x {kd va sh : Nat → Int32} (hx : ch_xp P (nI (ch_n P)) kd va sh lo0 hi0) (hv : ch_tv c a p p1 p2) : ch_xp (ch_ext P c a p lo hi) (nI (ch_n P + 1)) (upd kd (ch_n P) (nI c)) (upd va (ch_n P) p1) (upd sh (ch_n P) p2) lo hi := by
  refine ⟨rfl, fun q hq => ?_⟩
  have hq1 : q < ch_n P + 1 := hq
  by_cases hqn : q = ch_n P
  · have eK : ch_K (ch_ext P c a p lo hi) q = c := by rw [hqn]; exact ch_us
    have eV : ch_V (ch_ext P c a p lo hi) q = a := by rw [hqn]; exact ch_us
    have eS : ch_S (ch_ext P c a p lo hi) q = p := by rw [hqn]; exact ch_us
    rw [eK, eV, eS, hqn, pk_us, pk_us, pk_us]
    exact ⟨rfl, fun z => (hv.2.1 z).2, fun z => z.elim (fun y => (hv.2.2.1 y).2) (fun y => (hv.2.2.2 y).2.2), fun s => rfl⟩
  · have hx1 := hx.2 q (by omega)
    have eK : ch_K (ch_ext P c a p lo hi) q = ch_K P q := ch_un hqn
    have eV : ch_V (ch_ext P c a p lo hi) q = ch_V P q := ch_un hqn
    have eS : ch_S (ch_ext P c a p lo hi) q = ch_S P q := ch_un hqn
    rw [eK, eV, eS, pk_un hqn, pk_un hqn, pk_un hqn]
    exact ⟨hx1.1, hx1.2.1, hx1.2.2.1, fun s => rfl⟩
theorem ch_ext_y {kd va sh xk xv xs vl vl0 : Nat → Int32} (hy : ch_yp P (nI (ch_n P)) kd va sh vl0) (hx : ch_xp P (nI (ch_n P)) xk xv xs lo0 hi0) (hv : ch_tv c a p p1 p2) (hlo : ∀ i, i < ch_n P → lo i = lo0 i ∧ hi i = hi0 i) (hvl : ∀ j, j < 64 * ch_n P → vl j = vl0 j) (hnew : ch_te c = true → ∀ s, s < 64 → vl (64 * ch_n P + s) = nI (ch_v (lo (ch_n P)) (hi (ch_n P)) s)) : ch_yp (ch_ext P c a p lo hi) (nI (ch_n P + 1)) (upd kd (ch_n P) (nI c)) (upd va (ch_n P) p1) (upd sh (ch_n P) p2) vl := by
  refine ⟨rfl, fun q hq => ?_⟩
  have hq1 : q < ch_n P + 1 := hq
  by_cases hqn : q = ch_n P
  · have eK : ch_K (ch_ext P c a p lo hi) q = c := by rw [hqn]; exact ch_us
    have eV : ch_V (ch_ext P c a p lo hi) q = a := by rw [hqn]; exact ch_us
    have eS : ch_S (ch_ext P c a p lo hi) q = p := by rw [hqn]; exact ch_us
    rw [eK, eV, eS, hqn, pk_us, pk_us, pk_us]
    exact ⟨rfl, fun z => (hv.2.1 z).2, fun z => z.elim (fun y => (hv.2.2.1 y).2) (fun y => (hv.2.2.2 y).2.2), fun z s hs => hnew (decide_eq_true z) s hs⟩
  · have hqlt : q < ch_n P := by omega
    have hy1 := hy.2 q hqlt
    have eK : ch_K (ch_ext P c a p lo hi) q = ch_K P q := ch_un hqn
    have eV : ch_V (ch_ext P c a p lo hi) q = ch_V P q := ch_un hqn
    have eS : ch_S (ch_ext P c a p lo hi) q = ch_S P q := ch_un hqn
    rw [eK, eV, eS, pk_un hqn, pk_un hqn, pk_un hqn]
    refine ⟨hy1.1, hy1.2.1, hy1.2.2.1, fun z s hs => ?_⟩
    rw [hvl _ (by omega), hy1.2.2.2 z s hs, (hx.2 q hqlt).2.2.2 s]
    show _ = nI (ch_v (lo q) (hi q) s)
    rw [(hlo q hqlt).1, (hlo q hqlt).2]
theorem ch_ext_E {el en : Nat → Int32} (hE : ch_EO P el en) : ch_EO (ch_at (ch_ext P c a p lo hi) (ch_n P)) el en := by
  intro b hb hK
  have hb1 : b < ch_n P := hb
  have eK : ∀ j, j < ch_n P → ch_K (ch_at (ch_ext P c a p lo hi) (ch_n P)) j = ch_K P j := fun j hj => (ch_ext_K hj).symm
  have hK1 : ch_K P b = 4 ∨ ch_K P b = 6 := by rw [← eK b hb1]; exact hK
  have h := hE b hb1 hK1
  have en1 : ch_n (ch_at (ch_ext P c a p lo hi) (ch_n P)) = ch_n P := rfl
  rw [en1, eK b hb1, ch_fd_cg (P := ch_at (ch_ext P c a p lo hi) (ch_n P)) (P' := P) rfl hb1 eK, ch_fd_cg (P := ch_at (ch_ext P c a p lo hi) (ch_n P)) (P' := P) rfl hb1 eK]
  refine ⟨h.1, fun h4 => ?_⟩
  rw [h.2 h4]
  by_cases hf : ch_fd P true b < ch_n P
  · rw [eK _ hf]
  · rw [if_neg (fun z => hf z.1), if_neg (fun z => hf z.1)]
end
theorem i_vc_put {k : Nat} {u : SX} {v : SY} (I : i_Rel k u v) (hk : k + 5 ≤ 2560) (v1 : Int32) (v2 : Int32) (v3 : Int32) : wpX_put (fun r u' => wpY_put (fun r' v' => r' = r ∧ i_Rel (k + 5) u' v') v v1 v2 v3) u v1 v2 v3 := by
  refine ch_el (Q := fun u v => wpX_put (fun r u' => wpY_put (fun r' v' => r' = r ∧ i_Rel (k + 5) u' v') v v1 v2 v3) u v1 v2 v3) ?_ I
  intro f_height f_size f_opened f_level f_greatestOnly f_watched f_known a_lower a_upper a_kind a_variable a_share a_low a_high a_openAt a_elseOf a_endOf a_weights a_visited a_blockAt a_rounds a_forced a_weightHere a_visitedHere a_atEnd yf_height yf_count yf_open yf_at yf_depth yf_state yf_steps yf_product yf_end yf_most yf_mostRow yf_mostSteps ya_stack ya_kinds ya_variables ya_numbers ya_values ya_opened ya_begins ya_left ya_outcomes ya_met ya_sums ya_visited P ht hR
  have hR0 := hR
  obtain ⟨w, hht, hh, hyh, hx, hy, hst, hop, hk1⟩ := hR
  have hn := w.1
  have hs := hx.1
  have hc := hy.1
  subst hs hc hh hyh
  rcases ch_tgob v1 v2 v3 with ⟨c, a, p, hv, rfl⟩ | hb
  · refine ch_xpt hv hn hht (fun h24 => ?_) (fun hlt hte h0 => ?_) (fun hlt hpos => ?_)
    · exact ch_ypt hv hn hht (fun _ => ⟨rfl, ch_inR hR0⟩) (fun h => by omega) (fun h => by omega)
    · exact ch_ypt hv hn hht (fun h => by omega) (fun _ _ _ => ⟨rfl, ch_inR hR0⟩) (fun _ hp => by have := hp hte; omega)
    · have hin : vp_in (nI (ch_n P)) 24 := vp_in_nI hlt (by decide)
      have hcl : (nI (ch_n P)).toNatClampNeg = ch_n P := nI_clamp (by omega)
      refine ch_xmay hv.1 w hx hop (fun hm => br_f (by decide) ?_) (fun hm => br_t rfl ?_)
      · refine nm_r (nI_1 (ch_n P)) (And.intro hin (fun kd' ek => And.intro hin (fun va' ev => And.intro hin (fun sh' es => ?_))))
        rw [hcl] at ek ev es
        -- what is left once the expression is taken
        have hfin : ∀ (lo hi : Nat → Int64) (h' : Nat), (∀ i, i < ch_n P → lo i = a_low i ∧ hi i = a_high i) → (ch_te c = true → ht = h' + 1 ∧ lo (ch_n P) = a_lower h' ∧ hi (ch_n P) = a_upper h') → (ch_te c = false → h' = ht) →
            wX_put_162 (fun r u' => wpY_put (fun r' v' => r' = r ∧ i_Rel (k + 5) u' v') (nI ht, nI (ch_n P), yf_open, yf_at, yf_depth, yf_state, yf_steps, yf_product, yf_end, yf_most, yf_mostRow, yf_mostSteps, ya_stack, ya_kinds, ya_variables, ya_numbers, ya_values, ya_opened, ya_begins, ya_left, ya_outcomes, ya_met, ya_sums, ya_visited) (nI c) v2 v3) (nI (ch_n P)) (nI h') (nI (ch_n P + 1)) f_opened f_level f_greatestOnly f_watched f_known a_lower a_upper kd' va' sh' lo hi a_openAt a_elseOf a_endOf a_weights a_visited a_blockAt a_rounds a_forced a_weightHere a_visitedHere a_atEnd := by
          intro lo hi h' hlo hte hfe
          have hh6 : h' ≤ 6 := by
            cases ht2 : ch_te c with
            | false => have := hfe ht2; omega
            | true => have := (hte ht2).1; omega
          have hhle : h' ≤ ht := by
            cases ht2 : ch_te c with
            | false => have := hfe ht2; omega
            | true => have := (hte ht2).1; omega
          have w' : ch_wf (ch_ext P c a p lo hi) := ch_ext_wf w hlt hv hm
          have hx' : ch_xp (ch_ext P c a p lo hi) (nI (ch_n P + 1)) kd' va' sh' lo hi := by
            rw [ek, ev, es]
            exact ch_ext_x hx hv
          have est : ch_st (ch_ext P c a p lo hi) (ch_n P) = ch_st P (ch_n P) := ch_ext_st (Nat.le_refl _)
          have hopn := hop.1
          rw [← est] at hopn
          subst hopn
          refine ch_enter (P := ch_ext P c a p lo hi) (m := ch_n P) hlt (fun i hi2 => (hx'.2 i (by show i < ch_n P + 1; omega)).1) ((w'.2 (ch_n P) (Nat.lt_succ_self _)).1.1) (by rw [est]; exact ch_st_len w _ (Nat.le_refl _)) ((w'.2 (ch_n P) (Nat.lt_succ_self _)).2) (by rw [est]; exact hop.2.1) (ch_ext_E hop.2.2) (fun oa el en hO hE => ?_)
          refine ch_ypt hv hn hht (fun h => by omega) (fun _ ht2 h0 => by have := (hte ht2).1; omega) (fun _ _ => ch_ymis hv.1 hy w (fun _ fo op => br_t rfl ?_) (fun y => absurd hm y))
          refine And.intro hin (fun yk yek => And.intro hin (fun yv yev => And.intro hin (fun ys yes => ?_)))
          rw [hcl] at yek yev yes
          have hst' : ch_sk h' a_lower a_upper ya_stack := fun e s he hs => hst e s (by omega) hs
          have hy' : ∀ vl : Nat → Int32, (∀ j, j < 64 * ch_n P → vl j = ya_values j) → (ch_te c = true → ∀ s, s < 64 → vl (64 * ch_n P + s) = ya_stack (64 * h' + s)) → ch_yp (ch_ext P c a p lo hi) (nI (ch_n P + 1)) yk yv ys vl := by
            intro vl h1 h2
            rw [yek, yev, yes]
            refine ch_ext_y hy hx hv hlo h1 (fun ht2 s hs => ?_)
            rw [h2 ht2 s hs, hst h' s (by have := (hte ht2).1; omega) hs, (hte ht2).2.1, (hte ht2).2.2]
          cases ht2 : ch_te c with
          | false =>
            have eh := hfe ht2
            subst eh
            refine br_t rfl (Exists.intro 65 ?_)
            refine ch_y187 (te := false) (h' := h') (vl0 := ya_values) hlt (fun z => nomatch z) (fun vl h1 _ => ⟨rfl, ch_inR ⟨w', hh6, rfl, rfl, hx', hy' vl h1 (fun z => by rw [ht2] at z; cases z), hst', ⟨rfl, hO, hE⟩, fun z => absurd rfl z⟩⟩) 64 0 ya_values (by omega) (fun _ _ => rfl) (fun z => nomatch z)
          | true =>
            have eh := (hte ht2).1
            subst eh
            refine br_f (by decide) (nm_r (nI_pred h') (Exists.intro 65 ?_))
            refine ch_y187 (te := true) (h' := h') (vl0 := ya_values) hlt (fun _ => by omega) (fun vl h1 h2 => ⟨rfl, ch_inR ⟨w', hh6, rfl, rfl, hx', hy' vl h1 (fun _ => h2 rfl), hst', ⟨rfl, hO, hE⟩, fun z => absurd rfl z⟩⟩) 64 0 ya_values (by omega) (fun _ _ => rfl) (fun _ t ht3 => by omega)
        cases ht2 : ch_te c with
        | false => exact br_t rfl (hfin a_low a_high ht (fun _ _ => ⟨rfl, rfl⟩) (fun z => by rw [ht2] at z; cases z) (fun _ => rfl))
        | true =>
          obtain ⟨h', eh⟩ : ∃ h', ht = h' + 1 := ⟨ht - 1, by have := hpos ht2; omega⟩
          have hinh : vp_in (nI h') 6 := vp_in_nI (by omega) (by decide)
          have hclh : (nI h').toNatClampNeg = h' := nI_clamp (by omega)
          have epred : nI ht - 1 = nI h' := by rw [eh, nI_pred]
          refine br_f (by decide) (nm_r epred (And.intro hinh (And.intro hin (fun lo el => And.intro hinh (And.intro hin (fun hi2 eh2 => ?_))))))
          rw [hcl, hclh] at el eh2
          refine hfin lo hi2 h' (fun i hi3 => ⟨?_, ?_⟩) (fun _ => ⟨eh, ?_, ?_⟩) (fun z => by rw [ht2] at z; cases z)
          · rw [el, pk_uLn (by omega)]
          · rw [eh2, pk_uLn (by omega)]
          · rw [el, pk_uLs]
          · rw [eh2, pk_uLs]
      · refine ch_ypt hv hn hht (fun h => by omega) (fun _ ht2 h0 => by have := hpos ht2; omega) (fun _ _ => ch_ymis hv.1 hy w (fun y => absurd y hm) (fun _ fo op => br_f (by decide) ⟨rfl, ch_inR hR0⟩))
  · exact ch_xptb hb (ch_yptb hb ⟨rfl, ch_inR hR0⟩)
end
