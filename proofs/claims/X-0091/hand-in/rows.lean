section
theorem pk_us {f : Nat → Int32} {k : Nat} {x : Int32} : upd f k x k = x := if_pos rfl
theorem pk_un {f : Nat → Int32} {k j : Nat} {x : Int32} (h : j ≠ k) : upd f k x j = f j := if_neg h
theorem pk_uLs {f : Nat → Int64} {k : Nat} {x : Int64} : vp_updL f k x k = x := if_pos rfl
theorem pk_uLn {f : Nat → Int64} {k j : Nat} {x : Int64} (h : j ≠ k) : vp_updL f k x j = f j := if_neg h
theorem pk_sub {a b : Nat} (h : b ≤ a) : nI a - nI b = nI (a - b) := by
  obtain ⟨c, rfl⟩ : ∃ c, a = c + b := ⟨a - b, by omega⟩
  rw [← nI_add, Int32.add_sub_cancel, Nat.add_sub_cancel]
theorem pk_m1 (n : Nat) : nI (n + 1) + (-1) = nI n := by
  rw [← nI_1, Int32.add_assoc, show (1 : Int32) + (-1) = 0 from rfl, Int32.add_zero]
theorem pk_mul (a b : Nat) : nI a * nI b = nI (a * b) := (Int32.ofNat_mul a b).symm
theorem pk_div {a d : Nat} (ha : a < 2 ^ 31) (h0 : 0 < d) (hd : d < 2 ^ 31) : nI a / nI d = nI (a / d) := by
  apply Int32.toInt_inj.mp
  rw [lg_idiv_nonneg (by rw [nI_toInt ha]; omega) (by rw [nI_toInt hd]; omega), nI_toInt ha, nI_toInt hd, nI_toInt (Nat.lt_of_le_of_lt (Nat.div_le_self a d) ha)]
  first | rfl | exact (Int.natCast_ediv _ _).symm
theorem pk_rem {a d : Nat} (ha : a < 2 ^ 31) (h0 : 0 < d) (hd : d < 2 ^ 31) : nI a - nI a / nI d * nI d = nI (a % d) := by
  rw [pk_div ha h0 hd, pk_mul, pk_sub (Nat.div_mul_le_self a d)]
  exact congrArg nI (by have := Nat.div_add_mod' a d; omega)
theorem pk_sub_toInt {a b : Nat} (ha : a < 2 ^ 30) (hb : b < 2 ^ 30) : (nI a - nI b).toInt = (a : Int) - b := by
  rw [Int32.toInt_sub, nI_toInt (by omega), nI_toInt (by omega)]
  exact Int.bmod_eq_of_le (by omega) (by omega)
theorem pk_sneg {a b : Nat} (hb : b < 2 ^ 30) (h : a < b) : nI a - nI b < 0 := by
  rw [Int32.lt_iff_toInt_lt, pk_sub_toInt (by omega) hb, show (0 : Int32).toInt = 0 from by decide]
  omega
theorem pk_ix (x : Int32) {n : Nat} (hn : n < 2 ^ 31) : x < 0 ∨ nI n ≤ x ∨ ∃ j : Nat, j < n ∧ x = nI j := by
  by_cases h : x < 0
  · exact Or.inl h
  · obtain ⟨j, hj, rfl⟩ := nI_of h
    by_cases h2 : j < n
    · exact Or.inr (Or.inr ⟨j, h2, rfl⟩)
    · exact Or.inr (Or.inl (nI_le (by omega) hj))
theorem pk_le {x y : Int32} {A B : Prop} (a b : Nat) (f : a ≤ b → A) (g : b < a → B) (hx : x = nI a := by rfl) (hy : y = nI b := by rfl) (ha : a < 2 ^ 31 := by omega) (hb : b < 2 ^ 31 := by omega) : (x ≤ y → A) ∧ (¬ x ≤ y → B) := by
  subst hx hy
  rw [nI_leI ha hb]
  exact ⟨f, fun z => g (by omega)⟩
theorem pk_lt {x y : Int32} {A B : Prop} (a b : Nat) (f : a < b → A) (g : b ≤ a → B) (hx : x = nI a := by rfl) (hy : y = nI b := by rfl) (ha : a < 2 ^ 31 := by omega) (hb : b < 2 ^ 31 := by omega) : (x < y → A) ∧ (¬ x < y → B) := by
  subst hx hy
  rw [nI_ltI ha hb]
  exact ⟨f, fun z => g (by omega)⟩
theorem pk_eq {x y : Int32} {A B : Prop} (a b : Nat) (f : a = b → A) (g : a ≠ b → B) (hx : x = nI a := by rfl) (hy : y = nI b := by rfl) (ha : a < 2 ^ 31 := by omega) (hb : b < 2 ^ 31 := by omega) : (x = y → A) ∧ (¬ x = y → B) := by
  subst hx hy
  rw [nI_eq ha hb]
  exact ⟨f, g⟩
theorem pk_in {x : Int32} (n N : Nat) (h : n < N) (hx : x = nI n := by rfl) (hN : N < 2 ^ 31 := by omega) : vp_in x N := by
  subst hx
  exact vp_in_nI h hN
theorem pk_cl {x : Int32} (n : Nat) (hx : x = nI n := by rfl) (h : n < 2 ^ 31 := by omega) : x.toNatClampNeg = n := by
  subst hx
  exact nI_clamp h
theorem pk_tn {n : Nat} (h : n < 2 ^ 32) : (nI n).toBitVec.toNat = n := Nat.mod_eq_of_lt h
theorem pk_and (x : Int32) {m : Int32} (k : Nat) (hm : m.toBitVec.toNat = 2 ^ k - 1) : x &&& m = nI (x.toBitVec.toNat % 2 ^ k) := by
  apply Int32.toBitVec_inj.mp
  apply BitVec.eq_of_toNat_eq
  rw [Int32.toBitVec_and, BitVec.toNat_and, hm, Nat.and_two_pow_sub_one_eq_mod]
  show _ = (BitVec.ofNat 32 _).toNat
  rw [BitVec.toNat_ofNat]
  exact (Nat.mod_eq_of_lt (Nat.lt_of_le_of_lt (Nat.mod_le _ _) x.toBitVec.isLt)).symm
theorem pk_andN {n : Nat} (h : n < 2 ^ 32) {m : Int32} (k : Nat) (hm : m.toBitVec.toNat = 2 ^ k - 1) : nI n &&& m = nI (n % 2 ^ k) := by
  rw [pk_and _ k hm, pk_tn h]
theorem pk_andE (x : Int32) {m : Int32} (k : Nat) (hm : m.toBitVec.toNat = 2 ^ k - 1) : ∃ j : Nat, j < 2 ^ k ∧ x &&& m = nI j := ⟨_, Nat.mod_lt _ (Nat.two_pow_pos k), pk_and x k hm⟩
theorem pk_andIn (x : Int32) {m : Int32} (k : Nat) (hm : m.toBitVec.toNat = 2 ^ k - 1) (hk : k ≤ 30) : vp_in (x &&& m) (2 ^ k) := by
  obtain ⟨j, hj, e⟩ := pk_andE x k hm
  rw [e]
  exact vp_in_nI hj (Nat.lt_of_le_of_lt (Nat.pow_le_pow_right (by decide) hk) (by decide))
theorem pk_shl (a s : Int32) (k : Nat) (hs : (s.toBitVec.smod 32).toNat = k) : (a <<< s).toBitVec.toNat = a.toBitVec.toNat * 2 ^ k % 2 ^ 32 := by
  show (a.toBitVec <<< (s.toBitVec.smod 32).toNat).toNat = _
  rw [hs, BitVec.toNat_shiftLeft, Nat.shiftLeft_eq]
theorem pk_shlN {n : Nat} (s : Int32) (k : Nat) (hs : (s.toBitVec.smod 32).toNat = k) (h : n * 2 ^ k < 2 ^ 32) : nI n <<< s = nI (n * 2 ^ k) := by
  apply Int32.toBitVec_inj.mp
  apply BitVec.eq_of_toNat_eq
  have hn : n < 2 ^ 32 := Nat.lt_of_le_of_lt (Nat.le_mul_of_pos_right n (Nat.two_pow_pos k)) h
  rw [pk_shl _ _ k hs, pk_tn hn, pk_tn h, Nat.mod_eq_of_lt h]
theorem pk_shr (a s : Int32) (k : Nat) (hs : (s.toBitVec.smod 32).toNat = k) : (a >>> s).toInt = a.toInt >>> k := by
  show (a.toBitVec.sshiftRight (s.toBitVec.smod 32).toNat).toInt = _
  rw [hs, BitVec.toInt_sshiftRight]
  rfl
theorem pk_shrN {n : Nat} (h : n < 2 ^ 31) (s : Int32) (k : Nat) (hs : (s.toBitVec.smod 32).toNat = k) : nI n >>> s = nI (n / 2 ^ k) := by
  apply Int32.toInt_inj.mp
  have h2 : n / 2 ^ k ≤ n := Nat.div_le_self _ _
  rw [pk_shr _ _ k hs, nI_toInt h, nI_toInt (by omega), Int.shiftRight_eq_div_pow]
  rfl
theorem pk_ushr (x s : Int32) (k : Nat) (hs : ((s.toUInt32 &&& Int32.toUInt32 31).toBitVec % 32).toNat = k) : (x.toUInt32 >>> (s.toUInt32 &&& Int32.toUInt32 31)).toInt32.toBitVec.toNat = x.toBitVec.toNat / 2 ^ k := by
  have e : (x.toUInt32 >>> (s.toUInt32 &&& Int32.toUInt32 31)).toInt32.toBitVec = x.toBitVec >>> k := by
    rw [← hs]
    exact UInt32.toBitVec_shiftRight _ _
  rw [e, BitVec.toNat_ushiftRight, Nat.shiftRight_eq_div_pow]
theorem pk_ushrN {n : Nat} (hn : n < 2 ^ 32) (s : Int32) (k : Nat) (hs : ((s.toUInt32 &&& Int32.toUInt32 31).toBitVec % 32).toNat = k) : ((nI n).toUInt32 >>> (s.toUInt32 &&& Int32.toUInt32 31)).toInt32 = nI (n / 2 ^ k) := by
  apply Int32.toBitVec_inj.mp
  apply BitVec.eq_of_toNat_eq
  rw [pk_ushr _ s k hs, pk_tn hn, pk_tn (Nat.lt_of_le_of_lt (Nat.div_le_self _ _) hn)]
theorem pk_lT {n : Nat} (h : n < 2 ^ 63) : (lN n).toInt = (n : Int) := lg_ofNat_toInt h
theorem pk_lLT {a b : Nat} (ha : a < 2 ^ 63) (hb : b < 2 ^ 63) : lN a < lN b ↔ a < b := by
  rw [Int64.lt_iff_toInt_lt, pk_lT ha, pk_lT hb]; omega
theorem pk_lLE {a b : Nat} (ha : a < 2 ^ 63) (hb : b < 2 ^ 63) : lN a ≤ lN b ↔ a ≤ b := by
  rw [Int64.le_iff_toInt_le, pk_lT ha, pk_lT hb]; omega
theorem pk_lEQ {a b : Nat} (ha : a < 2 ^ 63) (hb : b < 2 ^ 63) : lN a = lN b ↔ a = b := by
  rw [← Int64.toInt_inj, pk_lT ha, pk_lT hb]; omega
theorem pk_lOf {x : Int64} (h : ¬ x < 0) : ∃ k : Nat, k < 2 ^ 63 ∧ x = lN k := by
  rw [Int64.lt_iff_toInt_lt] at h
  have h0 : (0 : Int64).toInt = 0 := by decide
  have hx := Int64.toInt_lt x
  refine ⟨x.toInt.toNat, by omega, Int64.toInt_inj.mp ?_⟩
  rw [pk_lT (by omega)]
  omega
theorem pk_lDiv {a b : Nat} (ha : a < 2 ^ 63) (h0 : 0 < b) (hb : b < 2 ^ 63) : lN a / lN b = lN (a / b) := by
  apply Int64.toInt_inj.mp
  rw [lg_ldiv_nonneg (by rw [pk_lT ha]; omega) (by rw [pk_lT hb]; omega), pk_lT ha, pk_lT hb, pk_lT (Nat.lt_of_le_of_lt (Nat.div_le_self a b) ha)]
  rfl
theorem pk_lRem {a b : Nat} (ha : a < 2 ^ 63) (h0 : 0 < b) (hb : b < 2 ^ 63) : lN a - lN a / lN b * lN b = lN (a % b) := by
  rw [pk_lDiv ha h0 hb, lN_mul, lN_sub (Nat.div_mul_le_self a b)]
  exact congrArg lN (by have := Nat.div_add_mod' a b; omega)
theorem pk_loop {σ : Type} (W : Nat → Nat → σ → Prop) (I : Nat → σ → Prop) (e i0 : Nat) (s : σ) (hi : i0 ≤ e) (h0 : I i0 s) (hx : ∀ n s, I e s → W (n + 1) e s)
    (hs : ∀ n i s, i < e → I i s → (∀ s', I (i + 1) s' → W n (i + 1) s') → W (n + 1) i s) : ∃ n, W n i0 s :=
  ⟨e + 1, loop_i W I e hx hs (e + 1) i0 s hi (by omega) h0⟩
theorem pk_loopD {σ : Type} (W : Nat → Nat → σ → Prop) (I : Nat → σ → Prop) (hx : ∀ n s, I 0 s → W (n + 1) 0 s)
    (hs : ∀ n i s, I (i + 1) s → (∀ s', I i s' → W n i s') → W (n + 1) (i + 1) s) : ∀ (e : Nat) (s : σ), I e s → W (e + 1) e s := by
  intro e
  induction e with
  | zero => exact fun s h => hx 0 s h
  | succ e ih => exact fun s h => hs (e + 1) e s h (fun s' h' => ih s' h')
theorem pk_least (P : Nat → Prop) (h : ∃ k, P k) : ∃ k, P k ∧ ∀ j, j < k → ¬ P j := by
  obtain ⟨k, hk⟩ := h
  induction k using Nat.strongRecOn with
  | ind k ih =>
    by_cases e : ∃ j, j < k ∧ P j
    · obtain ⟨j, hj, pj⟩ := e
      exact ih j hj pj
    · exact ⟨k, hk, fun j hj pj => e ⟨j, hj, pj⟩⟩
/-! ===== lN n to 2^64: shifts, and, or, masks, one bit ===== -/
theorem wb_tb (n : Nat) : (lN n).toBitVec = BitVec.ofNat 64 n := rfl
theorem wb_inj {a b : Int64} (h : a.toBitVec = b.toBitVec) : a = b := Int64.toBitVec_inj.mp h
theorem wb_tn {n : Nat} (h : n < 2 ^ 64) : (lN n).toBitVec.toNat = n := by rw [wb_tb, BitVec.toNat_ofNat, Nat.mod_eq_of_lt h]
theorem wb_of (x : Int64) : ∃ n, n < 2 ^ 64 ∧ x = lN n := ⟨x.toBitVec.toNat, x.toBitVec.isLt, wb_inj (by rw [wb_tb]; simp)⟩
theorem wb_of32 (x : Int32) : ∃ n, n < 2 ^ 32 ∧ x = nI n := ⟨x.toBitVec.toNat, x.toBitVec.isLt, Int32.toBitVec_inj.mp (by show _ = BitVec.ofNat 32 _; simp)⟩
theorem wb_c : ∀ k, k < 64 → ((nI k).toInt64 &&& 63) = lN k := by decide +kernel
theorem wb_cu : ∀ k, k < 64 → ((nI k).toInt64.toUInt64 &&& Int64.toUInt64 63) = UInt64.ofNat k := by decide +kernel
theorem wb_sm : ∀ k, k < 64 → (BitVec.ofNat 64 k).smod 64 = BitVec.ofNat 64 k := by decide +kernel
theorem wb_pw {a b : Nat} (h : a ≤ b) : 2 ^ b = 2 ^ a * 2 ^ (b - a) := by rw [← Nat.pow_add]; congr 1; omega
theorem wb_lt2 {a b : Nat} (h : a < b) : 2 ^ a < 2 ^ b := Nat.pow_lt_pow_right (by decide) h
theorem wb_mod (n : Nat) : lN n = lN (n % 2 ^ 64) := wb_inj (by rw [wb_tb, wb_tb]; apply BitVec.eq_of_toNat_eq; rw [BitVec.toNat_ofNat, BitVec.toNat_ofNat, Nat.mod_mod])
theorem wb_shr {n k : Nat} (hn : n < 2 ^ 64) (hk : k < 64) : ((lN n).toUInt64 >>> ((nI k).toInt64.toUInt64 &&& Int64.toUInt64 63)).toInt64 = lN (n / 2 ^ k) := by
  rw [wb_cu k hk]
  apply wb_inj
  apply BitVec.eq_of_toNat_eq
  show ((lN n).toUInt64 >>> UInt64.ofNat k).toNat = (BitVec.ofNat 64 _).toNat
  have h1 : (UInt64.ofNat k).toNat = k := by
    show (BitVec.ofNat 64 k).toNat = k
    rw [BitVec.toNat_ofNat, Nat.mod_eq_of_lt (by omega)]
  have h2 : (lN n).toUInt64.toNat = n := wb_tn hn
  rw [UInt64.toNat_shiftRight, h1, h2, Nat.mod_eq_of_lt hk, Nat.shiftRight_eq_div_pow, BitVec.toNat_ofNat, Nat.mod_eq_of_lt (Nat.lt_of_le_of_lt (Nat.div_le_self _ _) hn)]
theorem wb_shl (n : Nat) {k : Nat} (hk : k < 64) : lN n <<< ((nI k).toInt64 &&& 63) = lN (n * 2 ^ k) := by
  rw [wb_c k hk]
  apply wb_inj
  rw [Int64.toBitVec_shiftLeft, wb_tb, wb_tb, wb_tb, wb_sm k hk]
  apply BitVec.eq_of_toNat_eq
  rw [BitVec.shiftLeft_eq', BitVec.toNat_shiftLeft, BitVec.toNat_ofNat, BitVec.toNat_ofNat, BitVec.toNat_ofNat, Nat.mod_eq_of_lt (show k < 2 ^ 64 by omega), Nat.shiftLeft_eq, Nat.mul_mod, Nat.mod_mod, ← Nat.mul_mod]
theorem wb_and {a b : Nat} (ha : a < 2 ^ 64) (hb : b < 2 ^ 64) : lN a &&& lN b = lN (a &&& b) := by
  apply wb_inj
  rw [Int64.toBitVec_and, wb_tb, wb_tb, wb_tb]
  apply BitVec.eq_of_toNat_eq
  rw [BitVec.toNat_and, BitVec.toNat_ofNat, BitVec.toNat_ofNat, BitVec.toNat_ofNat, Nat.mod_eq_of_lt ha, Nat.mod_eq_of_lt hb, Nat.mod_eq_of_lt (Nat.and_lt_two_pow _ hb)]
theorem wb_or {a b : Nat} (ha : a < 2 ^ 64) (hb : b < 2 ^ 64) : lN a ||| lN b = lN (a ||| b) := by
  apply wb_inj
  rw [Int64.toBitVec_or, wb_tb, wb_tb, wb_tb]
  apply BitVec.eq_of_toNat_eq
  rw [BitVec.toNat_or, BitVec.toNat_ofNat, BitVec.toNat_ofNat, BitVec.toNat_ofNat, Nat.mod_eq_of_lt ha, Nat.mod_eq_of_lt hb, Nat.mod_eq_of_lt (Nat.or_lt_two_pow ha hb)]
theorem wb_mask {n k : Nat} (hn : n < 2 ^ 64) (hk : k < 64) : lN n &&& lN (2 ^ k - 1) = lN (n % 2 ^ k) := by
  rw [wb_and hn (by have := wb_lt2 hk; omega), Nat.and_two_pow_sub_one_eq_mod]
theorem wb_a1 {n : Nat} (hn : n < 2 ^ 64) : lN n &&& 1 = lN (n % 2) := wb_mask (k := 1) hn (by decide)
theorem wb_bit {n k : Nat} (hn : n < 2 ^ 64) (hk : k < 64) : ((lN n).toUInt64 >>> ((nI k).toInt64.toUInt64 &&& Int64.toUInt64 63)).toInt64 &&& 1 = lN (n / 2 ^ k % 2) := by
  rw [wb_shr hn hk, wb_a1 (Nat.lt_of_le_of_lt (Nat.div_le_self _ _) hn)]
theorem wb_xor {q k : Nat} (hk : k < 63) (h : 2 ^ k ≤ q) (h2 : q < 2 ^ (k + 1)) : lN q ^^^ lN (2 ^ k) = lN (q - 2 ^ k) := by
  obtain ⟨r, rfl⟩ : ∃ r, q = 2 ^ k + r := ⟨q - 2 ^ k, by omega⟩
  have hr : r < 2 ^ k := by rw [Nat.pow_succ] at h2; omega
  have hx : (2 ^ k + r) ^^^ 2 ^ k = r := by
    apply Nat.eq_of_testBit_eq
    intro i
    rw [Nat.testBit_xor, Nat.testBit_two_pow]
    rcases Nat.lt_trichotomy i k with h | h | h
    · rw [Nat.testBit_two_pow_add_gt h]
      simp [show ¬ k = i by omega]
    · subst h
      rw [Nat.testBit_two_pow_add_eq]
      simp
    · have a1 : 2 ^ (k + 1) ≤ 2 ^ i := Nat.pow_le_pow_right (by decide) h
      rw [Nat.testBit_lt_two_pow (show 2 ^ k + r < 2 ^ i by omega), Nat.testBit_lt_two_pow (show r < 2 ^ i by omega)]
      simp [show ¬ k = i by omega]
  have b1 := wb_lt2 (show k + 1 < 64 by omega)
  have b2 := wb_lt2 (show k < 64 by omega)
  apply wb_inj
  rw [Int64.toBitVec_xor, wb_tb, wb_tb, wb_tb]
  apply BitVec.eq_of_toNat_eq
  rw [BitVec.toNat_xor, BitVec.toNat_ofNat, BitVec.toNat_ofNat, BitVec.toNat_ofNat, Nat.mod_eq_of_lt (by omega : 2 ^ k + r < 2 ^ 64), Nat.mod_eq_of_lt b2, hx, Nat.add_sub_cancel_left, Nat.mod_eq_of_lt (by omega)]
/-! ===== lN: masks, 'or' of parts that don't overlap is a sum ===== -/
theorem u_tn {n : Nat} (h : n < 2 ^ 64) : (UInt64.ofNat n).toNat = n := Nat.mod_eq_of_lt h
theorem g_and {a b c : Nat} (ha : a < 2 ^ 64) (hb : b < 2 ^ 64) (hc : a &&& b = c) : lN a &&& lN b = lN c := by
  subst hc
  have h : UInt64.ofNat a &&& UInt64.ofNat b = UInt64.ofNat (a &&& b) := UInt64.toNat_inj.mp (by rw [UInt64.toNat_and, u_tn ha, u_tn hb, u_tn (Nat.and_lt_two_pow a hb)])
  have h2 := congrArg UInt64.toInt64 h
  exact h2
theorem g_and1 {a : Nat} (ha : a < 2 ^ 64) : lN a &&& 1 = lN (a % 2) := g_and (b := 1) ha (by decide) (Nat.and_two_pow_sub_one_eq_mod a 1)
theorem g_mask {a s p : Nat} (hp : 2 ^ s = p) (hs : s < 64) (ha : a < 2 ^ 64) : lN a &&& lN (p - 1) = lN (a % p) := by
  subst hp
  have := Nat.pow_lt_pow_right (show 1 < 2 by decide) hs
  exact g_and ha (by omega) (Nat.and_two_pow_sub_one_eq_mod a s)
theorem g_or {k p a b : Nat} (hp : 2 ^ k = p) (ha : a < p) (h : b * p + a < 2 ^ 64) : lN (b * p) ||| lN a = lN (b * p + a) := by
  subst hp
  have h1 : b * 2 ^ k ||| a = b * 2 ^ k + a := by rw [← Nat.shiftLeft_eq, Nat.shiftLeft_add_eq_or_of_lt ha]
  have h3 : UInt64.ofNat (b * 2 ^ k) ||| UInt64.ofNat a = UInt64.ofNat (b * 2 ^ k + a) := UInt64.toNat_inj.mp (by rw [UInt64.toNat_or, u_tn (by omega), u_tn (by omega), u_tn h, h1])
  have h2 := congrArg UInt64.toInt64 h3
  exact h2
theorem g_or' {k p a b : Nat} (hp : 2 ^ k = p) (ha : a < p) (h : a + b * p < 2 ^ 64) : lN a ||| lN (b * p) = lN (a + b * p) := by
  rw [Int64.or_comm, g_or hp ha (by omega), Nat.add_comm]
theorem g_ushr {a k p : Nat} {y : UInt64} (hy : y = UInt64.ofNat k) (hk : k < 64) (hp : 2 ^ k = p) (ha : a < 2 ^ 64) : ((lN a).toUInt64 >>> y).toInt64 = lN (a / p) := by
  subst hy hp
  have h : UInt64.ofNat a >>> UInt64.ofNat k = UInt64.ofNat (a / 2 ^ k) := UInt64.toNat_inj.mp (by rw [UInt64.toNat_shiftRight, u_tn ha, u_tn (by omega), u_tn (Nat.lt_of_le_of_lt (Nat.div_le_self _ _) ha), Nat.mod_eq_of_lt hk, Nat.shiftRight_eq_div_pow])
  have h2 := congrArg UInt64.toInt64 h
  exact h2
theorem g_shl {a k p : Nat} {y : Int64} (hy : y.toBitVec.smod 64 = BitVec.ofNat 64 k) (hk : k < 64) (hp : 2 ^ k = p) (ha : a < 2 ^ 64) : lN a <<< y = lN (a * p) := by
  subst hp
  apply Int64.toBitVec_inj.mp
  rw [Int64.toBitVec_shiftLeft, hy]
  apply BitVec.eq_of_toNat_eq
  have hb : (lN a).toBitVec.toNat = a := Nat.mod_eq_of_lt ha
  have hk' : (BitVec.ofNat 64 k).toNat = k := Nat.mod_eq_of_lt (by omega)
  have h : ((lN a).toBitVec <<< BitVec.ofNat 64 k).toNat = (a * 2 ^ k) % 2 ^ 64 := by simp only [BitVec.shiftLeft_eq', BitVec.toNat_shiftLeft, hb, hk', Nat.shiftLeft_eq]
  exact h
end
section
/-! own rows: natural pictures of the arrays, words -/
def zu (f : Nat → Nat) (k v : Nat) : Nat → Nat := fun j => if j = k then v else f j
theorem zu_s {f : Nat → Nat} {k v : Nat} : zu f k v k = v := if_pos rfl
theorem zu_n {f : Nat → Nat} {k v j : Nat} (h : j ≠ k) : zu f k v j = f j := if_neg h
theorem zu_e (f : Nat → Nat) (k v j : Nat) : zu f k v j = if j = k then v else f j := rfl
theorem zu_I (f : Nat → Nat) (k v : Nat) : upd (fun n => nI (f n)) k (nI v) = fun n => nI (zu f k v n) := by
  funext j
  by_cases h : j = k
  · subst h; rw [pk_us, zu_s]
  · rw [pk_un h, zu_n h]
theorem zu_L (f : Nat → Nat) (k v : Nat) : vp_updL (fun n => lN (f n)) k (lN v) = fun n => lN (zu f k v n) := by
  funext j
  by_cases h : j = k
  · subst h; rw [pk_uLs, zu_s]
  · rw [pk_uLn h, zu_n h]
theorem z_m1 : nI 4294967295 = -1 := by decide
theorem z_in {n N : Nat} (h : n < N) (hN : N ≤ 128 := by decide) : vp_in (nI n) N := vp_in_nI h (by omega)
theorem z_cl {n : Nat} (h : n < 2147483648) : (nI n).toNatClampNeg = n := nI_clamp (by omega)
theorem z_eqm {n : Nat} (h : n < 4294967296) : nI n = -1 ↔ n = 4294967295 := by
  constructor
  · intro e
    rw [← z_m1] at e
    have h2 : (nI n).toBitVec.toNat = (nI 4294967295).toBitVec.toNat := by rw [e]
    rw [pk_tn (by omega), pk_tn (by omega)] at h2
    exact h2
  · intro e; rw [e]; exact z_m1
theorem z_st {w : Nat} (h : w < 2147483648) : (lN w &&& 3).toInt32 = nI (w % 4) := by
  have e : lN w &&& 3 = lN (w % 4) := g_mask (s := 2) (p := 4) (by decide) (by decide) (by omega)
  rw [e, lN_i]
theorem z_op {w : Nat} (h : w < 2147483648) : (((lN w).toUInt64 >>> ((2 : Int32).toInt64.toUInt64 &&& Int64.toUInt64 63)).toInt64 &&& 127).toInt32 = nI (w / 4 % 128) := by
  have e : ((lN w).toUInt64 >>> ((2 : Int32).toInt64.toUInt64 &&& Int64.toUInt64 63)).toInt64 = lN (w / 4) := wb_shr (k := 2) (by omega) (by decide)
  have e2 : lN (w / 4) &&& 127 = lN (w / 4 % 128) := g_mask (s := 7) (p := 128) (by decide) (by decide) (by omega)
  rw [e, e2, lN_i]
theorem z_nc {w : Nat} (h : w < 2147483648) : (((lN w).toUInt64 >>> ((9 : Int32).toInt64.toUInt64 &&& Int64.toUInt64 63)).toInt64 + 1) <<< ((9 : Int32).toInt64 &&& 63) = lN ((w / 512 + 1) * 512) := by
  have e : ((lN w).toUInt64 >>> ((9 : Int32).toInt64.toUInt64 &&& Int64.toUInt64 63)).toInt64 = lN (w / 512) := wb_shr (k := 9) (by omega) (by decide)
  have e2 : lN (w / 512 + 1) <<< ((9 : Int32).toInt64 &&& 63) = lN ((w / 512 + 1) * 512) := wb_shl (w / 512 + 1) (k := 9) (by decide)
  rw [e, lN_1, e2]
theorem z_hi : ∀ i, i < 64 → Nat.testBit 18446744073709551104 i = decide (9 ≤ i) := by decide +kernel
theorem z_mk {w : Nat} (h : w < 2147483648) : w &&& 18446744073709551104 = w / 512 * 512 := by
  have e : w / 512 * 512 = (w >>> 9) <<< 9 := by rw [Nat.shiftRight_eq_div_pow, Nat.shiftLeft_eq]
  rw [e]
  apply Nat.eq_of_testBit_eq
  intro i
  rw [Nat.testBit_and, Nat.testBit_shiftLeft, Nat.testBit_shiftRight]
  by_cases h64 : i < 64
  · rw [z_hi i h64]
    by_cases h9 : 9 ≤ i
    · rw [show 9 + (i - 9) = i by omega]; simp [h9]
    · simp [h9]
  · have f1 : Nat.testBit w i = false := Nat.testBit_lt_two_pow (Nat.lt_of_lt_of_le (show w < 2 ^ 31 by omega) (Nat.pow_le_pow_right (by decide) (by omega)))
    rw [show 9 + (i - 9) = i by omega, f1]; simp
theorem z_wo {w o s : Nat} (h : w < 2147483648) (ho : o < 128) (hs : s < 4) : ((lN w &&& (-512)) ||| ((nI o <<< ((2 : Int32) &&& 31)).toInt64)) ||| (nI s).toInt64 = lN (w / 512 * 512 + o * 4 + s) := by
  have e1 : lN w &&& (-512) = lN (w / 512 * 512) := by
    rw [show (-512 : Int64) = lN 18446744073709551104 by decide]
    rw [wb_and (by omega) (by decide), z_mk h]
  have e2 : nI o <<< ((2 : Int32) &&& 31) = nI (o * 4) := pk_shlN ((2 : Int32) &&& 31) 2 (by decide) (by omega)
  rw [e1, e2, nI_l (by omega), nI_l (by omega), g_or (k := 9) (p := 512) (by decide) (by omega) (by omega)]
  rw [show w / 512 * 512 + o * 4 = (w / 512 * 128 + o) * 4 by omega]
  exact g_or (k := 2) (p := 4) (by decide) (by omega) (by omega)
/-- different numbers below n are at most n -/
theorem z_pig {l : List Nat} (h : l.Nodup) {n : Nat} (hl : ∀ x, x ∈ l → x < n) : l.length ≤ n := by
  have h2 := h.length_le_of_subset (l₂ := List.range n) (fun x hx => List.mem_range.mpr (hl x hx))
  rwa [List.length_range] at h2
end
section
/-! the tree: keys K, decided children dl dr (4294967295: none), its nodes ns -/
def zt_nx (K : Nat → Int) (dl dr : Nat → Nat) (x : Int) (n : Nat) : Nat :=
  if dl n = 4294967295 then n else if x < K n then dl n else dr n
def zt_it (K : Nat → Int) (dl dr : Nat → Nat) (x : Int) : Nat → Nat
  | 0 => 0
  | i + 1 => zt_nx K dl dr x (zt_it K dl dr x i)
def zt_On (K : Nat → Int) (dl dr : Nat → Nat) (x : Int) (n : Nat) : Prop := ∃ i, zt_it K dl dr x i = n
def zt_T (K : Nat → Int) (dl dr : Nat → Nat) (ns : List Nat) : Prop :=
  ns.Nodup ∧ (∀ n, n ∈ ns → n < 99) ∧ (0 ∈ ns ∧ dl 0 ≠ 4294967295) ∧
  (∀ n, n ∈ ns → dl n ≠ 4294967295 → dl n ∈ ns ∧ dr n ∈ ns ∧ dl n ≠ 0 ∧ dr n ≠ 0) ∧
  (∀ n m, n ∈ ns → m ∈ ns → dl n ≠ 4294967295 → dl m ≠ 4294967295 → (dl n = dl m → n = m) ∧ (dr n = dr m → n = m) ∧ dl n ≠ dr m) ∧
  (∀ n, n ∈ ns → zt_On K dl dr (K n) n)
def zt_M (K : Nat → Int) (dl : Nat → Nat) (ns : List Nat) (x : Int) : Prop := ∃ n, n ∈ ns ∧ dl n = 4294967295 ∧ K n = x
section
variable {K : Nat → Int} {dl dr : Nat → Nat} {ns : List Nat}
theorem zt_nx_l {x : Int} {n : Nat} (h : dl n ≠ 4294967295) (hx : x < K n) : zt_nx K dl dr x n = dl n := by
  unfold zt_nx; rw [if_neg h, if_pos hx]
theorem zt_nx_r {x : Int} {n : Nat} (h : dl n ≠ 4294967295) (hx : ¬ x < K n) : zt_nx K dl dr x n = dr n := by
  unfold zt_nx; rw [if_neg h, if_neg hx]
theorem zt_nx_s {x : Int} {n : Nat} (h : dl n = 4294967295) : zt_nx K dl dr x n = n := by
  unfold zt_nx; rw [if_pos h]
theorem zt_nx_c {x : Int} {n : Nat} (h : dl n ≠ 4294967295) : (x < K n ∧ zt_nx K dl dr x n = dl n) ∨ (¬ x < K n ∧ zt_nx K dl dr x n = dr n) := by
  by_cases hx : x < K n
  · exact Or.inl ⟨hx, zt_nx_l h hx⟩
  · exact Or.inr ⟨hx, zt_nx_r h hx⟩
theorem zt_nd (T : zt_T K dl dr ns) : ns.Nodup := T.1
theorem zt_lt (T : zt_T K dl dr ns) {n : Nat} (h : n ∈ ns) : n < 99 := T.2.1 n h
theorem zt_0 (T : zt_T K dl dr ns) : 0 ∈ ns := T.2.2.1.1
theorem zt_0i (T : zt_T K dl dr ns) : dl 0 ≠ 4294967295 := T.2.2.1.2
theorem zt_ch (T : zt_T K dl dr ns) {n : Nat} (h : n ∈ ns) (hi : dl n ≠ 4294967295) : dl n ∈ ns ∧ dr n ∈ ns ∧ dl n ≠ 0 ∧ dr n ≠ 0 := T.2.2.2.1 n h hi
theorem zt_un (T : zt_T K dl dr ns) {n m : Nat} (h : n ∈ ns) (h2 : m ∈ ns) (hi : dl n ≠ 4294967295) (hi2 : dl m ≠ 4294967295) : (dl n = dl m → n = m) ∧ (dr n = dr m → n = m) ∧ dl n ≠ dr m := T.2.2.2.2.1 n m h h2 hi hi2
theorem zt_k (T : zt_T K dl dr ns) {n : Nat} (h : n ∈ ns) : zt_On K dl dr (K n) n := T.2.2.2.2.2 n h
theorem zt_nxm (T : zt_T K dl dr ns) {x : Int} {n : Nat} (h : n ∈ ns) : zt_nx K dl dr x n ∈ ns := by
  by_cases hi : dl n = 4294967295
  · rw [zt_nx_s hi]; exact h
  · rcases zt_nx_c (dr := dr) (K := K) (x := x) hi with ⟨_, e⟩ | ⟨_, e⟩ <;> rw [e]
    · exact (zt_ch T h hi).1
    · exact (zt_ch T h hi).2.1
theorem zt_itm (T : zt_T K dl dr ns) (x : Int) : ∀ i, zt_it K dl dr x i ∈ ns
  | 0 => zt_0 T
  | i + 1 => zt_nxm T (zt_itm T x i)
theorem zt_Om (T : zt_T K dl dr ns) {x : Int} {n : Nat} (h : zt_On K dl dr x n) : n ∈ ns := by
  obtain ⟨i, rfl⟩ := h; exact zt_itm T x i
theorem zt_O0 {x : Int} : zt_On K dl dr x 0 := ⟨0, rfl⟩
theorem zt_Os {x : Int} {n : Nat} (h : zt_On K dl dr x n) : zt_On K dl dr x (zt_nx K dl dr x n) := by
  obtain ⟨i, rfl⟩ := h; exact ⟨i + 1, rfl⟩
/-- the child that the search takes tells its parent and its side -/
theorem zt_nxu (T : zt_T K dl dr ns) {x y : Int} {n m : Nat} (h : n ∈ ns) (h2 : m ∈ ns) (hi : dl n ≠ 4294967295) (hi2 : dl m ≠ 4294967295) (e : zt_nx K dl dr x n = zt_nx K dl dr y m) : n = m := by
  have u := zt_un T h h2 hi hi2
  have u' := zt_un T h2 h hi2 hi
  rcases zt_nx_c (dr := dr) (K := K) (x := x) hi with ⟨_, e1⟩ | ⟨_, e1⟩ <;>
  rcases zt_nx_c (dr := dr) (K := K) (x := y) hi2 with ⟨_, e2⟩ | ⟨_, e2⟩ <;> rw [e1, e2] at e
  · exact u.1 e
  · exact absurd e u.2.2
  · exact absurd e.symm u'.2.2
  · exact u.2.1 e
theorem zt_nx0 (T : zt_T K dl dr ns) {x : Int} {n : Nat} (h : n ∈ ns) (hi : dl n ≠ 4294967295) : zt_nx K dl dr x n ≠ 0 := by
  rcases zt_nx_c (dr := dr) (K := K) (x := x) hi with ⟨_, e1⟩ | ⟨_, e1⟩ <;> rw [e1]
  · exact (zt_ch T h hi).2.2.1
  · exact (zt_ch T h hi).2.2.2
theorem zt_inj (T : zt_T K dl dr ns) (x : Int) {m : Nat} (hm : ∀ i, i < m → dl (zt_it K dl dr x i) ≠ 4294967295) :
    ∀ i j, i < j → j ≤ m → zt_it K dl dr x i ≠ zt_it K dl dr x j := by
  intro i
  induction i with
  | zero =>
    intro j hj hjm e
    obtain ⟨j, rfl⟩ : ∃ k, j = k + 1 := ⟨j - 1, by omega⟩
    exact zt_nx0 T (zt_itm T x j) (hm j (by omega)) e.symm
  | succ i ih =>
    intro j hj hjm e
    obtain ⟨j, rfl⟩ : ∃ k, j = k + 1 := ⟨j - 1, by omega⟩
    exact ih j (by omega) (by omega) (zt_nxu T (zt_itm T x i) (zt_itm T x j) (hm i (by omega)) (hm j (by omega)) e)
/-- a search meets at most 98 inner nodes -/
theorem zt_98 (T : zt_T K dl dr ns) (x : Int) {m : Nat} (hm : ∀ i, i < m → dl (zt_it K dl dr x i) ≠ 4294967295) : m ≤ 98 := by
  have nd : ((List.range (m + 1)).map (zt_it K dl dr x)).Nodup := by
    rw [List.nodup_iff_pairwise_ne, List.pairwise_map]
    refine List.Pairwise.imp_of_mem (R := fun a b => a < b) ?_ List.pairwise_lt_range
    intro a b ha hb hab
    exact zt_inj T x hm a b hab (by have := List.mem_range.mp hb; omega)
  have h := z_pig nd (n := 99) (by
    intro y hy
    obtain ⟨i, _, rfl⟩ := List.mem_map.mp hy
    exact zt_lt T (zt_itm T x i))
  rw [List.length_map, List.length_range] at h
  omega
theorem zt_stop {x : Int} {i : Nat} (h : dl (zt_it K dl dr x i) = 4294967295) : ∀ d, zt_it K dl dr x (i + d) = zt_it K dl dr x i
  | 0 => rfl
  | d + 1 => by
    have e := zt_stop h d
    show zt_nx K dl dr x (zt_it K dl dr x (i + d)) = _
    rw [e, zt_nx_s h]
theorem zt_lu {x : Int} {n m : Nat} (h : zt_On K dl dr x n) (hl : dl n = 4294967295) (h2 : zt_On K dl dr x m) (hl2 : dl m = 4294967295) : n = m := by
  obtain ⟨i, rfl⟩ := h
  obtain ⟨j, rfl⟩ := h2
  rcases Nat.le_total i j with hij | hij
  · have := zt_stop hl (j - i)
    rw [show i + (j - i) = j by omega] at this
    exact this.symm
  · have := zt_stop hl2 (i - j)
    rw [show j + (i - j) = i by omega] at this
    exact this
theorem zt_find (T : zt_T K dl dr ns) {x : Int} {n : Nat} (h : zt_On K dl dr x n) (hl : dl n = 4294967295) : zt_M K dl ns x ↔ K n = x := by
  constructor
  · rintro ⟨m, hm, hml, rfl⟩
    rw [zt_lu h hl (zt_k T hm) hml]
  · intro e; exact ⟨n, zt_Om T h, hl, e⟩
/-- the parent on the path -/
theorem zt_par {x : Int} {c : Nat} (h : zt_On K dl dr x c) (h0 : c ≠ 0) : ∃ p, zt_On K dl dr x p ∧ dl p ≠ 4294967295 ∧ zt_nx K dl dr x p = c ∧ p ≠ c := by
  obtain ⟨i, hi, hmin⟩ := pk_least _ h
  obtain ⟨i, rfl⟩ : ∃ k, i = k + 1 := by
    cases i with
    | zero => exact absurd hi.symm h0
    | succ k => exact ⟨k, rfl⟩
  have hne : zt_it K dl dr x i ≠ c := hmin i (by omega)
  refine ⟨_, ⟨i, rfl⟩, ?_, hi, hne⟩
  intro hl
  apply hne
  rw [← hi]
  exact (zt_nx_s hl).symm
theorem zt_up (T : zt_T K dl dr ns) {x : Int} {p c : Nat} (hp : p ∈ ns) (hi : dl p ≠ 4294967295) (hc : dl p = c ∨ dr p = c) (h : zt_On K dl dr x c) :
    zt_On K dl dr x p ∧ zt_nx K dl dr x p = c ∧ p ≠ c := by
  have h0 : c ≠ 0 := by
    rcases hc with e | e <;> rw [← e]
    · exact (zt_ch T hp hi).2.2.1
    · exact (zt_ch T hp hi).2.2.2
  obtain ⟨q, hq, hqi, e, hne⟩ := zt_par h h0
  have hqm := zt_Om T hq
  have : q = p := by
    have u := zt_un T hqm hp hqi hi
    have u' := zt_un T hp hqm hi hqi
    rcases zt_nx_c (dr := dr) (K := K) (x := x) hqi with ⟨_, e1⟩ | ⟨_, e1⟩ <;> rw [e1] at e <;> rcases hc with e2 | e2
    · exact u.1 (e.trans e2.symm)
    · exact absurd (e.trans e2.symm) u.2.2
    · exact absurd (e2.trans e.symm) u'.2.2
    · exact u.2.1 (e.trans e2.symm)
  subst this
  exact ⟨hq, e, hne⟩
theorem zt_upl (T : zt_T K dl dr ns) {x : Int} {p : Nat} (hp : p ∈ ns) (hi : dl p ≠ 4294967295) (h : zt_On K dl dr x (dl p)) : zt_On K dl dr x p ∧ x < K p := by
  obtain ⟨h1, h2, _⟩ := zt_up T hp hi (Or.inl rfl) h
  refine ⟨h1, ?_⟩
  rcases zt_nx_c (dr := dr) (K := K) (x := x) hi with ⟨a, _⟩ | ⟨_, e1⟩
  · exact a
  · exact absurd (h2.symm.trans e1) (zt_un T hp hp hi hi).2.2
theorem zt_upr (T : zt_T K dl dr ns) {x : Int} {p : Nat} (hp : p ∈ ns) (hi : dl p ≠ 4294967295) (h : zt_On K dl dr x (dr p)) : zt_On K dl dr x p ∧ ¬ x < K p := by
  obtain ⟨h1, h2, _⟩ := zt_up T hp hi (Or.inr rfl) h
  refine ⟨h1, ?_⟩
  rcases zt_nx_c (dr := dr) (K := K) (x := x) hi with ⟨_, e1⟩ | ⟨a, _⟩
  · exact absurd (e1.symm.trans h2) (zt_un T hp hp hi hi).2.2
  · exact a
theorem zt_cne (T : zt_T K dl dr ns) {p : Nat} (hp : p ∈ ns) (hi : dl p ≠ 4294967295) : p ≠ dl p ∧ p ≠ dr p :=
  ⟨(zt_up T hp hi (Or.inl rfl) (zt_k T (zt_ch T hp hi).1)).2.2, (zt_up T hp hi (Or.inr rfl) (zt_k T (zt_ch T hp hi).2.1)).2.2⟩
/-- what agrees on the nodes searches alike -/
theorem zt_itc (T : zt_T K dl dr ns) {K' : Nat → Int} {dl' dr' : Nat → Nat} (hK : ∀ n, n ∈ ns → K' n = K n) (hl : ∀ n, n ∈ ns → dl' n = dl n) (hr : ∀ n, n ∈ ns → dr' n = dr n) (x : Int) : ∀ i, zt_it K' dl' dr' x i = zt_it K dl dr x i
  | 0 => rfl
  | i + 1 => by
    show zt_nx K' dl' dr' x (zt_it K' dl' dr' x i) = zt_nx K dl dr x (zt_it K dl dr x i)
    rw [zt_itc T hK hl hr x i]
    have h := zt_itm T x i
    unfold zt_nx
    rw [hK _ h, hl _ h, hr _ h]
theorem zt_Oc (T : zt_T K dl dr ns) {K' : Nat → Int} (hK : ∀ n, n ∈ ns → K' n = K n) {x : Int} {n : Nat} : zt_On K' dl dr x n ↔ zt_On K dl dr x n := by
  unfold zt_On
  constructor
  · rintro ⟨i, e⟩; exact ⟨i, by rw [← e]; exact (zt_itc T hK (fun _ _ => rfl) (fun _ _ => rfl) x i).symm⟩
  · rintro ⟨i, e⟩; exact ⟨i, by rw [← e]; exact zt_itc T hK (fun _ _ => rfl) (fun _ _ => rfl) x i⟩
theorem zt_Tc (T : zt_T K dl dr ns) {K' : Nat → Int} (hK : ∀ n, n ∈ ns → K' n = K n) : zt_T K' dl dr ns := by
  obtain ⟨a, b, c, d, e, f⟩ := T
  refine ⟨a, b, c, d, e, fun n hn => ?_⟩
  rw [hK n hn]
  exact (zt_Oc ⟨a, b, c, d, e, f⟩ hK).mpr (f n hn)
theorem zt_nxK {K' : Nat → Int} {x : Int} {n : Nat} (h : K' n = K n) : zt_nx K' dl dr x n = zt_nx K dl dr x n := by
  unfold zt_nx; rw [h]
end
end
section
/-! a leaf l below P gives way to T over the leaves a and d; P below G gives way to S -/
def zd (f : Nat → Nat) (G P S : Nat) : Nat → Nat := fun n => if n = G ∧ f n = P then S else f n
def zi_l (dl : Nat → Nat) (P l T a d : Nat) : Nat → Nat := fun n => if n = T then a else if n = a ∨ n = d then 4294967295 else zd dl P l T n
def zi_r (dr : Nat → Nat) (P l T d : Nat) : Nat → Nat := fun n => if n = T then d else zd dr P l T n
theorem zd_s {f : Nat → Nat} {G P S n : Nat} (h : n = G) (h2 : f n = P) : zd f G P S n = S := if_pos ⟨h, h2⟩
theorem zd_n {f : Nat → Nat} {G P S n : Nat} (h : n ≠ G ∨ f n ≠ P) : zd f G P S n = f n := if_neg (by rintro ⟨a, b⟩; rcases h with h | h <;> contradiction)
section
variable {K K' : Nat → Int} {dl dr : Nat → Nat} {ns : List Nat} {P l Tn a d : Nat}
def zi_H (K K' : Nat → Int) (dl dr : Nat → Nat) (ns : List Nat) (P l Tn a d : Nat) : Prop :=
  P ∈ ns ∧ dl P ≠ 4294967295 ∧ (dl P = l ∨ dr P = l) ∧ dl l = 4294967295 ∧
  (Tn ∉ ns ∧ a ∉ ns ∧ d ∉ ns ∧ Tn ≠ a ∧ Tn ≠ d ∧ a ≠ d) ∧ (Tn < 99 ∧ a < 99 ∧ d < 99) ∧
  (∀ n, n ∈ ns → K' n = K n) ∧ K' Tn = K' d ∧ K' a < K' d ∧ zt_On K dl dr (K' a) l ∧ zt_On K dl dr (K' d) l
theorem zi_lm (T : zt_T K dl dr ns) (h : zi_H K K' dl dr ns P l Tn a d) : l ∈ ns := zt_Om T h.2.2.2.2.2.2.2.2.2.1
theorem zi_lo (h : zi_H K K' dl dr ns P l Tn a d) {n : Nat} (hn : n ∈ ns) : zi_l dl P l Tn a d n = zd dl P l Tn n ∧ zi_r dr P l Tn d n = zd dr P l Tn n := by
  obtain ⟨_, _, _, _, ⟨h1, h2, h3, _⟩, _⟩ := h
  unfold zi_l zi_r
  have e1 : n ≠ Tn := fun e => h1 (e ▸ hn)
  have e2 : n ≠ a := fun e => h2 (e ▸ hn)
  have e3 : n ≠ d := fun e => h3 (e ▸ hn)
  rw [if_neg e1, if_neg (by rintro (z | z) <;> contradiction), if_neg e1]
  exact ⟨rfl, rfl⟩
theorem zi_leaf (h : zi_H K K' dl dr ns P l Tn a d) {n : Nat} (hn : n ∈ ns) : zi_l dl P l Tn a d n = 4294967295 ↔ dl n = 4294967295 := by
  rw [(zi_lo h hn).1]
  obtain ⟨_, hi, _, _, _, ⟨hT, _⟩, _⟩ := h
  unfold zd
  by_cases e : n = P ∧ dl n = l
  · rw [if_pos e]
    have : dl n ≠ 4294967295 := by rw [e.1]; exact hi
    constructor
    · intro z; omega
    · intro z; exact absurd z this
  · rw [if_neg e]
theorem zi_nx (h : zi_H K K' dl dr ns P l Tn a d) {n : Nat} (hn : n ∈ ns) {z : Int} (hz : zt_nx K dl dr z n ≠ l) : zt_nx K' (zi_l dl P l Tn a d) (zi_r dr P l Tn d) z n = zt_nx K dl dr z n := by
  have hl := zi_leaf h hn
  have ho := zi_lo h hn
  have hK := h.2.2.2.2.2.2.1 n hn
  by_cases hi : dl n = 4294967295
  · rw [zt_nx_s hi, zt_nx_s (hl.mpr hi)]
  · have hi' : zi_l dl P l Tn a d n ≠ 4294967295 := fun z => hi (hl.mp z)
    by_cases hx : z < K n
    · rw [zt_nx_l hi hx] at hz ⊢
      rw [zt_nx_l hi' (by rw [hK]; exact hx), ho.1]
      exact zd_n (Or.inr hz)
    · rw [zt_nx_r hi hx] at hz ⊢
      rw [zt_nx_r hi' (by rw [hK]; exact hx), ho.2]
      exact zd_n (Or.inr hz)
theorem zi_it (T : zt_T K dl dr ns) (h : zi_H K K' dl dr ns P l Tn a d) (z : Int) : ∀ i, zt_it K dl dr z i ≠ l → zt_it K' (zi_l dl P l Tn a d) (zi_r dr P l Tn d) z i = zt_it K dl dr z i
  | 0, _ => rfl
  | i + 1, hne => by
    have hne' : zt_it K dl dr z i ≠ l := by
      intro e
      apply hne
      show zt_nx K dl dr z (zt_it K dl dr z i) = l
      rw [e]; exact zt_nx_s h.2.2.2.1
    have ih := zi_it T h z i hne'
    show zt_nx K' _ _ z (zt_it K' _ _ z i) = _
    rw [ih]
    exact zi_nx h (zt_itm T z i) hne
theorem zi_On (T : zt_T K dl dr ns) (h : zi_H K K' dl dr ns P l Tn a d) {z : Int} {n : Nat} (hn : n ≠ l) (ho : zt_On K dl dr z n) : zt_On K' (zi_l dl P l Tn a d) (zi_r dr P l Tn d) z n := by
  obtain ⟨i, rfl⟩ := ho
  exact ⟨i, zi_it T h z i hn⟩
theorem zi_OnT (T : zt_T K dl dr ns) (h : zi_H K K' dl dr ns P l Tn a d) {z : Int} (ho : zt_On K dl dr z l) : zt_On K' (zi_l dl P l Tn a d) (zi_r dr P l Tn d) z Tn := by
  have hP := h.1
  have hi := h.2.1
  obtain ⟨h1, h2, h3⟩ := zt_up T hP hi h.2.2.1 ho
  have h4 := zt_Os (zi_On T h h3 h1)
  have hi' : zi_l dl P l Tn a d P ≠ 4294967295 := fun z => hi ((zi_leaf h hP).mp z)
  have hK := h.2.2.2.2.2.2.1 P hP
  have hlo := zi_lo h hP
  have e : zt_nx K' (zi_l dl P l Tn a d) (zi_r dr P l Tn d) z P = Tn := by
    by_cases hx : z < K P
    · rw [zt_nx_l hi hx] at h2
      rw [zt_nx_l hi' (by rw [hK]; exact hx), hlo.1]
      exact zd_s rfl h2
    · rw [zt_nx_r hi hx] at h2
      rw [zt_nx_r hi' (by rw [hK]; exact hx), hlo.2]
      exact zd_s rfl h2
  rw [e] at h4
  exact h4
theorem zi_mem (T : zt_T K dl dr ns) {n : Nat} : n ∈ Tn :: a :: d :: ns.erase l ↔ n = Tn ∨ n = a ∨ n = d ∨ (n ≠ l ∧ n ∈ ns) := by
  rw [List.mem_cons, List.mem_cons, List.mem_cons, (zt_nd T).mem_erase_iff]
theorem zi_T (T : zt_T K dl dr ns) (h : zi_H K K' dl dr ns P l Tn a d) : zt_T K' (zi_l dl P l Tn a d) (zi_r dr P l Tn d) (Tn :: a :: d :: ns.erase l) := by
  have hH := h
  have hlm := zi_lm T h
  obtain ⟨hP, hi, hc, hl, ⟨n1, n2, n3, n4, n5, n6⟩, ⟨b1, b2, b3⟩, hK, hKT, hKa, hOa, hOd⟩ := h
  have h0l : (0 : Nat) ≠ l := fun e => zt_0i T (by rw [e]; exact hl)
  have z1 : Tn ≠ 0 := fun e => n1 (e ▸ zt_0 T)
  have z2 : a ≠ 0 := fun e => n2 (e ▸ zt_0 T)
  have z3 : d ≠ 0 := fun e => n3 (e ▸ zt_0 T)
  have lT : zi_l dl P l Tn a d Tn = a := by unfold zi_l; rw [if_pos rfl]
  have rT : zi_r dr P l Tn d Tn = d := by unfold zi_r; rw [if_pos rfl]
  have la : zi_l dl P l Tn a d a = 4294967295 := by unfold zi_l; rw [if_neg n4.symm, if_pos (Or.inl rfl)]
  have ld : zi_l dl P l Tn a d d = 4294967295 := by unfold zi_l; rw [if_neg n5.symm, if_pos (Or.inr rfl)]
  have iT : zi_l dl P l Tn a d Tn ≠ 4294967295 := by rw [lT]; omega
  have old : ∀ n, n ∈ ns → zi_l dl P l Tn a d n ≠ 4294967295 → n ≠ l ∧ dl n ≠ 4294967295 ∧
      ((n = P ∧ dl n = l ∧ zi_l dl P l Tn a d n = Tn) ∨ (dl n ≠ l ∧ zi_l dl P l Tn a d n = dl n)) ∧
      ((n = P ∧ dr n = l ∧ zi_r dr P l Tn d n = Tn) ∨ (dr n ≠ l ∧ zi_r dr P l Tn d n = dr n)) := by
    intro n hn hin
    have hin' : dl n ≠ 4294967295 := fun z => hin ((zi_leaf hH hn).mpr z)
    have u := zt_un T hn hP hin' hi
    have u' := zt_un T hP hn hi hin'
    rw [(zi_lo hH hn).1, (zi_lo hH hn).2]
    refine ⟨fun e => hin' (e ▸ hl), hin', ?_, ?_⟩
    · by_cases e : dl n = l
      · have : n = P := by
          rcases hc with e2 | e2
          · exact u.1 (e.trans e2.symm)
          · exact absurd (e.trans e2.symm) u.2.2
        exact Or.inl ⟨this, e, zd_s this e⟩
      · exact Or.inr ⟨e, zd_n (Or.inr e)⟩
    · by_cases e : dr n = l
      · have : n = P := by
          rcases hc with e2 | e2
          · exact absurd (e2.trans e.symm) u'.2.2
          · exact u.2.1 (e.trans e2.symm)
        exact Or.inl ⟨this, e, zd_s this e⟩
      · exact Or.inr ⟨e, zd_n (Or.inr e)⟩
  refine ⟨?_, ?_, ?_, ?_, ?_, ?_⟩
  · rw [List.nodup_cons, List.nodup_cons, List.nodup_cons, List.mem_cons, List.mem_cons, List.mem_cons]
    have q : ∀ n, n ∉ ns → n ∉ ns.erase l := fun n hn z => hn (List.mem_of_mem_erase z)
    refine ⟨?_, ?_, q d n3, (zt_nd T).erase l⟩
    · rintro (z | z | z)
      · exact n4 z
      · exact n5 z
      · exact q Tn n1 z
    · rintro (z | z)
      · exact n6 z
      · exact q a n2 z
  · intro n hn
    rcases (zi_mem T).mp hn with rfl | rfl | rfl | ⟨_, hn⟩
    · exact b1
    · exact b2
    · exact b3
    · exact zt_lt T hn
  · refine ⟨(zi_mem T).mpr (Or.inr (Or.inr (Or.inr ⟨h0l, zt_0 T⟩))), fun z => zt_0i T ((zi_leaf hH (zt_0 T)).mp z)⟩
  · intro n hn hin
    rw [zi_mem T, zi_mem T]
    rcases (zi_mem T).mp hn with rfl | rfl | rfl | ⟨hnl, hn⟩
    · rw [lT, rT]
      exact ⟨Or.inr (Or.inl rfl), Or.inr (Or.inr (Or.inl rfl)), z2, z3⟩
    · exact absurd la hin
    · exact absurd ld hin
    · obtain ⟨_, hin', ca, cb⟩ := old n hn hin
      have c := zt_ch T hn hin'
      rcases ca with ⟨_, _, ea⟩ | ⟨ea', ea⟩ <;> rcases cb with ⟨_, _, eb⟩ | ⟨eb', eb⟩ <;> rw [ea, eb]
      · exact ⟨Or.inl rfl, Or.inl rfl, z1, z1⟩
      · exact ⟨Or.inl rfl, Or.inr (Or.inr (Or.inr ⟨eb', c.2.1⟩)), z1, c.2.2.2⟩
      · exact ⟨Or.inr (Or.inr (Or.inr ⟨ea', c.1⟩)), Or.inl rfl, c.2.2.1, z1⟩
      · exact ⟨Or.inr (Or.inr (Or.inr ⟨ea', c.1⟩)), Or.inr (Or.inr (Or.inr ⟨eb', c.2.1⟩)), c.2.2.1, c.2.2.2⟩
  · intro n m hn hm hin him
    have aux : ∀ n, n ∈ ns → zi_l dl P l Tn a d n ≠ 4294967295 → zi_l dl P l Tn a d n ≠ a ∧ zi_l dl P l Tn a d n ≠ d ∧ zi_r dr P l Tn d n ≠ a ∧ zi_r dr P l Tn d n ≠ d := by
      intro n hn hin
      obtain ⟨_, hin', ca, cb⟩ := old n hn hin
      have c := zt_ch T hn hin'
      have w1 : ∀ q, q ∈ ns → q ≠ a ∧ q ≠ d := fun q hq => ⟨fun e => n2 (e ▸ hq), fun e => n3 (e ▸ hq)⟩
      have w2 := w1 _ c.1
      have w3 := w1 _ c.2.1
      rcases ca with ⟨_, _, ea⟩ | ⟨_, ea⟩ <;> rcases cb with ⟨_, _, eb⟩ | ⟨_, eb⟩ <;> rw [ea, eb]
      · exact ⟨n4, n5, n4, n5⟩
      · exact ⟨n4, n5, w3.1, w3.2⟩
      · exact ⟨w2.1, w2.2, n4, n5⟩
      · exact ⟨w2.1, w2.2, w3.1, w3.2⟩
    rcases (zi_mem T).mp hn with rfl | rfl | rfl | ⟨hnl, hn2⟩
    · rw [lT, rT]
      rcases (zi_mem T).mp hm with e | rfl | rfl | ⟨hml, hm2⟩
      · subst e; rw [lT, rT]; exact ⟨fun _ => rfl, fun _ => rfl, n6⟩
      · exact absurd la him
      · exact absurd ld him
      · have w := aux m hm2 him
        exact ⟨fun e => absurd e.symm w.1, fun e => absurd e.symm w.2.2.2, fun e => w.2.2.1 e.symm⟩
    · exact absurd la hin
    · exact absurd ld hin
    · rcases (zi_mem T).mp hm with e | rfl | rfl | ⟨hml, hm2⟩
      · subst e; rw [lT, rT]
        have w := aux n hn2 hin
        exact ⟨fun e => absurd e w.1, fun e => absurd e w.2.2.2, fun e => w.2.1 e⟩
      · exact absurd la him
      · exact absurd ld him
      · obtain ⟨_, hin', ca, cb⟩ := old n hn2 hin
        obtain ⟨_, him', da, db⟩ := old m hm2 him
        have u := zt_un T hn2 hm2 hin' him'
        have uP := zt_un T hP hP hi hi
        have c1 := zt_ch T hn2 hin'
        have c2 := zt_ch T hm2 him'
        have v1 : dl n ≠ Tn := fun e => n1 (e ▸ c1.1)
        have v2 : dr n ≠ Tn := fun e => n1 (e ▸ c1.2.1)
        have v3 : dl m ≠ Tn := fun e => n1 (e ▸ c2.1)
        have v4 : dr m ≠ Tn := fun e => n1 (e ▸ c2.2.1)
        refine ⟨?_, ?_, ?_⟩
        · rcases ca with ⟨p1, _, ea⟩ | ⟨_, ea⟩ <;> rcases da with ⟨p2, _, eb⟩ | ⟨_, eb⟩ <;> rw [ea, eb]
          · intro _; rw [p1, p2]
          · intro e; exact absurd e.symm v3
          · intro e; exact absurd e v1
          · exact u.1
        · rcases cb with ⟨p1, _, ea⟩ | ⟨_, ea⟩ <;> rcases db with ⟨p2, _, eb⟩ | ⟨_, eb⟩ <;> rw [ea, eb]
          · intro _; rw [p1, p2]
          · intro e; exact absurd e.symm v4
          · intro e; exact absurd e v2
          · exact u.2.1
        · rcases ca with ⟨p1, q1, ea⟩ | ⟨_, ea⟩ <;> rcases db with ⟨p2, q2, eb⟩ | ⟨_, eb⟩ <;> rw [ea, eb]
          · exfalso; rw [p1] at q1; rw [p2] at q2; exact uP.2.2 (q1.trans q2.symm)
          · exact v4.symm
          · exact v1
          · exact u.2.2
  · intro n hn
    have oa := zi_OnT T hH hOa
    have od := zi_OnT T hH hOd
    rcases (zi_mem T).mp hn with rfl | rfl | rfl | ⟨hnl, hn⟩
    · rw [hKT]; exact od
    · have := zt_Os oa
      rw [zt_nx_l iT (by rw [hKT]; exact hKa), lT] at this
      exact this
    · have := zt_Os od
      rw [zt_nx_r iT (by rw [hKT]; omega), rT] at this
      exact this
    · rw [hK n hn]
      exact zi_On T hH hnl (zt_k T hn)
theorem zi_M (T : zt_T K dl dr ns) (h : zi_H K K' dl dr ns P l Tn a d) (y : Int) : zt_M K' (zi_l dl P l Tn a d) (Tn :: a :: d :: ns.erase l) y ↔ (zt_M K dl ns y ∧ y ≠ K l) ∨ y = K' a ∨ y = K' d := by
  have hH := h
  have hlm := zi_lm T h
  obtain ⟨hP, hi, hc, hl, ⟨n1, n2, n3, n4, n5, n6⟩, ⟨b1, b2, b3⟩, hK, hKT, hKa, hOa, hOd⟩ := h
  have lT : zi_l dl P l Tn a d Tn = a := by unfold zi_l; rw [if_pos rfl]
  have la : zi_l dl P l Tn a d a = 4294967295 := by unfold zi_l; rw [if_neg n4.symm, if_pos (Or.inl rfl)]
  have ld : zi_l dl P l Tn a d d = 4294967295 := by unfold zi_l; rw [if_neg n5.symm, if_pos (Or.inr rfl)]
  constructor
  · rintro ⟨n, hn, hnl, rfl⟩
    rcases (zi_mem T).mp hn with rfl | rfl | rfl | ⟨hne, hn⟩
    · rw [lT] at hnl; omega
    · exact Or.inr (Or.inl rfl)
    · exact Or.inr (Or.inr rfl)
    · have hnl' := (zi_leaf hH hn).mp hnl
      rw [hK n hn]
      refine Or.inl ⟨⟨n, hn, hnl', rfl⟩, fun e => hne ?_⟩
      have o1 := zt_k T hn
      rw [e] at o1
      exact zt_lu o1 hnl' (zt_k T hlm) hl
  · rintro (⟨⟨n, hn, hnl, rfl⟩, hne⟩ | rfl | rfl)
    · exact ⟨n, (zi_mem T).mpr (Or.inr (Or.inr (Or.inr ⟨fun e => hne (by rw [e]), hn⟩))), (zi_leaf hH hn).mpr hnl, hK n hn⟩
    · exact ⟨a, (zi_mem T).mpr (Or.inr (Or.inl rfl)), la, rfl⟩
    · exact ⟨d, (zi_mem T).mpr (Or.inr (Or.inr (Or.inl rfl))), ld, rfl⟩
theorem zi_len (T : zt_T K dl dr ns) (h : zi_H K K' dl dr ns P l Tn a d) : (Tn :: a :: d :: ns.erase l).length = ns.length + 2 := by
  have hlm := zi_lm T h
  have := List.length_pos_of_mem hlm
  simp only [List.length_cons, List.length_erase_of_mem hlm]
  omega
end
section
variable {K : Nat → Int} {dl dr : Nat → Nat} {ns : List Nat} {G P S l : Nat}
def zd_H (dl dr : Nat → Nat) (ns : List Nat) (G P S l : Nat) : Prop :=
  G ∈ ns ∧ P ∈ ns ∧ dl G ≠ 4294967295 ∧ dl P ≠ 4294967295 ∧ (dl G = P ∨ dr G = P) ∧ ((dl P = l ∧ dr P = S) ∨ (dl P = S ∧ dr P = l)) ∧ dl l = 4294967295
def zd_F (dl dr : Nat → Nat) (ns : List Nat) (G P S l : Nat) : Prop :=
  l ∈ ns ∧ S ∈ ns ∧ G ≠ P ∧ G ≠ l ∧ P ≠ l ∧ S ≠ P ∧ S ≠ l ∧ S ≠ 0 ∧ P ≠ 0 ∧
  (∀ n, n ∈ ns → dl n ≠ 4294967295 → (dl n = P → n = G) ∧ (dr n = P → n = G) ∧ (dl n = l → n = P) ∧ (dr n = l → n = P) ∧ (dl n = S → n = P) ∧ (dr n = S → n = P))
theorem zd_f (T : zt_T K dl dr ns) (h : zd_H dl dr ns G P S l) : zd_F dl dr ns G P S l := by
  obtain ⟨hG, hP, iG, iP, cG, cP, hl⟩ := h
  have cc := zt_ch T hP iP
  have cg := zt_ch T hG iG
  have uPP := zt_un T hP hP iP iP
  have nG := zt_cne T hG iG
  have nP := zt_cne T hP iP
  have hlm : l ∈ ns := by
    rcases cP with ⟨e, _⟩ | ⟨_, e⟩ <;> rw [← e]
    · exact cc.1
    · exact cc.2.1
  have hSm : S ∈ ns ∧ S ≠ 0 ∧ S ≠ P ∧ S ≠ l := by
    rcases cP with ⟨e, e2⟩ | ⟨e, e2⟩
    · rw [← e2]; exact ⟨cc.2.1, cc.2.2.2, nP.2.symm, fun z => uPP.2.2 (e.trans z.symm)⟩
    · rw [← e]; exact ⟨cc.1, cc.2.2.1, nP.1.symm, fun z => uPP.2.2 (z.trans e2.symm)⟩
  have hP0 : P ≠ 0 := by
    rcases cG with e | e <;> rw [← e]
    · exact cg.2.2.1
    · exact cg.2.2.2
  refine ⟨hlm, hSm.1, ?_, fun e => iG (e ▸ hl), fun e => iP (e ▸ hl), hSm.2.2.1, hSm.2.2.2, hSm.2.1, hP0, ?_⟩
  · rcases cG with e | e <;> rw [← e]
    · exact nG.1
    · exact nG.2
  · intro n hn hi
    have u := zt_un T hn hG hi iG
    have u' := zt_un T hG hn iG hi
    have v := zt_un T hn hP hi iP
    have v' := zt_un T hP hn iP hi
    refine ⟨?_, ?_, ?_, ?_, ?_, ?_⟩
    · intro e
      rcases cG with z | z
      · exact u.1 (e.trans z.symm)
      · exact absurd (e.trans z.symm) u.2.2
    · intro e
      rcases cG with z | z
      · exact absurd (z.trans e.symm) u'.2.2
      · exact u.2.1 (e.trans z.symm)
    · intro e
      rcases cP with ⟨z, _⟩ | ⟨_, z⟩
      · exact v.1 (e.trans z.symm)
      · exact absurd (e.trans z.symm) v.2.2
    · intro e
      rcases cP with ⟨z, _⟩ | ⟨_, z⟩
      · exact absurd (z.trans e.symm) v'.2.2
      · exact v.2.1 (e.trans z.symm)
    · intro e
      rcases cP with ⟨_, z⟩ | ⟨z, _⟩
      · exact absurd (e.trans z.symm) v.2.2
      · exact v.1 (e.trans z.symm)
    · intro e
      rcases cP with ⟨_, z⟩ | ⟨z, _⟩
      · exact v.2.1 (e.trans z.symm)
      · exact absurd (z.trans e.symm) v'.2.2
theorem zd_leaf (T : zt_T K dl dr ns) (h : zd_H dl dr ns G P S l) {n : Nat} : zd dl G P S n = 4294967295 ↔ dl n = 4294967295 := by
  have f := zd_f T h
  have hS := zt_lt T f.2.1
  unfold zd
  by_cases e : n = G ∧ dl n = P
  · rw [if_pos e]
    constructor
    · intro z; omega
    · intro z; rw [e.1] at z; exact absurd z h.2.2.1
  · rw [if_neg e]
theorem zd_nx (T : zt_T K dl dr ns) (h : zd_H dl dr ns G P S l) {n : Nat} {z : Int} : zt_nx K (zd dl G P S) (zd dr G P S) z n = if n = G ∧ zt_nx K dl dr z n = P then S else zt_nx K dl dr z n := by
  have hl := zd_leaf T h (n := n)
  by_cases hi : dl n = 4294967295
  · rw [zt_nx_s hi, zt_nx_s (hl.mpr hi), if_neg]
    rintro ⟨e, _⟩
    rw [e] at hi; exact h.2.2.1 hi
  · have hi' : zd dl G P S n ≠ 4294967295 := fun z => hi (hl.mp z)
    by_cases hx : z < K n
    · rw [zt_nx_l hi hx, zt_nx_l hi' hx]; rfl
    · rw [zt_nx_r hi hx, zt_nx_r hi' hx]; rfl
theorem zd_it (T : zt_T K dl dr ns) (h : zd_H dl dr ns G P S l) (z : Int) : ∀ i,
    (zt_it K dl dr z i ≠ P → zt_it K dl dr z i ≠ l → zt_On K (zd dl G P S) (zd dr G P S) z (zt_it K dl dr z i)) ∧
    (zt_it K dl dr z i = P → zt_On K (zd dl G P S) (zd dr G P S) z G ∧ zt_nx K dl dr z G = P) := by
  have f := zd_f T h
  obtain ⟨hG, hP, iG, iP, cG, cP, hl⟩ := id h
  obtain ⟨f1, f2, f3, f4, f5, f6, f7, f8, f9, f10⟩ := f
  intro i
  induction i with
  | zero => exact ⟨fun _ _ => zt_O0, fun e => absurd e f9.symm⟩
  | succ i ih =>
    have hm := zt_itm T z i
    have e1 : zt_it K dl dr z (i + 1) = zt_nx K dl dr z (zt_it K dl dr z i) := rfl
    rw [e1]
    generalize zt_it K dl dr z i = n at ih hm
    by_cases hi : dl n = 4294967295
    · rw [zt_nx_s hi]; exact ih
    · have hnl : n ≠ l := fun e => hi (e ▸ hl)
      by_cases hnP : n = P
      · have := ih.2 hnP
        have hS : zt_On K (zd dl G P S) (zd dr G P S) z S := by
          have q := zt_Os this.1
          rw [zd_nx T h, if_pos ⟨rfl, this.2⟩] at q
          exact q
        subst hnP
        constructor
        · intro _ a2
          rcases zt_nx_c (dr := dr) (K := K) (x := z) hi with ⟨_, e⟩ | ⟨_, e⟩ <;> rw [e] at a2 ⊢ <;> rcases cP with ⟨c1, c2⟩ | ⟨c1, c2⟩
          · exact absurd c1 a2
          · rw [c1]; exact hS
          · rw [c2]; exact hS
          · exact absurd c2 a2
        · intro a
          exfalso
          have := zt_cne T hm hi
          rcases zt_nx_c (dr := dr) (K := K) (x := z) hi with ⟨_, e⟩ | ⟨_, e⟩ <;> rw [e] at a
          · exact this.1 a.symm
          · exact this.2 a.symm
      · have o := ih.1 hnP hnl
        constructor
        · intro a1 _
          have q := zt_Os o
          rw [zd_nx T h, if_neg (fun w => a1 w.2)] at q
          exact q
        · intro a
          have : n = G := by
            rcases zt_nx_c (dr := dr) (K := K) (x := z) hi with ⟨_, e⟩ | ⟨_, e⟩ <;> rw [e] at a
            · exact (f10 n hm hi).1 a
            · exact (f10 n hm hi).2.1 a
          subst this
          exact ⟨o, a⟩
theorem zd_On (T : zt_T K dl dr ns) (h : zd_H dl dr ns G P S l) {z : Int} {n : Nat} (h1 : n ≠ P) (h2 : n ≠ l) (ho : zt_On K dl dr z n) : zt_On K (zd dl G P S) (zd dr G P S) z n := by
  obtain ⟨i, rfl⟩ := ho
  exact (zd_it T h z i).1 h1 h2
theorem zd_mem (T : zt_T K dl dr ns) {n : Nat} : n ∈ (ns.erase P).erase l ↔ n ≠ l ∧ n ≠ P ∧ n ∈ ns := by
  rw [((zt_nd T).erase P).mem_erase_iff, (zt_nd T).mem_erase_iff]
theorem zd_T (T : zt_T K dl dr ns) (h : zd_H dl dr ns G P S l) : zt_T K (zd dl G P S) (zd dr G P S) ((ns.erase P).erase l) := by
  have f := zd_f T h
  obtain ⟨hG, hP, iG, iP, cG, cP, hl⟩ := id h
  obtain ⟨f1, f2, f3, f4, f5, f6, f7, f8, f9, f10⟩ := f
  have nz : ∀ g : Nat → Nat, ∀ n, (zd g G P S n = S ∧ n = G ∧ g n = P) ∨ (zd g G P S n = g n ∧ ¬ (n = G ∧ g n = P)) := by
    intro g n
    unfold zd
    by_cases e : n = G ∧ g n = P
    · rw [if_pos e]; exact Or.inl ⟨rfl, e⟩
    · rw [if_neg e]; exact Or.inr ⟨rfl, e⟩
  refine ⟨((zt_nd T).erase P).erase l, ?_, ?_, ?_, ?_, ?_⟩
  · intro n hn
    exact zt_lt T ((zd_mem T).mp hn).2.2
  · exact ⟨(zd_mem T).mpr ⟨fun e => zt_0i T (e ▸ hl), f9.symm, zt_0 T⟩, fun z => zt_0i T ((zd_leaf T h).mp z)⟩
  · intro n hn hin
    obtain ⟨a1, a2, a3⟩ := (zd_mem T).mp hn
    have hi : dl n ≠ 4294967295 := fun z => hin ((zd_leaf T h).mpr z)
    have c := zt_ch T a3 hi
    have q := f10 n a3 hi
    rw [zd_mem T, zd_mem T]
    rcases nz dl n with ⟨e, g1, g2⟩ | ⟨e, g⟩ <;> rcases nz dr n with ⟨e', g1', g2'⟩ | ⟨e', g'⟩ <;> rw [e, e']
    · exact ⟨⟨f7, f6, f2⟩, ⟨f7, f6, f2⟩, f8, f8⟩
    · exact ⟨⟨f7, f6, f2⟩, ⟨fun z => a2 (q.2.2.2.1 z), fun z => g' ⟨q.2.1 z, z⟩, c.2.1⟩, f8, c.2.2.2⟩
    · exact ⟨⟨fun z => a2 (q.2.2.1 z), fun z => g ⟨q.1 z, z⟩, c.1⟩, ⟨f7, f6, f2⟩, c.2.2.1, f8⟩
    · exact ⟨⟨fun z => a2 (q.2.2.1 z), fun z => g ⟨q.1 z, z⟩, c.1⟩, ⟨fun z => a2 (q.2.2.2.1 z), fun z => g' ⟨q.2.1 z, z⟩, c.2.1⟩, c.2.2.1, c.2.2.2⟩
  · intro n m hn hm hin him
    obtain ⟨a1, a2, a3⟩ := (zd_mem T).mp hn
    obtain ⟨b1, b2, b3⟩ := (zd_mem T).mp hm
    have hi : dl n ≠ 4294967295 := fun z => hin ((zd_leaf T h).mpr z)
    have hi2 : dl m ≠ 4294967295 := fun z => him ((zd_leaf T h).mpr z)
    have q := f10 n a3 hi
    have q2 := f10 m b3 hi2
    have u := zt_un T a3 b3 hi hi2
    have uG := zt_un T hG hG iG iG
    refine ⟨?_, ?_, ?_⟩
    · rcases nz dl n with ⟨e, g1, g2⟩ | ⟨e, g⟩ <;> rcases nz dl m with ⟨e', g1', g2'⟩ | ⟨e', g'⟩ <;> rw [e, e']
      · intro _; rw [g1, g1']
      · intro z; exact absurd (q2.2.2.2.2.1 z.symm) b2
      · intro z; exact absurd (q.2.2.2.2.1 z) a2
      · exact u.1
    · rcases nz dr n with ⟨e, g1, g2⟩ | ⟨e, g⟩ <;> rcases nz dr m with ⟨e', g1', g2'⟩ | ⟨e', g'⟩ <;> rw [e, e']
      · intro _; rw [g1, g1']
      · intro z; exact absurd (q2.2.2.2.2.2 z.symm) b2
      · intro z; exact absurd (q.2.2.2.2.2 z) a2
      · exact u.2.1
    · rcases nz dl n with ⟨e, g1, g2⟩ | ⟨e, g⟩ <;> rcases nz dr m with ⟨e', g1', g2'⟩ | ⟨e', g'⟩ <;> rw [e, e']
      · exfalso; rw [g1] at g2; rw [g1'] at g2'; exact uG.2.2 (g2.trans g2'.symm)
      · intro z; exact absurd (q2.2.2.2.2.2 z.symm) b2
      · intro z; exact absurd (q.2.2.2.2.1 z) a2
      · exact u.2.2
  · intro n hn
    obtain ⟨a1, a2, a3⟩ := (zd_mem T).mp hn
    exact zd_On T h a2 a1 (zt_k T a3)
theorem zd_M (T : zt_T K dl dr ns) (h : zd_H dl dr ns G P S l) (y : Int) : zt_M K (zd dl G P S) ((ns.erase P).erase l) y ↔ zt_M K dl ns y ∧ y ≠ K l := by
  have f := zd_f T h
  obtain ⟨hG, hP, iG, iP, cG, cP, hl⟩ := id h
  constructor
  · rintro ⟨n, hn, hnl, rfl⟩
    obtain ⟨a1, a2, a3⟩ := (zd_mem T).mp hn
    have hnl' := (zd_leaf T h).mp hnl
    refine ⟨⟨n, a3, hnl', rfl⟩, fun e => a1 ?_⟩
    have o1 := zt_k T a3
    rw [e] at o1
    exact zt_lu o1 hnl' (zt_k T f.1) hl
  · rintro ⟨⟨n, hn, hnl, rfl⟩, hne⟩
    exact ⟨n, (zd_mem T).mpr ⟨fun e => hne (by rw [e]), fun e => iP (e ▸ hnl), hn⟩, (zd_leaf T h).mpr hnl, rfl⟩
theorem zd_len (T : zt_T K dl dr ns) (h : zd_H dl dr ns G P S l) : ((ns.erase P).erase l).length + 2 = ns.length := by
  have f := zd_f T h
  have h1 : l ∈ ns.erase P := (zt_nd T).mem_erase_iff.mpr ⟨f.2.2.2.2.1.symm, f.1⟩
  have p1 := List.length_pos_of_mem h1
  have p2 := List.length_pos_of_mem h.2.1
  rw [List.length_erase_of_mem h1]
  rw [List.length_erase_of_mem h.2.1] at p1 ⊢
  omega
/-- what hangs below G's child lies on its side of G -/
theorem zd_side (T : zt_T K dl dr ns) (h : zd_H dl dr ns G P S l) : (dl G = P ↔ K S < K G) ∧ (dr G = P ↔ ¬ K S < K G) := by
  have f := zd_f T h
  obtain ⟨hG, hP, iG, iP, cG, cP, hl⟩ := id h
  have o1 := zt_up T hP iP (c := S) (by rcases cP with ⟨_, e⟩ | ⟨e, _⟩ <;> simp [e]) (zt_k T f.2.1)
  have u := zt_un T hG hG iG iG
  rcases cG with e | e
  · have := zt_upl T hG iG (by rw [e]; exact o1.1)
    refine ⟨⟨fun _ => this.2, fun _ => e⟩, ⟨fun e2 => absurd (e.trans e2.symm) u.2.2, fun w => absurd this.2 w⟩⟩
  · have := zt_upr T hG iG (by rw [e]; exact o1.1)
    refine ⟨⟨fun e2 => absurd (e2.trans e.symm) u.2.2, fun w => absurd w this.2⟩, ⟨fun _ => this.2, fun _ => e⟩⟩
end
end
section
/-! the core state: free top, next op, keys, left, right, words, free stack, op node, op old, op new, op word -/
abbrev CS : Type := Nat × Nat × (Nat → Int32) × (Nat → Nat) × (Nat → Nat) × (Nat → Nat) × (Nat → Nat) × (Nat → Nat) × (Nat → Nat) × (Nat → Nat) × (Nat → Nat)
abbrev GS : Type := List Nat × (Nat → Nat) × (Nat → Nat)
def zft (s : CS) : Nat := s.1
def zno (s : CS) : Nat := s.2.1
def zky (s : CS) : Nat → Int32 := s.2.2.1
def zL (s : CS) : Nat → Nat := s.2.2.2.1
def zR (s : CS) : Nat → Nat := s.2.2.2.2.1
def zU (s : CS) : Nat → Nat := s.2.2.2.2.2.1
def zF (s : CS) : Nat → Nat := s.2.2.2.2.2.2.1
def zN (s : CS) : Nat → Nat := s.2.2.2.2.2.2.2.1
def zO (s : CS) : Nat → Nat := s.2.2.2.2.2.2.2.2.1
def zC (s : CS) : Nat → Nat := s.2.2.2.2.2.2.2.2.2.1
def zW (s : CS) : Nat → Nat := s.2.2.2.2.2.2.2.2.2.2
def zK (s : CS) : Nat → Int := fun n => (zky s n).toInt
def gn (g : GS) : List Nat := g.1
def gl (g : GS) : Nat → Nat := g.2.1
def gr (g : GS) : Nat → Nat := g.2.2
/-- n lies on the free stack -/
def zFr (s : CS) (n : Nat) : Prop := ∃ i, i < zft s ∧ zF s i = n
/-- a swing of op o would change nothing -/
def zSw (s : CS) (o : Nat) : Prop := (zK s (zN s o) ≤ zK s (zC s o) → zR s (zN s o) ≠ zO s o) ∧ (¬ zK s (zN s o) ≤ zK s (zC s o) → zL s (zN s o) ≠ zO s o)
def zPd (s : CS) (o : Nat) : Prop := zW s o = zU s (zN s o)
/-- an inner node that isn't free -/
def zIA (s : CS) : Prop := ∀ n, n < 99 → ¬ zFr s n → zL s n ≠ 4294967295 → zL s n < 99 ∧ zR s n < 99 ∧ (zU s n % 4 ≠ 0 → zU s n / 4 % 128 < zno s)
/-- a node of the tree -/
def zIN (s : CS) (g : GS) : Prop := ∀ n, n ∈ gn g → (zL s n = 4294967295 ↔ gl g n = 4294967295) ∧ ¬ zFr s n ∧
  (zL s n ≠ 4294967295 → (zU s n % 512 = 0 ∧ zL s n = gl g n ∧ zR s n = gr g n) ∨ (∃ o, o < zno s ∧ zN s o = n ∧ zW s o = zU s n))
def zO4 (s : CS) (g : GS) (o : Nat) : Prop := zN s o ∈ gn g ∧ zC s o ∈ gn g ∧
  (zK s (zN s o) ≤ zK s (zC s o) → gr g (zN s o) = zC s o ∧ (zR s (zN s o) = zO s o ∨ zR s (zN s o) = zC s o) ∧ zL s (zN s o) = gl g (zN s o)) ∧
  (¬ zK s (zN s o) ≤ zK s (zC s o) → gl g (zN s o) = zC s o ∧ (zL s (zN s o) = zO s o ∨ zL s (zN s o) = zC s o) ∧ zR s (zN s o) = gr g (zN s o))
def zO5 (s : CS) (g : GS) (o : Nat) : Prop := zO s o ∉ gn g ∧ ¬ zFr s (zN s o) ∧ ¬ zFr s (zO s o) ∧ ¬ zFr s (zC s o) ∧ zL s (zN s o) ≠ 4294967295
/-- a spent descriptor -/
def zIO (s : CS) (g : GS) : Prop := ∀ o, o < zno s → (zN s o < 99 ∧ zO s o < 99 ∧ zC s o < 99 ∧ zW s o % 4 ≠ 0 ∧ zW s o / 4 % 128 = o) ∧
  zW s o ≤ zU s (zN s o) ∧ (¬ zPd s o → zSw s o) ∧ (zPd s o → zO4 s g o) ∧ zO5 s g o
def zIF (s : CS) : Prop := zft s ≤ 99 ∧ (∀ i, i < zft s → zF s i < 99) ∧ (∀ i j, i < j → j < zft s → zF s i ≠ zF s j)
def zI (B : Nat) (s : CS) (g : GS) : Prop := zt_T (zK s) (gl g) (gr g) (gn g) ∧ zIA s ∧ zIN s g ∧ zIO s g ∧ zIF s ∧ (∀ n, zU s n < 512 * B)
/-- a step of the core: what other threads may rely on -/
def zTr (s : CS) (g : GS) (s' : CS) (g' : GS) : Prop :=
  (∀ n, n < 99 → ¬ zFr s n → ¬ zFr s' n ∧ zky s' n = zky s n ∧ (zL s' n = 4294967295 ↔ zL s n = 4294967295) ∧ zU s n ≤ zU s' n) ∧
  (∀ n, n ∈ gn g → zL s n ≠ 4294967295 → zU s' n = zU s n → zU s n % 512 = 0 → n ∈ gn g' ∧ ∀ x, zt_On (zK s) (gl g) (gr g) x n → zt_On (zK s') (gl g') (gr g') x n ∧ zt_nx (zK s') (gl g') (gr g') x n = zt_nx (zK s) (gl g) (gr g) x n) ∧
  (zno s ≤ zno s' ∧ ∀ o, o < zno s → (zSw s o → zSw s' o) ∧ (zPd s' o → zPd s o))
section
variable {B : Nat} {s s' : CS} {g g' : GS}
theorem zTr_rf : zTr s g s g :=
  ⟨fun _ _ h => ⟨h, rfl, Iff.rfl, Nat.le_refl _⟩, fun _ h _ _ _ => ⟨h, fun _ o => ⟨o, rfl⟩⟩, Nat.le_refl _, fun _ _ => ⟨id, id⟩⟩
theorem zTr_tr {s'' : CS} {g'' : GS} (hg : ∀ n, n ∈ gn g → n < 99 ∧ ¬ zFr s n) (h : zTr s g s' g') (h2 : zTr s' g' s'' g'') : zTr s g s'' g'' := by
  obtain ⟨a1, a2, a3, a4⟩ := h
  obtain ⟨b1, b2, b3, b4⟩ := h2
  refine ⟨?_, ?_, Nat.le_trans a3 b3, ?_⟩
  · intro n hn hf
    obtain ⟨p1, p2, p3, p4⟩ := a1 n hn hf
    obtain ⟨q1, q2, q3, q4⟩ := b1 n hn p1
    exact ⟨q1, q2.trans p2, q3.trans p3, Nat.le_trans p4 q4⟩
  · intro n hn hl hu hc
    obtain ⟨l1, l2⟩ := hg n hn
    obtain ⟨p1, p2, p3, p4⟩ := a1 n l1 l2
    obtain ⟨q1, q2, q3, q4⟩ := b1 n l1 p1
    have e1 : zU s' n = zU s n := by omega
    obtain ⟨r1, r2⟩ := a2 n hn hl e1 hc
    obtain ⟨t1, t2⟩ := b2 n r1 (fun z => hl (p3.mp z)) (by omega) (by omega)
    refine ⟨t1, fun x hx => ?_⟩
    obtain ⟨u1, u2⟩ := r2 x hx
    obtain ⟨v1, v2⟩ := t2 x u1
    exact ⟨v1, v2.trans u2⟩
  · intro o ho
    exact ⟨fun z => (b4 o (by omega)).1 ((a4 o ho).1 z), fun z => (a4 o ho).2 ((b4 o (by omega)).2 z)⟩
theorem zI_T (I : zI B s g) : zt_T (zK s) (gl g) (gr g) (gn g) := I.1
theorem zI_A (I : zI B s g) : zIA s := I.2.1
theorem zI_N (I : zI B s g) : zIN s g := I.2.2.1
theorem zI_O (I : zI B s g) : zIO s g := I.2.2.2.1
theorem zI_F (I : zI B s g) : zIF s := I.2.2.2.2.1
theorem zI_U (I : zI B s g) (n : Nat) : zU s n < 512 * B := I.2.2.2.2.2 n
theorem zI_g (I : zI B s g) : ∀ n, n ∈ gn g → n < 99 ∧ ¬ zFr s n := fun n hn => ⟨zt_lt (zI_T I) hn, (zI_N I n hn).2.1⟩
theorem zI_B {B' : Nat} (I : zI B s g) (h : B ≤ B') : zI B' s g := ⟨I.1, I.2.1, I.2.2.1, I.2.2.2.1, I.2.2.2.2.1, fun n => by have := zI_U I n; omega⟩
/-- a pending op is the one that its node's word names -/
theorem zI_pd1 (I : zI B s g) {o o' : Nat} (h : o < zno s) (h' : o' < zno s) (p : zPd s o) (p' : zPd s o') (e : zN s o = zN s o') : o = o' := by
  have a := ((zI_O I) o h).1.2.2.2.2
  have b := ((zI_O I) o' h').1.2.2.2.2
  unfold zPd at p p'
  rw [← a, ← b, p, p', e]
theorem zI_cl (I : zI B s g) {n : Nat} (hn : n ∈ gn g) (hl : zL s n ≠ 4294967295) (h : zU s n % 4 = 0) : zU s n % 512 = 0 ∧ zL s n = gl g n ∧ zR s n = gr g n := by
  rcases (zI_N I n hn).2.2 hl with h1 | ⟨o, ho, e1, e2⟩
  · exact h1
  · have := ((zI_O I) o ho).1.2.2.2.1
    rw [e2] at this
    exact absurd h this
theorem zI_fl (I : zI B s g) {n : Nat} (hn : n ∈ gn g) (hl : zL s n ≠ 4294967295) (h : zU s n % 4 ≠ 0) : zU s n / 4 % 128 < zno s ∧ zN s (zU s n / 4 % 128) = n ∧ zPd s (zU s n / 4 % 128) := by
  rcases (zI_N I n hn).2.2 hl with h1 | ⟨o, ho, e1, e2⟩
  · omega
  · have := ((zI_O I) o ho).1.2.2.2.2
    rw [e2] at this
    rw [this]
    refine ⟨ho, e1, ?_⟩
    unfold zPd; rw [e1]; exact e2
end
/-! swing and unflag, pure -/
def zsL (s : CS) (o : Nat) : Nat → Nat := if zK s (zN s o) ≤ zK s (zC s o) then zL s else if zL s (zN s o) = zO s o then zu (zL s) (zN s o) (zC s o) else zL s
def zsR (s : CS) (o : Nat) : Nat → Nat := if zK s (zN s o) ≤ zK s (zC s o) then (if zR s (zN s o) = zO s o then zu (zR s) (zN s o) (zC s o) else zR s) else zR s
def zsU (s : CS) (o : Nat) : Nat → Nat := if zU s (zN s o) = zW s o then zu (zU s) (zN s o) ((zW s o / 512 + 1) * 512) else zU s
def zswing (s : CS) (o : Nat) : CS := (zft s, zno s, zky s, zsL s o, zsR s o, zU s, zF s, zN s, zO s, zC s, zW s)
def zunfl (s : CS) (o : Nat) : CS := (zft s, zno s, zky s, zL s, zR s, zsU s o, zF s, zN s, zO s, zC s, zW s)
def zhelp (s : CS) (n : Nat) : CS := if zU s n % 4 = 0 then s else zunfl (zswing s (zU s n / 4 % 128)) (zU s n / 4 % 128)
section
variable {B : Nat} {s : CS} {g : GS}
theorem zsw_id {o : Nat} (h : zSw s o) : zswing s o = s := by
  unfold zswing zsL zsR
  by_cases c : zK s (zN s o) ≤ zK s (zC s o)
  · rw [if_pos c, if_pos c, if_neg (h.1 c)]; rfl
  · rw [if_neg c, if_neg c, if_neg (h.2 c)]; rfl
theorem zun_id {o : Nat} (h : ¬ zPd s o) : zunfl s o = s := by
  unfold zunfl zsU
  rw [if_neg (fun e => h e.symm)]; rfl
end
end
section
/-! swing, unflag and help keep the core -/
def zsetR (s : CS) (p v : Nat) : CS := (zft s, zno s, zky s, zL s, zu (zR s) p v, zU s, zF s, zN s, zO s, zC s, zW s)
def zsetL (s : CS) (p v : Nat) : CS := (zft s, zno s, zky s, zu (zL s) p v, zR s, zU s, zF s, zN s, zO s, zC s, zW s)
def zsetU (s : CS) (p v : Nat) : CS := (zft s, zno s, zky s, zL s, zR s, zu (zU s) p v, zF s, zN s, zO s, zC s, zW s)
section
variable {B : Nat} {s : CS} {g : GS}
theorem zI_Cn (I : zI B s g) {o o' : Nat} (ho : o < zno s) (pd : zPd s o) (ho' : o' < zno s) : zC s o ≠ zO s o' := by
  have h1 := (((zI_O I) o ho).2.2.2.1 pd).2.1
  have h2 := ((zI_O I) o' ho').2.2.2.2.1
  intro e; rw [e] at h1; exact h2 h1
theorem zI_Ci (I : zI B s g) {o : Nat} (ho : o < zno s) (pd : zPd s o) : zL s (zN s o) ≠ 4294967295 ∧ gl g (zN s o) ≠ 4294967295 := by
  have h1 := (((zI_O I) o ho).2.2.2.1 pd).1
  have h2 := ((zI_O I) o ho).2.2.2.2.2.2.2.2
  exact ⟨h2, fun z => h2 ((zI_N I _ h1).1.mpr z)⟩
theorem zset_R (I : zI B s g) {o : Nat} (ho : o < zno s) (pd : zPd s o) (c : zK s (zN s o) ≤ zK s (zC s o)) :
    zI B (zsetR s (zN s o) (zC s o)) g ∧ zTr s g (zsetR s (zN s o) (zC s o)) g ∧ zSw (zsetR s (zN s o) (zC s o)) o := by
  have IO := zI_O I
  have IF := zI_F I
  have IU := zI_U I
  have IT := zI_T I
  have sw : ∀ o', o' < zno s → zSw s o' → zSw (zsetR s (zN s o) (zC s o)) o' := by
    intro o' ho' h
    refine ⟨fun c' => ?_, h.2⟩
    show zu (zR s) (zN s o) (zC s o) (zN s o') ≠ zO s o'
    rw [zu_e]
    by_cases e : zN s o' = zN s o
    · rw [if_pos e]; exact zI_Cn I ho pd ho'
    · rw [if_neg e]; exact h.1 c'
  refine ⟨⟨IT, ?_, ?_, ?_, IF, IU⟩, ?_, ?_⟩
  · intro n hn hf hl
    have h := zI_A I n hn hf hl
    refine ⟨h.1, ?_, h.2.2⟩
    show zu (zR s) (zN s o) (zC s o) n < 99
    rw [zu_e]
    by_cases e : n = zN s o
    · rw [if_pos e]; exact (IO o ho).1.2.2.1
    · rw [if_neg e]; exact h.2.1
  · intro n hn
    have h := zI_N I n hn
    refine ⟨h.1, h.2.1, fun hl => ?_⟩
    rcases h.2.2 hl with h1 | h1
    · refine Or.inl ⟨h1.1, h1.2.1, ?_⟩
      show zu (zR s) (zN s o) (zC s o) n = gr g n
      by_cases e : n = zN s o
      · rw [e, zu_s]; exact (((IO o ho).2.2.2.1 pd).2.2.1 c).1.symm
      · rw [zu_n e]; exact h1.2.2
    · exact Or.inr h1
  · intro o' ho'
    obtain ⟨p1, p2, p3, p4, p5⟩ := IO o' ho'
    refine ⟨p1, p2, fun z => sw o' ho' (p3 z), fun z => ?_, p5⟩
    obtain ⟨q1, q2, q3, q4⟩ := p4 z
    refine ⟨q1, q2, fun c' => ?_, fun c' => ?_⟩
    · obtain ⟨r1, r2, r3⟩ := q3 c'
      refine ⟨r1, ?_, r3⟩
      show zu (zR s) (zN s o) (zC s o) (zN s o') = zO s o' ∨ zu (zR s) (zN s o) (zC s o) (zN s o') = zC s o'
      by_cases e : zN s o' = zN s o
      · have := zI_pd1 I ho' ho z pd e
        subst this
        rw [zu_s]; exact Or.inr rfl
      · rw [zu_n e]; exact r2
    · obtain ⟨r1, r2, r3⟩ := q4 c'
      refine ⟨r1, r2, ?_⟩
      show zu (zR s) (zN s o) (zC s o) (zN s o') = gr g (zN s o')
      by_cases e : zN s o' = zN s o
      · have := zI_pd1 I ho' ho z pd e
        subst this
        exact absurd c c'
      · rw [zu_n e]; exact r3
  · refine ⟨fun n hn hf => ⟨hf, rfl, Iff.rfl, Nat.le_refl _⟩, fun n hn _ _ _ => ⟨hn, fun x ox => ⟨ox, rfl⟩⟩, Nat.le_refl _, fun o' ho' => ⟨sw o' ho', id⟩⟩
  · refine ⟨fun _ => ?_, fun c' => absurd c c'⟩
    show zu (zR s) (zN s o) (zC s o) (zN s o) ≠ zO s o
    rw [zu_s]; exact zI_Cn I ho pd ho
theorem zset_L (I : zI B s g) {o : Nat} (ho : o < zno s) (pd : zPd s o) (c : ¬ zK s (zN s o) ≤ zK s (zC s o)) :
    zI B (zsetL s (zN s o) (zC s o)) g ∧ zTr s g (zsetL s (zN s o) (zC s o)) g ∧ zSw (zsetL s (zN s o) (zC s o)) o := by
  have IO := zI_O I
  have IF := zI_F I
  have IU := zI_U I
  have IT := zI_T I
  have hC99 := (IO o ho).1.2.2.1
  have lf : ∀ n, (zu (zL s) (zN s o) (zC s o) n = 4294967295 ↔ zL s n = 4294967295) := by
    intro n
    by_cases e : n = zN s o
    · rw [e, zu_s]
      constructor
      · intro z; omega
      · intro z; exact absurd z (zI_Ci I ho pd).1
    · rw [zu_n e]
  have sw : ∀ o', o' < zno s → zSw s o' → zSw (zsetL s (zN s o) (zC s o)) o' := by
    intro o' ho' h
    refine ⟨h.1, fun c' => ?_⟩
    show zu (zL s) (zN s o) (zC s o) (zN s o') ≠ zO s o'
    rw [zu_e]
    by_cases e : zN s o' = zN s o
    · rw [if_pos e]; exact zI_Cn I ho pd ho'
    · rw [if_neg e]; exact h.2 c'
  refine ⟨⟨IT, ?_, ?_, ?_, IF, IU⟩, ?_, ?_⟩
  · intro n hn hf hl
    have h := zI_A I n hn hf (fun z => hl ((lf n).mpr z))
    refine ⟨?_, h.2.1, h.2.2⟩
    show zu (zL s) (zN s o) (zC s o) n < 99
    rw [zu_e]
    by_cases e : n = zN s o
    · rw [if_pos e]; exact hC99
    · rw [if_neg e]; exact h.1
  · intro n hn
    have h := zI_N I n hn
    refine ⟨(lf n).trans h.1, h.2.1, fun hl => ?_⟩
    rcases h.2.2 (fun z => hl ((lf n).mpr z)) with h1 | h1
    · refine Or.inl ⟨h1.1, ?_, h1.2.2⟩
      show zu (zL s) (zN s o) (zC s o) n = gl g n
      by_cases e : n = zN s o
      · rw [e, zu_s]; exact (((IO o ho).2.2.2.1 pd).2.2.2 c).1.symm
      · rw [zu_n e]; exact h1.2.1
    · exact Or.inr h1
  · intro o' ho'
    obtain ⟨p1, p2, p3, p4, p5, p6, p7, p8, p9⟩ := IO o' ho'
    refine ⟨p1, p2, fun z => sw o' ho' (p3 z), fun z => ?_, p5, p6, p7, p8, fun z => p9 ((lf _).mp z)⟩
    obtain ⟨q1, q2, q3, q4⟩ := p4 z
    refine ⟨q1, q2, fun c' => ?_, fun c' => ?_⟩
    · obtain ⟨r1, r2, r3⟩ := q3 c'
      refine ⟨r1, r2, ?_⟩
      show zu (zL s) (zN s o) (zC s o) (zN s o') = gl g (zN s o')
      by_cases e : zN s o' = zN s o
      · have := zI_pd1 I ho' ho z pd e
        subst this
        exact absurd c' c
      · rw [zu_n e]; exact r3
    · obtain ⟨r1, r2, r3⟩ := q4 c'
      refine ⟨r1, ?_, r3⟩
      show zu (zL s) (zN s o) (zC s o) (zN s o') = zO s o' ∨ zu (zL s) (zN s o) (zC s o) (zN s o') = zC s o'
      by_cases e : zN s o' = zN s o
      · have := zI_pd1 I ho' ho z pd e
        subst this
        rw [zu_s]; exact Or.inr rfl
      · rw [zu_n e]; exact r2
  · refine ⟨fun n hn hf => ⟨hf, rfl, lf n, Nat.le_refl _⟩, fun n hn _ _ _ => ⟨hn, fun x ox => ⟨ox, rfl⟩⟩, Nat.le_refl _, fun o' ho' => ⟨sw o' ho', id⟩⟩
  · refine ⟨fun c' => absurd c' c, fun _ => ?_⟩
    show zu (zL s) (zN s o) (zC s o) (zN s o) ≠ zO s o
    rw [zu_s]; exact zI_Cn I ho pd ho
theorem zsw_I (I : zI B s g) {o : Nat} (ho : o < zno s) : zI B (zswing s o) g ∧ zTr s g (zswing s o) g ∧ zSw (zswing s o) o := by
  by_cases sw : zSw s o
  · rw [zsw_id sw]; exact ⟨I, zTr_rf, sw⟩
  · have pd : zPd s o := by
      by_cases pd : zPd s o
      · exact pd
      · exact absurd (((zI_O I) o ho).2.2.1 pd) sw
    by_cases c : zK s (zN s o) ≤ zK s (zC s o)
    · by_cases e : zR s (zN s o) = zO s o
      · have : zswing s o = zsetR s (zN s o) (zC s o) := by
          unfold zswing zsetR zsL zsR; rw [if_pos c, if_pos c, if_pos e]
        rw [this]; exact zset_R I ho pd c
      · exact absurd ⟨fun _ => e, fun z => absurd c z⟩ sw
    · by_cases e : zL s (zN s o) = zO s o
      · have : zswing s o = zsetL s (zN s o) (zC s o) := by
          unfold zswing zsetL zsL zsR; rw [if_neg c, if_neg c, if_pos e]
        rw [this]; exact zset_L I ho pd c
      · exact absurd ⟨fun z => absurd z c, fun _ => e⟩ sw
/-- a word of the tree's node n grows to a clean one, its links being the decided ones -/
theorem zset_U (I : zI B s g) {p : Nat} (hp : p ∈ gn g) (hl : zL s p = gl g p) (hr : zR s p = gr g p)
    (hs : ∀ o, o < zno s → zN s o = p → zSw s o) :
    zI (B + 1) (zsetU s p ((zU s p / 512 + 1) * 512)) g ∧ zTr s g (zsetU s p ((zU s p / 512 + 1) * 512)) g := by
  have IO := zI_O I
  have IF := zI_F I
  have IU := zI_U I
  have IT := zI_T I
  have hB := zI_U I p
  have ge : ∀ n, zU s n ≤ zu (zU s) p ((zU s p / 512 + 1) * 512) n := by
    intro n
    by_cases e : n = p
    · subst e; rw [zu_s]; omega
    · rw [zu_n e]; exact Nat.le_refl _
  have gp : zU s p < zu (zU s) p ((zU s p / 512 + 1) * 512) p := by rw [zu_s]; omega
  refine ⟨⟨IT, ?_, ?_, ?_, IF, ?_⟩, ?_⟩
  · intro n hn hf hln
    have h := zI_A I n hn hf hln
    refine ⟨h.1, h.2.1, ?_⟩
    show zu (zU s) p ((zU s p / 512 + 1) * 512) n % 4 ≠ 0 → zu (zU s) p ((zU s p / 512 + 1) * 512) n / 4 % 128 < zno s
    by_cases e : n = p
    · subst e; rw [zu_s]; intro z; omega
    · rw [zu_n e]; exact h.2.2
  · intro n hn
    have h := zI_N I n hn
    refine ⟨h.1, h.2.1, fun hln => ?_⟩
    show (zu (zU s) p ((zU s p / 512 + 1) * 512) n % 512 = 0 ∧ _) ∨ (∃ o, o < zno s ∧ zN s o = n ∧ zW s o = zu (zU s) p ((zU s p / 512 + 1) * 512) n)
    by_cases e : n = p
    · subst e; rw [zu_s]; exact Or.inl ⟨by omega, hl, hr⟩
    · rw [zu_n e]; exact h.2.2 hln
  · intro o ho
    obtain ⟨p1, p2, p3, p4, p5⟩ := IO o ho
    refine ⟨p1, Nat.le_trans p2 (ge _), fun z => ?_, fun z => ?_, p5⟩
    · by_cases e : zN s o = p
      · exact hs o ho e
      · apply p3
        intro w
        apply z
        show zW s o = zu (zU s) p _ (zN s o)
        rw [zu_n e]; exact w
    · have z' : zW s o = zu (zU s) p ((zU s p / 512 + 1) * 512) (zN s o) := z
      by_cases e : zN s o = p
      · rw [e] at z' p2; omega
      · rw [zu_n e] at z'; exact p4 z'
  · intro n
    show zu (zU s) p ((zU s p / 512 + 1) * 512) n < 512 * (B + 1)
    by_cases e : n = p
    · subst e; rw [zu_s]; omega
    · rw [zu_n e]; have := zI_U I n; omega
  · refine ⟨fun n hn hf => ⟨hf, rfl, Iff.rfl, ge n⟩, fun n hn _ _ _ => ⟨hn, fun x ox => ⟨ox, rfl⟩⟩, Nat.le_refl _, fun o ho => ⟨id, fun z => ?_⟩⟩
    have z' : zW s o = zu (zU s) p ((zU s p / 512 + 1) * 512) (zN s o) := z
    have p2 := (IO o ho).2.1
    by_cases e : zN s o = p
    · rw [e] at z' p2; omega
    · rw [zu_n e] at z'; exact z'
theorem zun_I (I : zI B s g) {o : Nat} (ho : o < zno s) (sw : zSw s o) : zI (B + 1) (zunfl s o) g ∧ zTr s g (zunfl s o) g ∧ ¬ zPd (zunfl s o) o := by
  by_cases pd : zPd s o
  · obtain ⟨q1, q2, q3, q4⟩ := ((zI_O I) o ho).2.2.2.1 pd
    have e : zunfl s o = zsetU s (zN s o) ((zU s (zN s o) / 512 + 1) * 512) := by
      unfold zunfl zsetU zsU
      rw [if_pos (Eq.symm pd)]
      have pd' : zW s o = zU s (zN s o) := pd
      rw [pd']
    have hlr : zL s (zN s o) = gl g (zN s o) ∧ zR s (zN s o) = gr g (zN s o) := by
      by_cases c : zK s (zN s o) ≤ zK s (zC s o)
      · obtain ⟨r1, r2, r3⟩ := q3 c
        refine ⟨r3, ?_⟩
        rcases r2 with r2 | r2
        · exact absurd r2 (sw.1 c)
        · rw [r2, r1]
      · obtain ⟨r1, r2, r3⟩ := q4 c
        refine ⟨?_, r3⟩
        rcases r2 with r2 | r2
        · exact absurd r2 (sw.2 c)
        · rw [r2, r1]
    rw [e]
    obtain ⟨a, b⟩ := zset_U I q1 hlr.1 hlr.2 (by
      intro o' ho' en
      by_cases pd' : zPd s o'
      · have := zI_pd1 I ho' ho pd' pd en
        subst this; exact sw
      · exact ((zI_O I) o' ho').2.2.1 pd')
    refine ⟨a, b, fun z => ?_⟩
    have z' : zW s o = zu (zU s) (zN s o) ((zU s (zN s o) / 512 + 1) * 512) (zN s o) := z
    rw [zu_s] at z'
    have pd' : zW s o = zU s (zN s o) := pd
    omega
  · rw [zun_id pd]; exact ⟨zI_B I (by omega), zTr_rf, pd⟩
theorem zhp_o (I : zI B s g) {o : Nat} (ho : o < zno s) : zI (B + 1) (zunfl (zswing s o) o) g ∧ zTr s g (zunfl (zswing s o) o) g := by
  obtain ⟨a1, a2, a3⟩ := zsw_I I ho
  obtain ⟨b1, b2, _⟩ := zun_I a1 (o := o) ho a3
  exact ⟨b1, zTr_tr (zI_g I) a2 b2⟩
theorem zhp_I (I : zI B s g) {n : Nat} (hn : n < 99) (hf : ¬ zFr s n) (hl : zL s n ≠ 4294967295) : zI (B + 1) (zhelp s n) g ∧ zTr s g (zhelp s n) g := by
  unfold zhelp
  by_cases h : zU s n % 4 = 0
  · rw [if_pos h]; exact ⟨zI_B I (by omega), zTr_rf⟩
  · rw [if_neg h]; exact zhp_o I ((zI_A I n hn hf hl).2.2 h)
theorem zsw_U (o : Nat) : zU (zswing s o) = zU s := rfl
theorem zsw_W (o : Nat) : zW (zswing s o) = zW s := rfl
theorem zsw_N (o : Nat) : zN (zswing s o) = zN s := rfl
/-- help at a node of the tree: afterwards it is clean, its links are the decided ones, no other word has changed -/
theorem zhp_in (I : zI B s g) {n : Nat} (hn : n ∈ gn g) (hl : zL s n ≠ 4294967295) : zU (zhelp s n) n % 512 = 0 ∧ zL (zhelp s n) n = gl g n ∧ zR (zhelp s n) n = gr g n ∧ (∀ m, m ≠ n → zU (zhelp s n) m = zU s m) ∧ zky (zhelp s n) = zky s ∧ zft (zhelp s n) = zft s ∧ zno (zhelp s n) = zno s ∧ zF (zhelp s n) = zF s := by
  have hg := zI_g I n hn
  have I' := (zhp_I I hg.1 hg.2 hl).1
  have Tr := (zhp_I I hg.1 hg.2 hl).2
  have hl' : zL (zhelp s n) n ≠ 4294967295 := fun z => hl ((Tr.1 n hg.1 hg.2).2.2.1.mp z)
  by_cases h : zU s n % 4 = 0
  · have e : zhelp s n = s := by unfold zhelp; rw [if_pos h]
    rw [e]
    have c := zI_cl I hn hl h
    exact ⟨c.1, c.2.1, c.2.2, fun _ _ => rfl, rfl, rfl, rfl, rfl⟩
  · obtain ⟨f1, f2, f3⟩ := zI_fl I hn hl h
    have e : zhelp s n = zunfl (zswing s (zU s n / 4 % 128)) (zU s n / 4 % 128) := by unfold zhelp; rw [if_neg h]
    have f3' : zU s n = zW s (zU s n / 4 % 128) := by
      have : zW s (zU s n / 4 % 128) = zU s (zN s (zU s n / 4 % 128)) := f3
      rw [f2] at this; exact this.symm
    have eU : zU (zhelp s n) = zu (zU s) n ((zW s (zU s n / 4 % 128) / 512 + 1) * 512) := by
      rw [e]
      show (if zU s (zN s (zU s n / 4 % 128)) = zW s (zU s n / 4 % 128) then zu (zU s) (zN s (zU s n / 4 % 128)) _ else zU s) = _
      rw [f2, if_pos f3']
      rfl
    have u0 : zU (zhelp s n) n % 512 = 0 := by rw [eU, zu_s]; omega
    have c := zI_cl I' hn hl' (by omega)
    refine ⟨u0, c.2.1, c.2.2, fun m hm => by rw [eU, zu_n hm], ?_⟩
    rw [e]; exact ⟨rfl, rfl, rfl, rfl⟩
end
end
section
/-! changes of free nodes and of unspent descriptors; the commits -/
section
variable {B : Nat} {s : CS} {g : GS}
def zOff (s s' : CS) : Prop := zft s' = zft s ∧ zno s' = zno s ∧ zF s' = zF s ∧
  (∀ n, n < 99 → ¬ zFr s n → zky s' n = zky s n ∧ zL s' n = zL s n ∧ zR s' n = zR s n ∧ zU s' n = zU s n) ∧
  (∀ o, o < zno s → zN s' o = zN s o ∧ zO s' o = zO s o ∧ zC s' o = zC s o ∧ zW s' o = zW s o)
theorem zof_Fr {s' : CS} (h : zOff s s') (n : Nat) : zFr s' n ↔ zFr s n := by
  unfold zFr; rw [h.1, h.2.2.1]
theorem zof_Sw (I : zI B s g) {s' : CS} (h : zOff s s') {o : Nat} (ho : o < zno s) : zSw s' o ↔ zSw s o := by
  obtain ⟨a1, a2, a3, a4, a5⟩ := h
  obtain ⟨⟨p1, p2, p3, _⟩, _, _, _, q1, q2, q3, q4, q5⟩ := zI_O I o ho
  obtain ⟨b1, b2, b3, b4⟩ := a5 o ho
  obtain ⟨c1, c2, c3, c4⟩ := a4 _ p1 q2
  obtain ⟨d1, d2, d3, d4⟩ := a4 _ p3 q4
  unfold zSw zK
  rw [b1, b2, b3, c1, c2, c3, d1]
theorem zof_Pd (I : zI B s g) {s' : CS} (h : zOff s s') {o : Nat} (ho : o < zno s) : zPd s' o ↔ zPd s o := by
  obtain ⟨a1, a2, a3, a4, a5⟩ := h
  obtain ⟨⟨p1, p2, p3, _⟩, _, _, _, q1, q2, q3, q4, q5⟩ := zI_O I o ho
  obtain ⟨b1, b2, b3, b4⟩ := a5 o ho
  obtain ⟨c1, c2, c3, c4⟩ := a4 _ p1 q2
  unfold zPd
  rw [b1, b4, c4]
theorem zof_I {B' : Nat} (I : zI B s g) {s' : CS} (h : zOff s s') (hB : ∀ n, zU s' n < 512 * B') : zI B' s' g ∧ zTr s g s' g := by
  have hFr := zof_Fr h
  have hSw := fun o ho => zof_Sw I h (o := o) ho
  have hPd := fun o ho => zof_Pd I h (o := o) ho
  obtain ⟨a1, a2, a3, a4, a5⟩ := h
  have T := zI_T I
  have hK : ∀ n, n ∈ gn g → zK s' n = zK s n := by
    intro n hn
    have := zI_g I n hn
    unfold zK
    rw [(a4 n this.1 this.2).1]
  refine ⟨⟨zt_Tc T hK, ?_, ?_, ?_, ?_, hB⟩, ?_⟩
  · intro n hn hf hl
    rw [hFr] at hf
    obtain ⟨c1, c2, c3, c4⟩ := a4 n hn hf
    rw [c2] at hl
    rw [c2, c3, c4, a2]
    exact zI_A I n hn hf hl
  · intro n hn
    have hg := zI_g I n hn
    obtain ⟨c1, c2, c3, c4⟩ := a4 n hg.1 hg.2
    rw [hFr, c2, c3, c4, a2]
    have h := zI_N I n hn
    refine ⟨h.1, h.2.1, fun hl => ?_⟩
    rcases h.2.2 hl with h1 | ⟨o, ho, e1, e2⟩
    · exact Or.inl h1
    · obtain ⟨b1, b2, b3, b4⟩ := a5 o ho
      exact Or.inr ⟨o, ho, by rw [b1]; exact e1, by rw [b4]; exact e2⟩
  · intro o ho
    rw [a2] at ho
    obtain ⟨⟨p1, p2, p3, p4⟩, r1, r2, r3, q1, q2, q3, q4, q5⟩ := zI_O I o ho
    obtain ⟨b1, b2, b3, b4⟩ := a5 o ho
    obtain ⟨c1, c2, c3, c4⟩ := a4 _ p1 q2
    obtain ⟨d1, d2, d3, d4⟩ := a4 _ p3 q4
    refine ⟨?_, ?_, ?_, ?_, ?_⟩
    · rw [b1, b2, b3, b4]; exact ⟨p1, p2, p3, p4⟩
    · rw [b1, b4, c4]; exact r1
    · rw [hSw o ho, hPd o ho]; exact r2
    · rw [hPd o ho]
      intro z
      have := r3 z
      unfold zO4 zK at this ⊢
      rw [b1, b2, b3, c1, c2, c3, d1]
      exact this
    · unfold zO5
      rw [b1, b2, b3, c2, hFr, hFr, hFr]
      exact ⟨q1, q2, q3, q4, q5⟩
  · unfold zIF
    rw [a1, a3]; exact zI_F I
  · refine ⟨?_, ?_, by rw [a2]; exact Nat.le_refl _, fun o ho => ⟨(hSw o ho).mpr, (hPd o ho).mp⟩⟩
    · intro n hn hf
      obtain ⟨c1, c2, c3, c4⟩ := a4 n hn hf
      rw [hFr, c1, c2, c4]
      exact ⟨hf, rfl, Iff.rfl, Nat.le_refl _⟩
    · intro n hn hl hu hc
      exact ⟨hn, fun x hx => ⟨(zt_Oc T hK).mpr hx, zt_nxK (hK n hn)⟩⟩
/-- a clean node's version may grow -/
theorem zbump (I : zI B s g) {p : Nat} (hp : p ∈ gn g) (hl : zL s p ≠ 4294967295) (hc : zU s p % 4 = 0) :
    zI (B + 1) (zsetU s p ((zU s p / 512 + 1) * 512)) g ∧ zTr s g (zsetU s p ((zU s p / 512 + 1) * 512)) g := by
  have c := zI_cl I hp hl hc
  refine zset_U I hp c.2.1 c.2.2 (fun o ho e => ?_)
  refine ((zI_O I) o ho).2.2.1 (fun pd => ?_)
  have h4 := ((zI_O I) o ho).1.2.2.2.1
  have pd' : zW s o = zU s (zN s o) := pd
  rw [pd', e] at h4
  exact h4 hc
/-- no spent descriptor is pending at a clean node -/
theorem zI_np (I : zI B s g) {p : Nat} (hc : zU s p % 512 = 0) {o : Nat} (ho : o < zno s) (pd : zPd s o) : zN s o ≠ p := by
  intro e
  have h4 := ((zI_O I) o ho).1.2.2.2.1
  have pd' : zW s o = zU s (zN s o) := pd
  rw [pd', e] at h4
  omega
def zcomI (s : CS) (p : Nat) : CS := (zft s - 3, zno s + 1, zky s, zL s, zR s, zu (zU s) p (zU s p / 512 * 512 + zno s * 4 + 1), zF s, zN s, zO s, zC s, zW s)
theorem zin_I (I : zI B s g) {p l Tn a d : Nat} (h3 : 3 ≤ zft s) (h64 : zno s < 128)
    (hH : zi_H (zK s) (zK s) (gl g) (gr g) (gn g) p l Tn a d)
    (hT : zF s (zft s - 1) = Tn) (hfree : (zF s (zft s - 2) = a ∧ zF s (zft s - 3) = d) ∨ (zF s (zft s - 2) = d ∧ zF s (zft s - 3) = a))
    (hn : zL s Tn = a ∧ zR s Tn = d ∧ zL s a = 4294967295 ∧ zL s d = 4294967295 ∧ zU s Tn % 512 = 0)
    (hc : zU s p % 512 = 0)
    (ho : zN s (zno s) = p ∧ zO s (zno s) = l ∧ zC s (zno s) = Tn ∧ zW s (zno s) = zU s p / 512 * 512 + zno s * 4 + 1) :
    zI B (zcomI s p) (Tn :: a :: d :: (gn g).erase l, zi_l (gl g) p l Tn a d, zi_r (gr g) p l Tn d) ∧
    zTr s g (zcomI s p) (Tn :: a :: d :: (gn g).erase l, zi_l (gl g) p l Tn a d, zi_r (gr g) p l Tn d) := by
  have T := zI_T I
  have IO := zI_O I
  have IF := zI_F I
  have hlm := zi_lm T hH
  have hH' := hH
  obtain ⟨hP, hi, hcl, hl, ⟨n1, n2, n3, n4, n5, n6⟩, ⟨b1, b2, b3⟩, hK, hKT, hKa, hOa, hOd⟩ := hH'
  obtain ⟨o1, o2, o3, o4⟩ := ho
  obtain ⟨m1, m2, m3, m4, m5⟩ := hn
  have T' := zi_T T hH
  have hpl : p ≠ l := fun e => hi (e ▸ hl)
  have hLp : zL s p ≠ 4294967295 := fun z => hi ((zI_N I p hP).1.mp z)
  have hcl' := zI_cl I hP hLp (by omega)
  have fr : ∀ n, zFr (zcomI s p) n → zFr s n ∧ n ≠ Tn ∧ n ≠ a ∧ n ≠ d := by
    rintro n ⟨i, hi, e⟩
    have hi : i < zft s - 3 := hi
    have e : zF s i = n := e
    have w := IF.2.2
    have w1 := w i (zft s - 1) (by omega) (by omega)
    have w2 := w i (zft s - 2) (by omega) (by omega)
    have w3 := w i (zft s - 3) (by omega) (by omega)
    rw [e] at w1 w2 w3
    rw [hT] at w1
    refine ⟨⟨i, by omega, e⟩, w1, ?_⟩
    rcases hfree with ⟨e1, e2⟩ | ⟨e1, e2⟩ <;> rw [e1] at w2 <;> rw [e2] at w3
    · exact ⟨w2, w3⟩
    · exact ⟨w3, w2⟩
  have fr3 : ∀ n, zFr s n → zFr (zcomI s p) n ∨ n = Tn ∨ n = a ∨ n = d := by
    rintro n ⟨i, hi, e⟩
    by_cases h : i < zft s - 3
    · exact Or.inl ⟨i, h, e⟩
    · have : i = zft s - 1 ∨ i = zft s - 2 ∨ i = zft s - 3 := by omega
      rcases this with h | h | h <;> rw [h] at e
      · exact Or.inr (Or.inl (e.symm.trans hT))
      · rcases hfree with ⟨e1, e2⟩ | ⟨e1, e2⟩
        · exact Or.inr (Or.inr (Or.inl (e.symm.trans e1)))
        · exact Or.inr (Or.inr (Or.inr (e.symm.trans e1)))
      · rcases hfree with ⟨e1, e2⟩ | ⟨e1, e2⟩
        · exact Or.inr (Or.inr (Or.inr (e.symm.trans e2)))
        · exact Or.inr (Or.inr (Or.inl (e.symm.trans e2)))
  have hFrT : zFr s Tn := ⟨zft s - 1, by omega, hT⟩
  have hFra : zFr s a := by
    rcases hfree with ⟨e1, e2⟩ | ⟨e1, e2⟩
    · exact ⟨zft s - 2, by omega, e1⟩
    · exact ⟨zft s - 3, by omega, e2⟩
  have hFrd : zFr s d := by
    rcases hfree with ⟨e1, e2⟩ | ⟨e1, e2⟩
    · exact ⟨zft s - 3, by omega, e2⟩
    · exact ⟨zft s - 2, by omega, e1⟩
  have Un : ∀ n, n ≠ p → zU (zcomI s p) n = zU s n := fun n hn => zu_n hn
  have Up : zU (zcomI s p) p = zU s p / 512 * 512 + zno s * 4 + 1 := zu_s
  have Uge : ∀ n, zU s n ≤ zU (zcomI s p) n := by
    intro n
    by_cases e : n = p
    · subst e; rw [Up]; omega
    · rw [Un n e]; exact Nat.le_refl _
  have hTp : Tn ≠ p := fun e => n1 (e ▸ hP)
  have pdo : ∀ o, o < zno s → zPd (zcomI s p) o → zPd s o ∧ zN s o ≠ p := by
    intro o ho z
    have z' : zW s o = zU (zcomI s p) (zN s o) := z
    by_cases e : zN s o = p
    · rw [e, Up] at z'
      have := (IO o ho).1.2.2.2.2
      omega
    · rw [Un _ e] at z'; exact ⟨z', e⟩
  refine ⟨⟨T', ?_, ?_, ?_, ?_, ?_⟩, ?_⟩
  · intro n hn hf hln
    have hln : zL s n ≠ 4294967295 := hln
    by_cases hfn : zFr s n
    · rcases fr3 n hfn with h | h | h | h
      · exact absurd h hf
      · subst h
        rw [Un n hTp]
        show zL s n < 99 ∧ zR s n < 99 ∧ _
        rw [m1, m2]
        exact ⟨b2, b3, fun z => by omega⟩
      · subst h; exact absurd m3 hln
      · subst h; exact absurd m4 hln
    · have h := zI_A I n hn hfn hln
      refine ⟨h.1, h.2.1, ?_⟩
      show _ → _ < zno s + 1
      by_cases e : n = p
      · subst e; rw [Up]; intro _; omega
      · rw [Un n e]; intro z; have := h.2.2 z; omega
  · intro n hn
    have hn' : n ∈ Tn :: a :: d :: (gn g).erase l := hn
    show (zL s n = 4294967295 ↔ zi_l (gl g) p l Tn a d n = 4294967295) ∧ ¬ zFr (zcomI s p) n ∧ (zL s n ≠ 4294967295 → (zU (zcomI s p) n % 512 = 0 ∧ zL s n = zi_l (gl g) p l Tn a d n ∧ zR s n = zi_r (gr g) p l Tn d n) ∨ (∃ o, o < zno s + 1 ∧ zN s o = n ∧ zW s o = zU (zcomI s p) n))
    rcases (zi_mem T).mp hn' with e | e | e | ⟨hnl, hn⟩
    · subst e
      have e1 : zi_l (gl g) p l n a d n = a := by unfold zi_l; rw [if_pos rfl]
      have e2 : zi_r (gr g) p l n d n = d := by unfold zi_r; rw [if_pos rfl]
      rw [e1, e2, m1, m2, Un n hTp]
      exact ⟨Iff.rfl, fun z => (fr n z).2.1 rfl, fun _ => Or.inl ⟨m5, rfl, rfl⟩⟩
    · subst e
      have e1 : zi_l (gl g) p l Tn n d n = 4294967295 := by unfold zi_l; rw [if_neg n4.symm, if_pos (Or.inl rfl)]
      rw [e1, m3]
      exact ⟨Iff.rfl, fun z => (fr n z).2.2.1 rfl, fun z => absurd rfl z⟩
    · subst e
      have e1 : zi_l (gl g) p l Tn a n n = 4294967295 := by unfold zi_l; rw [if_neg n5.symm, if_pos (Or.inr rfl)]
      rw [e1, m4]
      exact ⟨Iff.rfl, fun z => (fr n z).2.2.2 rfl, fun z => absurd rfl z⟩
    · have h := zI_N I n hn
      refine ⟨h.1.trans (zi_leaf hH hn).symm, fun z => h.2.1 (fr n z).1, fun hln => ?_⟩
      by_cases e : n = p
      · subst e
        exact Or.inr ⟨zno s, by omega, o1, by rw [Up]; exact o4⟩
      · rw [Un n e, (zi_lo hH hn).1, (zi_lo hH hn).2, zd_n (Or.inl e), zd_n (Or.inl e)]
        rcases h.2.2 hln with h1 | ⟨o, ho, e1, e2⟩
        · exact Or.inl h1
        · exact Or.inr ⟨o, by omega, e1, e2⟩
  · intro o ho
    have ho : o < zno s + 1 := ho
    by_cases hno : o = zno s
    · subst hno
      have hsd : (gl g p = l → ¬ zK s p ≤ zK s Tn) ∧ (gr g p = l → zK s p ≤ zK s Tn) := by
        constructor
        · intro e
          have := zt_upl T hP hi (x := zK s d) (by rw [e]; exact hOd)
          rw [hKT]; omega
        · intro e
          have := zt_upr T hP hi (x := zK s d) (by rw [e]; exact hOd)
          rw [hKT]; omega
      refine ⟨⟨?_, ?_, ?_, ?_, ?_⟩, ?_, ?_, ?_, ?_⟩
      · show zN s (zno s) < 99; rw [o1]; exact zt_lt T hP
      · show zO s (zno s) < 99; rw [o2]; exact zt_lt T hlm
      · show zC s (zno s) < 99; rw [o3]; exact b1
      · show zW s (zno s) % 4 ≠ 0; rw [o4]; omega
      · show zW s (zno s) / 4 % 128 = zno s; rw [o4]; omega
      · show zW s (zno s) ≤ zU (zcomI s p) (zN s (zno s)); rw [o1, Up, o4]; exact Nat.le_refl _
      · intro z
        exfalso; apply z
        show zW s (zno s) = zU (zcomI s p) (zN s (zno s)); rw [o1, Up, o4]
      · intro _
        unfold zO4
        show zN s (zno s) ∈ Tn :: a :: d :: (gn g).erase l ∧ zC s (zno s) ∈ Tn :: a :: d :: (gn g).erase l ∧
          (zK s (zN s (zno s)) ≤ zK s (zC s (zno s)) → zi_r (gr g) p l Tn d (zN s (zno s)) = zC s (zno s) ∧ (zR s (zN s (zno s)) = zO s (zno s) ∨ zR s (zN s (zno s)) = zC s (zno s)) ∧ zL s (zN s (zno s)) = zi_l (gl g) p l Tn a d (zN s (zno s))) ∧
          (¬ zK s (zN s (zno s)) ≤ zK s (zC s (zno s)) → zi_l (gl g) p l Tn a d (zN s (zno s)) = zC s (zno s) ∧ (zL s (zN s (zno s)) = zO s (zno s) ∨ zL s (zN s (zno s)) = zC s (zno s)) ∧ zR s (zN s (zno s)) = zi_r (gr g) p l Tn d (zN s (zno s)))
        rw [o1, o2, o3, (zi_lo hH hP).1, (zi_lo hH hP).2, zi_mem T, zi_mem T]
        have u := zt_un T hP hP hi hi
        refine ⟨Or.inr (Or.inr (Or.inr ⟨hpl, hP⟩)), Or.inl rfl, fun c => ?_, fun c => ?_⟩
        · have e : gr g p = l := by
            rcases hcl with e | e
            · exact absurd c (hsd.1 e)
            · exact e
          refine ⟨zd_s rfl e, Or.inl (hcl'.2.2.trans e), ?_⟩
          rw [zd_n (Or.inr (fun z => u.2.2 (z.trans e.symm)))]
          exact hcl'.2.1
        · have e : gl g p = l := by
            rcases hcl with e | e
            · exact e
            · exact absurd (hsd.2 e) c
          refine ⟨zd_s rfl e, Or.inl (hcl'.2.1.trans e), ?_⟩
          rw [zd_n (Or.inr (fun z => u.2.2 (e.trans z.symm)))]
          exact hcl'.2.2
      · unfold zO5
        show zO s (zno s) ∉ Tn :: a :: d :: (gn g).erase l ∧ ¬ zFr (zcomI s p) (zN s (zno s)) ∧ ¬ zFr (zcomI s p) (zO s (zno s)) ∧ ¬ zFr (zcomI s p) (zC s (zno s)) ∧ zL s (zN s (zno s)) ≠ 4294967295
        rw [o1, o2, o3, zi_mem T]
        refine ⟨?_, fun z => (zI_g I p hP).2 (fr _ z).1, fun z => (zI_g I l hlm).2 (fr _ z).1, fun z => (fr _ z).2.1 rfl, hLp⟩
        rintro (e | e | e | ⟨e, _⟩)
        · exact n1 (e ▸ hlm)
        · exact n2 (e ▸ hlm)
        · exact n3 (e ▸ hlm)
        · exact e rfl
    · have ho : o < zno s := by omega
      obtain ⟨p1, p2, p3, p4, q1, q2, q3, q4, q5⟩ := IO o ho
      refine ⟨p1, Nat.le_trans p2 (Uge _), fun z => ?_, fun z => ?_, ?_⟩
      · show zSw s o
        by_cases e : zPd s o
        · exfalso; apply z
          have e' : zW s o = zU s (zN s o) := e
          show zW s o = zU (zcomI s p) (zN s o)
          rw [Un _ (zI_np I hc ho e)]; exact e'
        · exact p3 e
      · obtain ⟨z1, z2⟩ := pdo o ho z
        obtain ⟨r1, r2, r3, r4⟩ := p4 z1
        have hin := (zI_Ci I ho z1).2
        have u := zt_un T r1 hP hin hi
        have u' := zt_un T hP r1 hi hin
        have hCl : zC s o ≠ l := by
          intro e
          by_cases c : zK s (zN s o) ≤ zK s (zC s o)
          · have e1 := (r3 c).1.trans e
            rcases hcl with e2 | e2
            · exact u'.2.2 (e2.trans e1.symm)
            · exact z2 (u.2.1 (e1.trans e2.symm))
          · have e1 := (r4 c).1.trans e
            rcases hcl with e2 | e2
            · exact z2 (u.1 (e1.trans e2.symm))
            · exact u.2.2 (e1.trans e2.symm)
        unfold zO4
        show zN s o ∈ Tn :: a :: d :: (gn g).erase l ∧ zC s o ∈ Tn :: a :: d :: (gn g).erase l ∧
          (zK s (zN s o) ≤ zK s (zC s o) → zi_r (gr g) p l Tn d (zN s o) = zC s o ∧ (zR s (zN s o) = zO s o ∨ zR s (zN s o) = zC s o) ∧ zL s (zN s o) = zi_l (gl g) p l Tn a d (zN s o)) ∧
          (¬ zK s (zN s o) ≤ zK s (zC s o) → zi_l (gl g) p l Tn a d (zN s o) = zC s o ∧ (zL s (zN s o) = zO s o ∨ zL s (zN s o) = zC s o) ∧ zR s (zN s o) = zi_r (gr g) p l Tn d (zN s o))
        rw [(zi_lo hH r1).1, (zi_lo hH r1).2, zd_n (Or.inl z2), zd_n (Or.inl z2), zi_mem T, zi_mem T]
        exact ⟨Or.inr (Or.inr (Or.inr ⟨fun e => hin (e ▸ hl), r1⟩)), Or.inr (Or.inr (Or.inr ⟨hCl, r2⟩)), r3, r4⟩
      · unfold zO5
        show zO s o ∉ Tn :: a :: d :: (gn g).erase l ∧ ¬ zFr (zcomI s p) (zN s o) ∧ ¬ zFr (zcomI s p) (zO s o) ∧ ¬ zFr (zcomI s p) (zC s o) ∧ zL s (zN s o) ≠ 4294967295
        rw [zi_mem T]
        refine ⟨?_, fun z => q2 (fr _ z).1, fun z => q3 (fr _ z).1, fun z => q4 (fr _ z).1, q5⟩
        rintro (e | e | e | ⟨_, e⟩)
        · exact q3 (e ▸ hFrT)
        · exact q3 (e ▸ hFra)
        · exact q3 (e ▸ hFrd)
        · exact q1 e
  · refine ⟨?_, ?_, ?_⟩
    · show zft s - 3 ≤ 99; have := IF.1; omega
    · intro i hi
      have hi : i < zft s - 3 := hi
      exact IF.2.1 i (by omega)
    · intro i j hij hj
      have hj : j < zft s - 3 := hj
      exact IF.2.2 i j hij (by omega)
  · intro n
    by_cases e : n = p
    · subst e; rw [Up]; have := zI_U I n; omega
    · rw [Un n e]; exact zI_U I n
  · refine ⟨?_, ?_, ?_, ?_⟩
    · intro n hn hf
      exact ⟨fun z => hf (fr n z).1, rfl, Iff.rfl, Uge n⟩
    · intro n hn hln hu hcn
      have e : n ≠ p := by
        intro e; subst e; rw [Up] at hu; omega
      have hin : gl g n ≠ 4294967295 := fun z => hln ((zI_N I n hn).1.mpr z)
      have hnl : n ≠ l := fun e => hin (e ▸ hl)
      refine ⟨(zi_mem T).mpr (Or.inr (Or.inr (Or.inr ⟨hnl, hn⟩))), fun x hx => ⟨zi_On T hH hnl hx, zi_nx hH hn ?_⟩⟩
      intro e2
      have u := zt_un T hn hP hin hi
      have u' := zt_un T hP hn hi hin
      rcases zt_nx_c (dr := gr g) (K := zK s) (x := x) hin with ⟨_, e1⟩ | ⟨_, e1⟩ <;> rw [e1] at e2 <;> rcases hcl with e3 | e3
      · exact e (u.1 (e2.trans e3.symm))
      · exact u.2.2 (e2.trans e3.symm)
      · exact u'.2.2 (e3.trans e2.symm)
      · exact e (u.2.1 (e2.trans e3.symm))
    · show zno s ≤ zno s + 1; omega
    · intro o ho
      exact ⟨id, fun z => (pdo o ho z).1⟩
end
end
section
/-! the commit of a deletion -/
def zcomD (s : CS) (G P : Nat) : CS := (zft s, zno s + 1, zky s, zL s, zR s, zu (zu (zU s) G (zU s G / 512 * 512 + zno s * 4 + 2)) P (zU s P / 512 * 512 + zno s * 4 + 3), zF s, zN s, zO s, zC s, zW s)
section
variable {B : Nat} {s : CS} {g : GS}
theorem zde_I (I : zI B s g) {G P S l : Nat} (h64 : zno s < 128)
    (hH : zd_H (gl g) (gr g) (gn g) G P S l)
    (hcG : zU s G % 512 = 0) (hcP : zU s P % 512 = 0)
    (ho : zN s (zno s) = G ∧ zO s (zno s) = P ∧ zC s (zno s) = S ∧ zW s (zno s) = zU s G / 512 * 512 + zno s * 4 + 2) :
    zI B (zcomD s G P) (((gn g).erase P).erase l, zd (gl g) G P S, zd (gr g) G P S) ∧
    zTr s g (zcomD s G P) (((gn g).erase P).erase l, zd (gl g) G P S, zd (gr g) G P S) := by
  have T := zI_T I
  have IO := zI_O I
  have IF := zI_F I
  have f := zd_f T hH
  have hsd := zd_side T hH
  obtain ⟨hG, hP, iG, iP, cG, cP, hl⟩ := id hH
  obtain ⟨f1, f2, f3, f4, f5, f6, f7, f8, f9, f10⟩ := f
  obtain ⟨o1, o2, o3, o4⟩ := ho
  have T' := zd_T T hH
  have hLG : zL s G ≠ 4294967295 := fun z => iG ((zI_N I G hG).1.mp z)
  have hLP : zL s P ≠ 4294967295 := fun z => iP ((zI_N I P hP).1.mp z)
  have clG := zI_cl I hG hLG (by omega)
  have Un : ∀ n, n ≠ G → n ≠ P → zU (zcomD s G P) n = zU s n := fun n h1 h2 => by
    show zu (zu (zU s) G _) P _ n = zU s n
    rw [zu_n h2, zu_n h1]
  have UP : zU (zcomD s G P) P = zU s P / 512 * 512 + zno s * 4 + 3 := zu_s
  have UG : zU (zcomD s G P) G = zU s G / 512 * 512 + zno s * 4 + 2 := by
    show zu (zu (zU s) G _) P _ G = _
    rw [zu_n f3, zu_s]
  have Uge : ∀ n, zU s n ≤ zU (zcomD s G P) n := by
    intro n
    by_cases e : n = G
    · subst e; rw [UG]; omega
    · by_cases e2 : n = P
      · subst e2; rw [UP]; omega
      · rw [Un n e e2]; exact Nat.le_refl _
  have pdo : ∀ o, o < zno s → zPd (zcomD s G P) o → zPd s o ∧ zN s o ≠ G ∧ zN s o ≠ P := by
    intro o ho z
    have z' : zW s o = zU (zcomD s G P) (zN s o) := z
    have w := (IO o ho).1.2.2.2.2
    by_cases e : zN s o = G
    · rw [e, UG] at z'; omega
    · by_cases e2 : zN s o = P
      · rw [e2, UP] at z'; omega
      · rw [Un _ e e2] at z'; exact ⟨z', e, e2⟩
  refine ⟨⟨T', ?_, ?_, ?_, IF, ?_⟩, ?_⟩
  · intro n hn hf hln
    have hf : ¬ zFr s n := hf
    have hln : zL s n ≠ 4294967295 := hln
    have h := zI_A I n hn hf hln
    refine ⟨h.1, h.2.1, ?_⟩
    show _ → _ < zno s + 1
    by_cases e : n = G
    · subst e; rw [UG]; intro _; omega
    · by_cases e2 : n = P
      · subst e2; rw [UP]; intro _; omega
      · rw [Un n e e2]; intro z; have := h.2.2 z; omega
  · intro n hn
    obtain ⟨e1, e2, e3⟩ := (zd_mem T).mp hn
    have h := zI_N I n e3
    refine ⟨h.1.trans (zd_leaf T hH).symm, h.2.1, fun hln => ?_⟩
    show (zU (zcomD s G P) n % 512 = 0 ∧ zL s n = zd (gl g) G P S n ∧ zR s n = zd (gr g) G P S n) ∨ (∃ o, o < zno s + 1 ∧ zN s o = n ∧ zW s o = zU (zcomD s G P) n)
    by_cases e : n = G
    · subst e
      exact Or.inr ⟨zno s, by omega, o1, by rw [UG]; exact o4⟩
    · rw [Un n e e2, zd_n (Or.inl e), zd_n (Or.inl e)]
      rcases h.2.2 hln with h1 | ⟨o, ho, e1, e2⟩
      · exact Or.inl h1
      · exact Or.inr ⟨o, by omega, e1, e2⟩
  · intro o ho
    have ho : o < zno s + 1 := ho
    by_cases hno : o = zno s
    · subst hno
      refine ⟨⟨?_, ?_, ?_, ?_, ?_⟩, ?_, ?_, ?_, ?_⟩
      · show zN s (zno s) < 99; rw [o1]; exact zt_lt T hG
      · show zO s (zno s) < 99; rw [o2]; exact zt_lt T hP
      · show zC s (zno s) < 99; rw [o3]; exact zt_lt T f2
      · show zW s (zno s) % 4 ≠ 0; rw [o4]; omega
      · show zW s (zno s) / 4 % 128 = zno s; rw [o4]; omega
      · show zW s (zno s) ≤ zU (zcomD s G P) (zN s (zno s)); rw [o1, UG, o4]; exact Nat.le_refl _
      · intro z
        exfalso; apply z
        show zW s (zno s) = zU (zcomD s G P) (zN s (zno s)); rw [o1, UG, o4]
      · intro _
        unfold zO4
        show zN s (zno s) ∈ ((gn g).erase P).erase l ∧ zC s (zno s) ∈ ((gn g).erase P).erase l ∧
          (zK s (zN s (zno s)) ≤ zK s (zC s (zno s)) → zd (gr g) G P S (zN s (zno s)) = zC s (zno s) ∧ (zR s (zN s (zno s)) = zO s (zno s) ∨ zR s (zN s (zno s)) = zC s (zno s)) ∧ zL s (zN s (zno s)) = zd (gl g) G P S (zN s (zno s))) ∧
          (¬ zK s (zN s (zno s)) ≤ zK s (zC s (zno s)) → zd (gl g) G P S (zN s (zno s)) = zC s (zno s) ∧ (zL s (zN s (zno s)) = zO s (zno s) ∨ zL s (zN s (zno s)) = zC s (zno s)) ∧ zR s (zN s (zno s)) = zd (gr g) G P S (zN s (zno s)))
        rw [o1, o2, o3, zd_mem T, zd_mem T]
        have u := zt_un T hG hG iG iG
        refine ⟨⟨f4, f3, hG⟩, ⟨f7, f6, f2⟩, fun c => ?_, fun c => ?_⟩
        · have e : gr g G = P := hsd.2.mpr (by omega)
          refine ⟨zd_s rfl e, Or.inl (clG.2.2.trans e), ?_⟩
          rw [zd_n (Or.inr (fun z => u.2.2 (z.trans e.symm)))]
          exact clG.2.1
        · have e : gl g G = P := hsd.1.mpr (by omega)
          refine ⟨zd_s rfl e, Or.inl (clG.2.1.trans e), ?_⟩
          rw [zd_n (Or.inr (fun z => u.2.2 (e.trans z.symm)))]
          exact clG.2.2
      · unfold zO5
        show zO s (zno s) ∉ ((gn g).erase P).erase l ∧ ¬ zFr s (zN s (zno s)) ∧ ¬ zFr s (zO s (zno s)) ∧ ¬ zFr s (zC s (zno s)) ∧ zL s (zN s (zno s)) ≠ 4294967295
        rw [o1, o2, o3, zd_mem T]
        exact ⟨fun z => z.2.1 rfl, (zI_g I G hG).2, (zI_g I P hP).2, (zI_g I S f2).2, hLG⟩
    · have ho : o < zno s := by omega
      obtain ⟨p1, p2, p3, p4, q1, q2, q3, q4, q5⟩ := IO o ho
      refine ⟨p1, Nat.le_trans p2 (Uge _), fun z => ?_, fun z => ?_, ?_⟩
      · show zSw s o
        by_cases e : zPd s o
        · exfalso; apply z
          have e' : zW s o = zU s (zN s o) := e
          show zW s o = zU (zcomD s G P) (zN s o)
          rw [Un _ (zI_np I hcG ho e) (zI_np I hcP ho e)]; exact e'
        · exact p3 e
      · obtain ⟨z1, z2, z3⟩ := pdo o ho z
        obtain ⟨r1, r2, r3, r4⟩ := p4 z1
        have hin := (zI_Ci I ho z1).2
        have q := f10 _ r1 hin
        have hC : zC s o ≠ P ∧ zC s o ≠ l := by
          by_cases c : zK s (zN s o) ≤ zK s (zC s o)
          · have e1 := (r3 c).1
            exact ⟨fun e => z2 (q.2.1 (e1.trans e)), fun e => z3 (q.2.2.2.1 (e1.trans e))⟩
          · have e1 := (r4 c).1
            exact ⟨fun e => z2 (q.1 (e1.trans e)), fun e => z3 (q.2.2.1 (e1.trans e))⟩
        unfold zO4
        show zN s o ∈ ((gn g).erase P).erase l ∧ zC s o ∈ ((gn g).erase P).erase l ∧
          (zK s (zN s o) ≤ zK s (zC s o) → zd (gr g) G P S (zN s o) = zC s o ∧ (zR s (zN s o) = zO s o ∨ zR s (zN s o) = zC s o) ∧ zL s (zN s o) = zd (gl g) G P S (zN s o)) ∧
          (¬ zK s (zN s o) ≤ zK s (zC s o) → zd (gl g) G P S (zN s o) = zC s o ∧ (zL s (zN s o) = zO s o ∨ zL s (zN s o) = zC s o) ∧ zR s (zN s o) = zd (gr g) G P S (zN s o))
        rw [zd_n (Or.inl z2), zd_n (Or.inl z2), zd_mem T, zd_mem T]
        exact ⟨⟨fun e => hin (e ▸ hl), z3, r1⟩, ⟨hC.2, hC.1, r2⟩, r3, r4⟩
      · unfold zO5
        show zO s o ∉ ((gn g).erase P).erase l ∧ ¬ zFr s (zN s o) ∧ ¬ zFr s (zO s o) ∧ ¬ zFr s (zC s o) ∧ zL s (zN s o) ≠ 4294967295
        rw [zd_mem T]
        exact ⟨fun z => q1 z.2.2, q2, q3, q4, q5⟩
  · intro n
    by_cases e : n = G
    · subst e; rw [UG]; have := zI_U I n; omega
    · by_cases e2 : n = P
      · subst e2; rw [UP]; have := zI_U I n; omega
      · rw [Un n e e2]; exact zI_U I n
  · refine ⟨fun n hn hf => ⟨hf, rfl, Iff.rfl, Uge n⟩, ?_, ?_, fun o ho => ⟨id, fun z => (pdo o ho z).1⟩⟩
    · intro n hn hln hu hcn
      have e : n ≠ G := by
        intro e; subst e; rw [UG] at hu; omega
      have e2 : n ≠ P := by
        intro e; subst e; rw [UP] at hu; omega
      have hin : gl g n ≠ 4294967295 := fun z => hln ((zI_N I n hn).1.mpr z)
      have hnl : n ≠ l := fun e => hin (e ▸ hl)
      refine ⟨(zd_mem T).mpr ⟨hnl, e2, hn⟩, fun x hx => ⟨zd_On T hH e2 hnl hx, ?_⟩⟩
      show zt_nx (zK s) (zd (gl g) G P S) (zd (gr g) G P S) x n = _
      rw [zd_nx T hH, if_neg (fun z => e z.1)]
    · show zno s ≤ zno s + 1; omega
end
end
section
/-! the least key from x on, by two descents -/
def zDn (K : Nat → Int) (dl dr : Nat → Nat) (lo hi : Int) (n : Nat) : Prop := ∀ z, lo ≤ z → z < hi → zt_On K dl dr z n
def zUp (K : Nat → Int) (dl dr : Nat → Nat) (hi : Int) (n : Nat) : Prop := ∀ z, z < 2147483648 → zt_On K dl dr z n → z < hi
def zLeast (M : Int → Prop) (x r : Int) : Prop := M r ∧ x ≤ r ∧ ∀ y, M y → x ≤ y → r ≤ y
/-- the last left turn -/
def zTu (K : Nat → Int) (dl dr : Nat → Nat) (ns : List Nat) (x hi : Int) (tn : Nat) : Prop :=
  tn ∈ ns ∧ dl tn ≠ 4294967295 ∧ hi = K tn ∧ x < K tn ∧ ∃ ht, zDn K dl dr (K tn) ht (dr tn) ∧ zUp K dl dr ht (dr tn) ∧ K tn < ht ∧ ∀ z, zt_On K dl dr z (dr tn) → K tn ≤ z
def zA1 (K : Nat → Int) (dl dr : Nat → Nat) (ns : List Nat) (x : Int) (tn n : Nat) : Prop :=
  ∃ hi, x < hi ∧ zDn K dl dr x hi n ∧ zUp K dl dr hi n ∧ (hi = 2147483648 ∨ zTu K dl dr ns x hi tn)
def zA2 (K : Nat → Int) (dl dr : Nat → Nat) (z : Int) (n : Nat) : Prop :=
  ∃ hi, z < hi ∧ zDn K dl dr z hi n ∧ zUp K dl dr hi n ∧ ∀ y, zt_On K dl dr y n → z ≤ y
section
variable {K : Nat → Int} {dl dr : Nat → Nat} {ns : List Nat}
theorem zt_pre {x : Int} {n : Nat} (h : zt_On K dl dr x n) : ∃ i, zt_it K dl dr x i = n ∧ ∀ j, j < i → dl (zt_it K dl dr x j) ≠ 4294967295 := by
  obtain ⟨i, hi, hmin⟩ := pk_least _ h
  refine ⟨i, hi, fun j hj hl => ?_⟩
  have := zt_stop hl (i - j)
  rw [show j + (i - j) = i by omega, hi] at this
  exact hmin j hj this.symm
theorem zA1_0 {x : Int} (hx : x < 2147483648) (tn : Nat) : zA1 K dl dr ns x tn 0 :=
  ⟨2147483648, hx, fun _ _ _ => zt_O0, fun _ h _ => h, Or.inl rfl⟩
theorem zA1_on {x : Int} {tn n : Nat} (h : zA1 K dl dr ns x tn n) : zt_On K dl dr x n := by
  obtain ⟨hi, h1, h2, _⟩ := h
  exact h2 x (Int.le_refl x) h1
theorem zA1_l (T : zt_T K dl dr ns) (hK : ∀ n, K n < 2147483648) {x : Int} {tn n : Nat} (h : zA1 K dl dr ns x tn n) (hi : dl n ≠ 4294967295) (hx : x < K n) : zA1 K dl dr ns x n (dl n) := by
  have hn := zt_Om T (zA1_on h)
  obtain ⟨h0, a1, a2, a3, _⟩ := h
  have hKn : K n < h0 := a3 _ (hK n) (zt_k T hn)
  refine ⟨K n, hx, ?_, ?_, Or.inr ⟨hn, hi, rfl, hx, h0, ?_, ?_, hKn, ?_⟩⟩
  · intro z h1 h2
    have := zt_Os (a2 z h1 (by omega))
    rw [zt_nx_l hi h2] at this
    exact this
  · intro z _ hz
    exact (zt_upl T hn hi hz).2
  · intro z h1 h2
    have := zt_Os (a2 z (by omega) h2)
    rw [zt_nx_r hi (by omega)] at this
    exact this
  · intro z h1 hz
    exact a3 z h1 (zt_upr T hn hi hz).1
  · intro z hz
    have := (zt_upr T hn hi hz).2
    omega
theorem zA1_r (T : zt_T K dl dr ns) {x : Int} {tn n : Nat} (h : zA1 K dl dr ns x tn n) (hi : dl n ≠ 4294967295) (hx : ¬ x < K n) : zA1 K dl dr ns x tn (dr n) := by
  have hn := zt_Om T (zA1_on h)
  obtain ⟨h0, a1, a2, a3, a4⟩ := h
  refine ⟨h0, a1, ?_, ?_, a4⟩
  · intro z h1 h2
    have := zt_Os (a2 z h1 h2)
    rw [zt_nx_r hi (by omega)] at this
    exact this
  · intro z h1 hz
    exact a3 z h1 (zt_upr T hn hi hz).1
theorem zA1_e (T : zt_T K dl dr ns) (hK : ∀ n, K n < 2147483648) {x : Int} {tn n : Nat} (h : zA1 K dl dr ns x tn n) (hl : dl n = 4294967295) (hx : x ≤ K n) : zLeast (zt_M K dl ns) x (K n) := by
  have hn := zt_Om T (zA1_on h)
  obtain ⟨h0, a1, a2, a3, a4⟩ := h
  have hKn : K n < h0 := a3 _ (hK n) (zt_k T hn)
  refine ⟨⟨n, hn, hl, rfl⟩, hx, fun y hy hxy => ?_⟩
  by_cases c : K n ≤ y
  · exact c
  · have := (zt_find T (a2 y hxy (by omega)) hl).mp hy
    omega
theorem zA1_t (T : zt_T K dl dr ns) {x : Int} {tn n : Nat} (h : zA1 K dl dr ns x tn n) (hl : dl n = 4294967295) (hx : K n < x) (hM : zt_M K dl ns 2147483647) (hx2 : x ≤ 2147483647) :
    tn ∈ ns ∧ dl tn ≠ 4294967295 ∧ x < K tn ∧ zA2 K dl dr (K tn) (dr tn) ∧ ∀ y, zt_M K dl ns y → x ≤ y → K tn ≤ y := by
  obtain ⟨h0, a1, a2, a3, a4⟩ := h
  rcases a4 with e | ⟨b1, b2, b3, b4, ht, b5, b6, b7, b8⟩
  · have := (zt_find T (a2 2147483647 hx2 (by omega)) hl).mp hM
    omega
  · refine ⟨b1, b2, b4, ⟨ht, b7, b5, b6, b8⟩, fun y hy hxy => ?_⟩
    by_cases c : K tn ≤ y
    · exact c
    · have := (zt_find T (a2 y hxy (by omega)) hl).mp hy
      omega
theorem zA2_on {z : Int} {n : Nat} (h : zA2 K dl dr z n) : zt_On K dl dr z n := by
  obtain ⟨hi, h1, h2, _⟩ := h
  exact h2 z (Int.le_refl z) h1
theorem zA2_l (T : zt_T K dl dr ns) (hK : ∀ n, K n < 2147483648) {z : Int} {n : Nat} (h : zA2 K dl dr z n) (hi : dl n ≠ 4294967295) : z < K n ∧ zA2 K dl dr z (dl n) := by
  have hn := zt_Om T (zA2_on h)
  obtain ⟨h0, a1, a2, a3, a4⟩ := h
  have hKn : K n < h0 := a3 _ (hK n) (zt_k T hn)
  have c := zt_upl T hn hi (zt_k T (zt_ch T hn hi).1)
  have d := a4 _ c.1
  have hz : z < K n := by omega
  refine ⟨hz, K n, hz, ?_, ?_, ?_⟩
  · intro y h1 h2
    have := zt_Os (a2 y h1 (by omega))
    rw [zt_nx_l hi h2] at this
    exact this
  · intro y _ hy
    exact (zt_upl T hn hi hy).2
  · intro y hy
    exact a4 y (zt_upl T hn hi hy).1
theorem zA2_e (T : zt_T K dl dr ns) (hK : ∀ n, K n < 2147483648) {x z : Int} {n : Nat} (h : zA2 K dl dr z n) (hl : dl n = 4294967295) (hx : x < z) (hm : ∀ y, zt_M K dl ns y → x ≤ y → z ≤ y) : zLeast (zt_M K dl ns) x (K n) := by
  have hn := zt_Om T (zA2_on h)
  obtain ⟨h0, a1, a2, a3, a4⟩ := h
  have hKn : K n < h0 := a3 _ (hK n) (zt_k T hn)
  have := a4 _ (zt_k T hn)
  refine ⟨⟨n, hn, hl, rfl⟩, by omega, fun y hy hxy => ?_⟩
  by_cases c : K n ≤ y
  · exact c
  · have := (zt_find T (a2 y (hm y hy hxy) (by omega)) hl).mp hy
    omega
theorem zLeast_u {M : Int → Prop} {x r r' : Int} (h : zLeast M x r) (h' : zLeast M x r') : r = r' := by
  have h1 := h.2.2 r' h'.1 h'.2.1
  have h2 := h'.2.2 r h.1 h.2.1
  omega
end
/-! counting -/
def zcn (p : Nat → Bool) : Nat → Nat
  | 0 => 0
  | n + 1 => zcn p n + (p n).toNat
theorem zcn_c {p q : Nat → Bool} : ∀ n, (∀ i, i < n → p i = q i) → zcn p n = zcn q n
  | 0, _ => rfl
  | n + 1, h => by
    show zcn p n + (p n).toNat = zcn q n + (q n).toNat
    rw [zcn_c n (fun i hi => h i (by omega)), h n (by omega)]
theorem zcn_1 {p q : Nat → Bool} {k : Nat} (hp : p k = true) (hq : q k = false) : ∀ n, k < n → (∀ i, i < n → i ≠ k → p i = q i) → zcn p n = zcn q n + 1
  | 0, hk, _ => by omega
  | n + 1, hk, h => by
    show zcn p n + (p n).toNat = zcn q n + (q n).toNat + 1
    by_cases e : n = k
    · subst e
      rw [zcn_c n (fun i hi => h i (by omega) (by omega)), hp, hq]
      rfl
    · rw [zcn_1 hp hq n (by omega) (fun i hi hne => h i (by omega) hne), h n (by omega) e]
      omega
theorem zcn_0 {p : Nat → Bool} : ∀ n, (∀ i, i < n → p i = false) → zcn p n = 0
  | 0, _ => rfl
  | n + 1, h => by
    show zcn p n + (p n).toNat = 0
    rw [zcn_0 n (fun i hi => h i (by omega)), h n (by omega)]
    rfl
theorem zcn_le (p : Nat → Bool) : ∀ n, zcn p n ≤ n
  | 0 => Nat.le_refl 0
  | n + 1 => by
    show zcn p n + (p n).toNat ≤ n + 1
    have := zcn_le p n
    have := Bool.toNat_le (p n)
    omega
theorem zcn_ex {p : Nat → Bool} : ∀ n, zcn p n < n → ∃ i, i < n ∧ p i = false
  | 0, h => by omega
  | n + 1, h => by
    cases e : p n with
    | false => exact ⟨n, by omega, e⟩
    | true =>
      have h : zcn p n + (p n).toNat < n + 1 := h
      rw [e] at h
      obtain ⟨i, hi, hp⟩ := zcn_ex (p := p) n (by have : true.toNat = 1 := rfl; omega)
      exact ⟨i, by omega, hp⟩
theorem zcn_pos {p : Nat → Bool} : ∀ n, 0 < zcn p n → ∃ i, i < n ∧ p i = true
  | 0, h => absurd h (Nat.lt_irrefl 0)
  | n + 1, h => by
    cases e : p n with
    | true => exact ⟨n, by omega, e⟩
    | false =>
      have h : 0 < zcn p n + (p n).toNat := h
      rw [e] at h
      obtain ⟨i, hi, hp⟩ := zcn_pos (p := p) n h
      exact ⟨i, by omega, hp⟩
end
section
/-! threads, slots, the relation's facts -/
def zSP (s : CS) (g : GS) (x : Int) (p l pw : Nat) : Prop := p < 99 ∧ l < 99 ∧ ¬ zFr s p ∧ ¬ zFr s l ∧ zL s p ≠ 4294967295 ∧ zL s l = 4294967295 ∧ pw % 512 = 0 ∧ pw ≤ zU s p ∧
  (pw = zU s p → p ∈ gn g ∧ zt_On (zK s) (gl g) (gr g) x p ∧ zt_nx (zK s) (gl g) (gr g) x p = l)
def zSG (s : CS) (g : GS) (x : Int) (q p gw : Nat) : Prop := q < 99 ∧ ¬ zFr s q ∧ zL s q ≠ 4294967295 ∧ gw % 512 = 0 ∧ gw ≤ zU s q ∧
  (gw = zU s q → q ∈ gn g ∧ zt_On (zK s) (gl g) (gr g) x q ∧ zt_nx (zK s) (gl g) (gr g) x q = p)
/-- one thread: phase, kind, key, left; job, grand, parent, leaf, their words -/
def zT1 (s : CS) (g : GS) (ph kd ky lo : Int32) (J q p l gw pw : Nat) : Prop :=
  (ph = 0 ∨ ph = 1 ∨ ph = 2 ∨ ph = 3 ∨ ph = 4 ∨ ph = 5) ∧
  ((ph = 1 ∨ ph = 2 ∨ ph = 3) → (kd = 0 ∨ kd = 1 ∨ kd = 2) ∧ ky.toInt ≤ 2147483645) ∧
  (ph = 2 → zSP s g ky.toInt p l pw ∧ zK s l ≠ ky.toInt) ∧
  (ph = 3 → zSP s g ky.toInt p l pw ∧ zSG s g ky.toInt q p gw ∧ zK s l = ky.toInt) ∧
  ((ph = 4 ∨ ph = 5) → J < zno s ∧ (lo = 2 ∨ (lo = 1 ∧ zSw s J)))
def zOwn (s : CS) (ph : Nat → Int32) (J : Nat → Nat) : Prop := ∀ o, o < zno s → zPd s o → ∃ t, t < 8 ∧ ph t = 4 ∧ J t = o
def zTh (s : CS) (g : GS) (th : Nat) (ph kd ky lo : Nat → Int32) (J SG SP SL GW PW : Nat → Nat) : Prop :=
  (∀ t, t < 8 → zT1 s g (ph t) (kd t) (ky t) (lo t) (J t) (SG t) (SP t) (SL t) (GW t) (PW t)) ∧ zOwn s ph J ∧ (∀ t, th ≤ t → t < 8 → ph t = 0)
/-- the slots of the reference and the tree's keys -/
def zfull (sl : Nat → Int32) (i : Nat) : Bool := decide (sl i ≠ 2147483647)
def zSl (s : CS) (g : GS) (sl : Nat → Int32) : Prop :=
  (∀ i, i < 32 → sl i = 2147483647 ∨ (sl i).toInt ≤ 2147483645) ∧
  (∀ i j, i < 32 → j < 32 → sl i = sl j → sl i ≠ 2147483647 → i = j) ∧
  (∀ x : Int, x ≤ 2147483645 → (zt_M (zK s) (gl g) (gn g) x ↔ ∃ i, i < 32 ∧ (sl i).toInt = x)) ∧
  zt_M (zK s) (gl g) (gn g) 2147483646 ∧ zt_M (zK s) (gl g) (gn g) 2147483647 ∧ zK s 0 = 2147483647
def zCt (s : CS) (g : GS) (ce ro : Nat) (sl : Nat → Int32) : Prop :=
  (gn g).length = 2 * zcn (zfull sl) 32 + 3 ∧ 3 * ro ≤ zft s ∧ zno s + 2 * ro + zcn (zfull sl) 32 ≤ 64 ∧ zcn (zfull sl) 32 + ro ≤ ce ∧ ce ≤ 32
def zRel (k th ce ro : Nat) (s : CS) (g : GS) (ph kd ky lo : Nat → Int32) (J SG SP SL GW PW : Nat → Nat) (sl : Nat → Int32) : Prop :=
  2 ≤ th ∧ th ≤ 8 ∧ zI (200 * k) s g ∧ zTh s g th ph kd ky lo J SG SP SL GW PW ∧ zSl s g sl ∧ zCt s g ce ro sl ∧
  (∀ t, GW t < 2147483648 ∧ PW t < 2147483648)
section
variable {s s' : CS} {g g' : GS}
theorem zSP_tr (Tr : zTr s g s' g') {x : Int} {p l pw : Nat} (h : zSP s g x p l pw) : zSP s' g' x p l pw := by
  obtain ⟨a1, a2, a3, a4, a5, a6, a7, a8, a9⟩ := h
  obtain ⟨b1, b2, b3, b4⟩ := Tr.1 p a1 a3
  obtain ⟨c1, c2, c3, c4⟩ := Tr.1 l a2 a4
  refine ⟨a1, a2, b1, c1, fun z => a5 (b3.mp z), c3.mpr a6, a7, by omega, fun e => ?_⟩
  have e2 : pw = zU s p := by omega
  obtain ⟨d1, d2, d3⟩ := a9 e2
  obtain ⟨f1, f2⟩ := Tr.2.1 p d1 a5 (by omega) (by omega)
  obtain ⟨f3, f4⟩ := f2 x d2
  exact ⟨f1, f3, f4.trans d3⟩
theorem zSG_tr (Tr : zTr s g s' g') {x : Int} {q p gw : Nat} (h : zSG s g x q p gw) : zSG s' g' x q p gw := by
  obtain ⟨a1, a3, a5, a7, a8, a9⟩ := h
  obtain ⟨b1, b2, b3, b4⟩ := Tr.1 q a1 a3
  refine ⟨a1, b1, fun z => a5 (b3.mp z), a7, by omega, fun e => ?_⟩
  have e2 : gw = zU s q := by omega
  obtain ⟨d1, d2, d3⟩ := a9 e2
  obtain ⟨f1, f2⟩ := Tr.2.1 q d1 a5 (by omega) (by omega)
  obtain ⟨f3, f4⟩ := f2 x d2
  exact ⟨f1, f3, f4.trans d3⟩
theorem zT1_tr (Tr : zTr s g s' g') {ph kd ky lo : Int32} {J q p l gw pw : Nat} (h : zT1 s g ph kd ky lo J q p l gw pw) : zT1 s' g' ph kd ky lo J q p l gw pw := by
  obtain ⟨a1, a2, a3, a4, a5⟩ := h
  refine ⟨a1, a2, fun z => ?_, fun z => ?_, fun z => ?_⟩
  · obtain ⟨b1, b2⟩ := a3 z
    refine ⟨zSP_tr Tr b1, ?_⟩
    have := (Tr.1 l b1.2.1 b1.2.2.2.1).2.1
    unfold zK at b2 ⊢; rw [this]; exact b2
  · obtain ⟨b1, b2, b3⟩ := a4 z
    refine ⟨zSP_tr Tr b1, zSG_tr Tr b2, ?_⟩
    have := (Tr.1 l b1.2.1 b1.2.2.2.1).2.1
    unfold zK at b3 ⊢; rw [this]; exact b3
  · obtain ⟨b1, b2⟩ := a5 z
    refine ⟨Nat.lt_of_lt_of_le b1 Tr.2.2.1, ?_⟩
    rcases b2 with b2 | ⟨b2, b3⟩
    · exact Or.inl b2
    · exact Or.inr ⟨b2, (Tr.2.2.2 J b1).1 b3⟩
end
end
section
/-! the small methods of X, each over the core state s -/
section
variable {q0 q1 q2 q3 q4 q5 th ce ro ch : Int32} {s : CS} {lv st ph kd ky an ba lo J SG SP SL : Nat → Int32} {GW PW : Nat → Int64}
theorem zr_I {f : Nat → Nat} {p : Nat} (h : p < 2147483648) : (fun n => nI (f n)) (nI p).toNatClampNeg = nI (f p) := by rw [z_cl h]
theorem zr_L {f : Nat → Nat} {p : Nat} (h : p < 2147483648) : (fun n => lN (f n)) (nI p).toNatClampNeg = lN (f p) := by rw [z_cl h]
theorem zw_nc {post : Int64 → Prop} {w : Nat} (h : w < 2147483648) (hp : post (lN ((w / 512 + 1) * 512))) : wpX_nextClean post (q0, q1, q2, q3, q4, q5, th, ce, ro, ch, nI (zft s), nI (zno s), zky s, fun w_ => nI (zL s w_), fun w_ => nI (zR s w_), fun w_ => lN (zU s w_), fun w_ => nI (zF s w_), lv, st, fun w_ => nI (zN s w_), fun w_ => nI (zO s w_), fun w_ => nI (zC s w_), fun w_ => lN (zW s w_), ph, kd, ky, an, ba, lo, J, SG, SP, SL, GW, PW) (lN w) := by
  unfold wpX_nextClean
  dsimp only
  rw [z_nc h]; exact hp
theorem zw_inner {post : Int32 → Prop} {p : Nat} (h : p < 99) (h2 : zL s p < 4294967296) (h0 : zL s p = 4294967295 → post 0) (h1 : zL s p ≠ 4294967295 → post 1) : wpX_inner post (q0, q1, q2, q3, q4, q5, th, ce, ro, ch, nI (zft s), nI (zno s), zky s, fun w_ => nI (zL s w_), fun w_ => nI (zR s w_), fun w_ => lN (zU s w_), fun w_ => nI (zF s w_), lv, st, fun w_ => nI (zN s w_), fun w_ => nI (zO s w_), fun w_ => nI (zC s w_), fun w_ => lN (zW s w_), ph, kd, ky, an, ba, lo, J, SG, SP, SL, GW, PW) (nI p) := by
  unfold wpX_inner
  dsimp only
  rw [z_cl (by omega), z_eqm h2]
  exact ⟨z_in h, h0, h1⟩
theorem zw_st {post : Int32 → Prop} {w : Nat} (h : w < 2147483648) (hp : post (nI (w % 4))) : wpX_stateIn post (q0, q1, q2, q3, q4, q5, th, ce, ro, ch, nI (zft s), nI (zno s), zky s, fun w_ => nI (zL s w_), fun w_ => nI (zR s w_), fun w_ => lN (zU s w_), fun w_ => nI (zF s w_), lv, st, fun w_ => nI (zN s w_), fun w_ => nI (zO s w_), fun w_ => nI (zC s w_), fun w_ => lN (zW s w_), ph, kd, ky, an, ba, lo, J, SG, SP, SL, GW, PW) (lN w) := by
  unfold wpX_stateIn
  dsimp only
  rw [z_st h]; exact hp
theorem zw_op {post : Int32 → Prop} {w : Nat} (h : w < 2147483648) (hp : post (nI (w / 4 % 128))) : wpX_opIn post (q0, q1, q2, q3, q4, q5, th, ce, ro, ch, nI (zft s), nI (zno s), zky s, fun w_ => nI (zL s w_), fun w_ => nI (zR s w_), fun w_ => lN (zU s w_), fun w_ => nI (zF s w_), lv, st, fun w_ => nI (zN s w_), fun w_ => nI (zO s w_), fun w_ => nI (zC s w_), fun w_ => lN (zW s w_), ph, kd, ky, an, ba, lo, J, SG, SP, SL, GW, PW) (lN w) := by
  unfold wpX_opIn
  dsimp only
  rw [z_op h]; exact hp
theorem zw_cas {post : Int32 → SX → Prop} {p w v : Nat} (h : p < 99) (hu : zU s p < 2147483648) (hw : w < 2147483648)
    (h1 : zU s p = w → post 1 (q0, q1, q2, q3, q4, q5, th, ce, ro, ch, nI (zft (zsetU s p v)), nI (zno (zsetU s p v)), zky (zsetU s p v), fun w_ => nI (zL (zsetU s p v) w_), fun w_ => nI (zR (zsetU s p v) w_), fun w_ => lN (zU (zsetU s p v) w_), fun w_ => nI (zF (zsetU s p v) w_), lv, st, fun w_ => nI (zN (zsetU s p v) w_), fun w_ => nI (zO (zsetU s p v) w_), fun w_ => nI (zC (zsetU s p v) w_), fun w_ => lN (zW (zsetU s p v) w_), ph, kd, ky, an, ba, lo, J, SG, SP, SL, GW, PW)) (h0 : zU s p ≠ w → post 0 (q0, q1, q2, q3, q4, q5, th, ce, ro, ch, nI (zft s), nI (zno s), zky s, fun w_ => nI (zL s w_), fun w_ => nI (zR s w_), fun w_ => lN (zU s w_), fun w_ => nI (zF s w_), lv, st, fun w_ => nI (zN s w_), fun w_ => nI (zO s w_), fun w_ => nI (zC s w_), fun w_ => lN (zW s w_), ph, kd, ky, an, ba, lo, J, SG, SP, SL, GW, PW)) : wpX_casUpdate post (q0, q1, q2, q3, q4, q5, th, ce, ro, ch, nI (zft s), nI (zno s), zky s, fun w_ => nI (zL s w_), fun w_ => nI (zR s w_), fun w_ => lN (zU s w_), fun w_ => nI (zF s w_), lv, st, fun w_ => nI (zN s w_), fun w_ => nI (zO s w_), fun w_ => nI (zC s w_), fun w_ => lN (zW s w_), ph, kd, ky, an, ba, lo, J, SG, SP, SL, GW, PW) (nI p) (lN w) (lN v) := by
  unfold wpX_casUpdate
  dsimp only
  rw [z_cl (by omega), lN_eq (by omega) (by omega)]
  refine ⟨z_in h, br_c (fun c => ⟨z_in h, nm_r (zu_L (zU s) p v) ?_⟩) (fun c => h0 c)⟩
  exact h1 c
theorem zw_swing {post : SX → Prop} {o : Nat} (ho : o < 128) (hN : zN s o < 99) (hC : zC s o < 99) (hO : zO s o < 99) (hL : zL s (zN s o) < 2147483648) (hR : zR s (zN s o) < 2147483648)
    (hp : post (q0, q1, q2, q3, q4, q5, th, ce, ro, ch, nI (zft (zswing s o)), nI (zno (zswing s o)), zky (zswing s o), fun w_ => nI (zL (zswing s o) w_), fun w_ => nI (zR (zswing s o) w_), fun w_ => lN (zU (zswing s o) w_), fun w_ => nI (zF (zswing s o) w_), lv, st, fun w_ => nI (zN (zswing s o) w_), fun w_ => nI (zO (zswing s o) w_), fun w_ => nI (zC (zswing s o) w_), fun w_ => lN (zW (zswing s o) w_), ph, kd, ky, an, ba, lo, J, SG, SP, SL, GW, PW)) : wpX_swing post (q0, q1, q2, q3, q4, q5, th, ce, ro, ch, nI (zft s), nI (zno s), zky s, fun w_ => nI (zL s w_), fun w_ => nI (zR s w_), fun w_ => lN (zU s w_), fun w_ => nI (zF s w_), lv, st, fun w_ => nI (zN s w_), fun w_ => nI (zO s w_), fun w_ => nI (zC s w_), fun w_ => lN (zW s w_), ph, kd, ky, an, ba, lo, J, SG, SP, SL, GW, PW) (nI o) := by
  unfold wpX_swing
  dsimp only
  rw [z_cl (show o < 2147483648 by omega)]
  refine ⟨z_in ho, nm_e ⟨z_in ho, nm_e ⟨z_in hC, z_in hN, ?_⟩⟩⟩
  rw [z_cl (show zN s o < 2147483648 by omega), z_cl (show zC s o < 2147483648 by omega), Int32.le_iff_toInt_le, nI_eq (by omega) (by omega), nI_eq (by omega) (by omega)]
  refine br_c (fun c => ⟨z_in hN, z_in ho, br_c (fun e => ⟨z_in hN, nm_r (zu_I (zR s) (zN s o) (zC s o)) ?_⟩) (fun e => ?_)⟩) (fun c => ⟨z_in hN, z_in ho, br_c (fun e => ⟨z_in hN, nm_r (zu_I (zL s) (zN s o) (zC s o)) ?_⟩) (fun e => ?_)⟩)
  · have c' : zK s (zN s o) ≤ zK s (zC s o) := c
    have q : zswing s o = zsetR s (zN s o) (zC s o) := by unfold zswing zsetR zsL zsR; rw [if_pos c', if_pos c', if_pos e]
    rw [q] at hp; exact hp
  · have c' : zK s (zN s o) ≤ zK s (zC s o) := c
    have q : zswing s o = s := zsw_id ⟨fun _ => e, fun z => absurd c' z⟩
    rw [q] at hp; exact hp
  · have c' : ¬ zK s (zN s o) ≤ zK s (zC s o) := c
    have q : zswing s o = zsetL s (zN s o) (zC s o) := by unfold zswing zsetL zsL zsR; rw [if_neg c', if_neg c', if_pos e]
    rw [q] at hp; exact hp
  · have c' : ¬ zK s (zN s o) ≤ zK s (zC s o) := c
    have q : zswing s o = s := zsw_id ⟨fun z => absurd z c', fun _ => e⟩
    rw [q] at hp; exact hp
theorem zw_unflag {post : SX → Prop} {o : Nat} (ho : o < 128) (hN : zN s o < 99) (hW : zW s o < 2147483648) (hU : zU s (zN s o) < 2147483648)
    (hp : post (q0, q1, q2, q3, q4, q5, th, ce, ro, ch, nI (zft (zunfl s o)), nI (zno (zunfl s o)), zky (zunfl s o), fun w_ => nI (zL (zunfl s o) w_), fun w_ => nI (zR (zunfl s o) w_), fun w_ => lN (zU (zunfl s o) w_), fun w_ => nI (zF (zunfl s o) w_), lv, st, fun w_ => nI (zN (zunfl s o) w_), fun w_ => nI (zO (zunfl s o) w_), fun w_ => nI (zC (zunfl s o) w_), fun w_ => lN (zW (zunfl s o) w_), ph, kd, ky, an, ba, lo, J, SG, SP, SL, GW, PW)) : wpX_unflag post (q0, q1, q2, q3, q4, q5, th, ce, ro, ch, nI (zft s), nI (zno s), zky s, fun w_ => nI (zL s w_), fun w_ => nI (zR s w_), fun w_ => lN (zU s w_), fun w_ => nI (zF s w_), lv, st, fun w_ => nI (zN s w_), fun w_ => nI (zO s w_), fun w_ => nI (zC s w_), fun w_ => lN (zW s w_), ph, kd, ky, an, ba, lo, J, SG, SP, SL, GW, PW) (nI o) := by
  unfold wpX_unflag
  dsimp only
  rw [z_cl (show o < 2147483648 by omega)]
  refine ⟨z_in ho, zw_nc hW ⟨z_in ho, z_in ho, zw_cas hN hU hW (fun e => ?_) (fun e => ?_)⟩⟩
  · have q : zunfl s o = zsetU s (zN s o) ((zW s o / 512 + 1) * 512) := by unfold zunfl zsetU zsU; rw [if_pos e]
    rw [q] at hp; exact hp
  · have q : zunfl s o = s := zun_id (fun z => e (Eq.symm z))
    rw [q] at hp; exact hp
theorem zw_help {post : SX → Prop} {n : Nat} (hn : n < 99) (hU : ∀ m, zU s m < 2147483648)
    (ho : zU s n % 4 ≠ 0 → zN s (zU s n / 4 % 128) < 99 ∧ zO s (zU s n / 4 % 128) < 99 ∧ zC s (zU s n / 4 % 128) < 99 ∧ zW s (zU s n / 4 % 128) < 2147483648 ∧ zL s (zN s (zU s n / 4 % 128)) < 2147483648 ∧ zR s (zN s (zU s n / 4 % 128)) < 2147483648)
    (hp : post (q0, q1, q2, q3, q4, q5, th, ce, ro, ch, nI (zft (zhelp s n)), nI (zno (zhelp s n)), zky (zhelp s n), fun w_ => nI (zL (zhelp s n) w_), fun w_ => nI (zR (zhelp s n) w_), fun w_ => lN (zU (zhelp s n) w_), fun w_ => nI (zF (zhelp s n) w_), lv, st, fun w_ => nI (zN (zhelp s n) w_), fun w_ => nI (zO (zhelp s n) w_), fun w_ => nI (zC (zhelp s n) w_), fun w_ => lN (zW (zhelp s n) w_), ph, kd, ky, an, ba, lo, J, SG, SP, SL, GW, PW)) : wpX_helpAt post (q0, q1, q2, q3, q4, q5, th, ce, ro, ch, nI (zft s), nI (zno s), zky s, fun w_ => nI (zL s w_), fun w_ => nI (zR s w_), fun w_ => lN (zU s w_), fun w_ => nI (zF s w_), lv, st, fun w_ => nI (zN s w_), fun w_ => nI (zO s w_), fun w_ => nI (zC s w_), fun w_ => lN (zW s w_), ph, kd, ky, an, ba, lo, J, SG, SP, SL, GW, PW) (nI n) := by
  unfold wpX_helpAt
  dsimp only
  rw [z_cl (show n < 2147483648 by omega)]
  refine ⟨z_in hn, nm_e (zw_st (hU n) (br_c (fun e => ?_) (fun e => zw_op (hU n) ?_)))⟩
  · have e' : zU s n % 4 = 0 := (nI_eq (b := 0) (by omega) (by omega)).mp e
    have q : zhelp s n = s := by unfold zhelp; rw [if_pos e']
    rw [q] at hp; exact hp
  · have e' : zU s n % 4 ≠ 0 := fun z => e (by rw [z]; rfl)
    obtain ⟨h1, h2, h3, h4, h5, h6⟩ := ho e'
    have q : zhelp s n = zunfl (zswing s (zU s n / 4 % 128)) (zU s n / 4 % 128) := by unfold zhelp; rw [if_neg e']
    rw [q] at hp
    exact zw_swing (by omega) h1 h3 h2 h5 h6 (zw_unflag (by omega) h1 h4 (hU _) hp)
theorem zw_leaf {post : SX → Prop} {p : Nat} {k : Int32} (h : p < 99)
    (hp : post (q0, q1, q2, q3, q4, q5, th, ce, ro, ch, nI (zft s), nI (zno s), upd (zky s) p k, fun n => nI (zu (zL s) p 4294967295 n), fun n => nI (zu (zR s) p 4294967295 n), fun w_ => lN (zU s w_), fun w_ => nI (zF s w_), lv, st, fun w_ => nI (zN s w_), fun w_ => nI (zO s w_), fun w_ => nI (zC s w_), fun w_ => lN (zW s w_), ph, kd, ky, an, ba, lo, J, SG, SP, SL, GW, PW)) : wpX_makeLeaf post (q0, q1, q2, q3, q4, q5, th, ce, ro, ch, nI (zft s), nI (zno s), zky s, fun w_ => nI (zL s w_), fun w_ => nI (zR s w_), fun w_ => lN (zU s w_), fun w_ => nI (zF s w_), lv, st, fun w_ => nI (zN s w_), fun w_ => nI (zO s w_), fun w_ => nI (zC s w_), fun w_ => lN (zW s w_), ph, kd, ky, an, ba, lo, J, SG, SP, SL, GW, PW) (nI p) k := by
  unfold wpX_makeLeaf
  dsimp only
  rw [z_cl (show p < 2147483648 by omega), ← z_m1]
  exact ⟨z_in h, nm_e ⟨z_in h, nm_r (zu_I _ _ _) ⟨z_in h, nm_r (zu_I _ _ _) hp⟩⟩⟩
theorem zw_node {post : SX → Prop} {p a d : Nat} {k : Int32} (h : p < 99) (hU : zU s p < 2147483648)
    (hp : post (q0, q1, q2, q3, q4, q5, th, ce, ro, ch, nI (zft s), nI (zno s), upd (zky s) p k, fun n => nI (zu (zL s) p a n), fun n => nI (zu (zR s) p d n), fun n => lN (zu (zU s) p ((zU s p / 512 + 1) * 512) n), fun w_ => nI (zF s w_), lv, st, fun w_ => nI (zN s w_), fun w_ => nI (zO s w_), fun w_ => nI (zC s w_), fun w_ => lN (zW s w_), ph, kd, ky, an, ba, lo, J, SG, SP, SL, GW, PW)) : wpX_makeInner post (q0, q1, q2, q3, q4, q5, th, ce, ro, ch, nI (zft s), nI (zno s), zky s, fun w_ => nI (zL s w_), fun w_ => nI (zR s w_), fun w_ => lN (zU s w_), fun w_ => nI (zF s w_), lv, st, fun w_ => nI (zN s w_), fun w_ => nI (zO s w_), fun w_ => nI (zC s w_), fun w_ => lN (zW s w_), ph, kd, ky, an, ba, lo, J, SG, SP, SL, GW, PW) (nI p) k (nI a) (nI d) := by
  unfold wpX_makeInner
  dsimp only
  rw [z_cl (show p < 2147483648 by omega)]
  refine ⟨z_in h, nm_e ⟨z_in h, nm_r (zu_I _ _ _) ⟨z_in h, nm_r (zu_I _ _ _) ⟨z_in h, ?_⟩⟩⟩⟩
  exact zw_nc (s := (zft s, zno s, upd (zky s) p k, zu (zL s) p a, zu (zR s) p d, zU s, zF s, zN s, zO s, zC s, zW s)) hU ⟨z_in h, nm_r (zu_L _ _ _) hp⟩
end
end
section
/-! help and search over the core's invariant -/
/-- what a search leaves -/
def zFd (s : CS) (g : GS) (x : Int) (q p l gw pw : Nat) : Prop :=
  zSP s g x p l pw ∧ pw = zU s p ∧ gw < 2147483648 ∧ pw < 2147483648 ∧ (zt_M (zK s) (gl g) (gn g) x ↔ zK s l = x) ∧
  (zt_M (zK s) (gl g) (gn g) 2147483646 → zK s 0 = 2147483647 → x ≤ 2147483645 → zK s l = x → zSG s g x q p gw ∧ gw = zU s q)
def zSame (s s' : CS) : Prop := zky s' = zky s ∧ zft s' = zft s ∧ zno s' = zno s
section
variable {B : Nat} {s : CS} {g : GS}
theorem zI_op (I : zI B s g) (hB : B ≤ 4000000) {o : Nat} (ho : o < zno s) : zN s o < 99 ∧ zO s o < 99 ∧ zC s o < 99 ∧ zW s o < 2147483648 ∧ zL s (zN s o) < 2147483648 ∧ zR s (zN s o) < 2147483648 := by
  obtain ⟨⟨p1, p2, p3, _⟩, p4, _, _, q1, q2, q3, q4, q5⟩ := zI_O I o ho
  have a := zI_A I _ p1 q2 q5
  have u := zI_U I (zN s o)
  exact ⟨p1, p2, p3, by omega, by omega, by omega⟩
theorem zI_u (I : zI B s g) (hB : B ≤ 4000000) (n : Nat) : zU s n < 2147483648 := by have := zI_U I n; omega
theorem zI_Lb (I : zI B s g) {n : Nat} (hn : n < 99) (hf : ¬ zFr s n) : zL s n < 4294967296 := by
  by_cases h : zL s n = 4294967295
  · omega
  · have := (zI_A I n hn hf h).1; omega
end
section
variable {q0 q1 q2 q3 q4 q5 th ce ro ch : Int32} {s : CS} {lv st ph kd ky an ba lo J SG SP SL : Nat → Int32} {GW PW : Nat → Int64}
variable {B : Nat} {g : GS}
theorem zw_helpI {post : SX → Prop} (I : zI B s g) (hB : B ≤ 4000000) {n : Nat} (hn : n < 99) (hf : ¬ zFr s n) (hl : zL s n ≠ 4294967295)
    (hp : post (q0, q1, q2, q3, q4, q5, th, ce, ro, ch, nI (zft (zhelp s n)), nI (zno (zhelp s n)), zky (zhelp s n), fun w_ => nI (zL (zhelp s n) w_), fun w_ => nI (zR (zhelp s n) w_), fun w_ => lN (zU (zhelp s n) w_), fun w_ => nI (zF (zhelp s n) w_), lv, st, fun w_ => nI (zN (zhelp s n) w_), fun w_ => nI (zO (zhelp s n) w_), fun w_ => nI (zC (zhelp s n) w_), fun w_ => lN (zW (zhelp s n) w_), ph, kd, ky, an, ba, lo, J, SG, SP, SL, GW, PW)) : wpX_helpAt post (q0, q1, q2, q3, q4, q5, th, ce, ro, ch, nI (zft s), nI (zno s), zky s, fun w_ => nI (zL s w_), fun w_ => nI (zR s w_), fun w_ => lN (zU s w_), fun w_ => nI (zF s w_), lv, st, fun w_ => nI (zN s w_), fun w_ => nI (zO s w_), fun w_ => nI (zC s w_), fun w_ => lN (zW s w_), ph, kd, ky, an, ba, lo, J, SG, SP, SL, GW, PW) (nI n) :=
  zw_help hn (zI_u I hB) (fun h => zI_op I hB ((zI_A I n hn hf hl).2.2 h)) hp
theorem zw_103 {post : SX → Prop} {t q p l gw pw : Nat} (ht : t < 8)
    (hp : post (q0, q1, q2, q3, q4, q5, th, ce, ro, ch, nI (zft s), nI (zno s), zky s, fun w_ => nI (zL s w_), fun w_ => nI (zR s w_), fun w_ => lN (zU s w_), fun w_ => nI (zF s w_), lv, st, fun w_ => nI (zN s w_), fun w_ => nI (zO s w_), fun w_ => nI (zC s w_), fun w_ => lN (zW s w_), ph, kd, ky, an, ba, lo, J, upd SG t (nI q), upd SP t (nI p), upd SL t (nI l), vp_updL GW t (lN gw), vp_updL PW t (lN pw))) :
    wX_search_103 post (nI t) (nI q) (nI p) (nI l) (lN gw) (lN pw) q0 q1 q2 q3 q4 q5 th ce ro ch (nI (zft s)) (nI (zno s)) (zky s) (fun w_ => nI (zL s w_)) (fun w_ => nI (zR s w_)) (fun w_ => lN (zU s w_)) (fun w_ => nI (zF s w_)) lv st (fun w_ => nI (zN s w_)) (fun w_ => nI (zO s w_)) (fun w_ => nI (zC s w_)) (fun w_ => lN (zW s w_)) ph kd ky an ba lo J SG SP SL GW PW := by
  unfold wX_search_103
  rw [z_cl (show t < 2147483648 by omega)]
  exact ⟨z_in ht, nm_e ⟨z_in ht, nm_e ⟨z_in ht, nm_e ⟨z_in ht, nm_e ⟨z_in ht, nm_e hp⟩⟩⟩⟩⟩
theorem zw_sloop {post : SX → Prop} {t : Nat} (ht : t < 8) (s0 : CS) (x : Int) (hx : (ky t).toInt = x) (T0 : zt_T (zK s0) (gl g) (gr g) (gn g))
    (hp : ∀ (s' : CS) (q p l gw pw : Nat), zI (B + 99) s' g → zTr s0 g s' g → zSame s0 s' → zFd s' g x q p l gw pw →
      post (q0, q1, q2, q3, q4, q5, th, ce, ro, ch, nI (zft s'), nI (zno s'), zky s', fun w_ => nI (zL s' w_), fun w_ => nI (zR s' w_), fun w_ => lN (zU s' w_), fun w_ => nI (zF s' w_), lv, st, fun w_ => nI (zN s' w_), fun w_ => nI (zO s' w_), fun w_ => nI (zC s' w_), fun w_ => lN (zW s' w_), ph, kd, ky, an, ba, lo, J, upd SG t (nI q), upd SP t (nI p), upd SL t (nI l), vp_updL GW t (lN gw), vp_updL PW t (lN pw))) (hB : B + 99 ≤ 4000000) (hg0 : ∀ n, n ∈ gn g → n < 99 ∧ ¬ zFr s0 n) :
    ∀ d h m : Nat, h + d = 99 → d < m → ∀ (s : CS) (q p n gw pw : Nat), zI (B + h) s g → zTr s0 g s g → zSame s0 s →
      zt_it (zK s) (gl g) (gr g) x h = n → (∀ j, j < h → gl g (zt_it (zK s) (gl g) (gr g) x j) ≠ 4294967295) →
      (gw < 2147483648 ∧ pw < 2147483648) →
      (1 ≤ h → p = zt_it (zK s) (gl g) (gr g) x (h - 1) ∧ pw = zU s p ∧ pw % 512 = 0) →
      (2 ≤ h → q = zt_it (zK s) (gl g) (gr g) x (h - 2) ∧ gw = zU s q ∧ gw % 512 = 0) →
      wX_search_22 post (nI t) m (nI q) (nI p) (nI n) (lN gw) (lN pw) (nI h) q0 q1 q2 q3 q4 q5 th ce ro ch (nI (zft s)) (nI (zno s)) (zky s) (fun w_ => nI (zL s w_)) (fun w_ => nI (zR s w_)) (fun w_ => lN (zU s w_)) (fun w_ => nI (zF s w_)) lv st (fun w_ => nI (zN s w_)) (fun w_ => nI (zO s w_)) (fun w_ => nI (zC s w_)) (fun w_ => lN (zW s w_)) ph kd ky an ba lo J SG SP SL GW PW := by
  intro d
  induction d with
  | zero =>
    intro h m hd hm s q p n gw pw I Tr Sm hn hj hw h1 h2
    have T := zI_T I
    have := zt_98 T x hj
    omega
  | succ d ih =>
    intro h m hd hm s q p n gw pw I Tr Sm hn hj hw h1 h2
    obtain ⟨m, rfl⟩ : ∃ k, m = k + 1 := ⟨m - 1, by omega⟩
    have T := zI_T I
    have h98 := zt_98 T x hj
    have hnm : n ∈ gn g := by rw [← hn]; exact zt_itm T x h
    have hng := zI_g I n hnm
    have hN := zI_N I n hnm
    refine br_f (nI_ge (b := 99) (by omega) (by decide)) (zw_inner hng.1 (zI_Lb I hng.1 hng.2) (fun e => br_t rfl (zw_103 ht ?_)) (fun e => br_f (by decide) (zw_helpI I (by omega) hng.1 hng.2 e ?_)))
    · -- the leaf is reached
      have hl : gl g n = 4294967295 := hN.1.mp e
      have h0 : 1 ≤ h := by
        rcases Nat.eq_zero_or_pos h with e0 | e0
        · subst e0
          have : zt_it (zK s) (gl g) (gr g) x 0 = 0 := rfl
          rw [this] at hn; rw [← hn] at hl
          exact absurd hl (zt_0i T)
        · exact e0
      obtain ⟨a1, a2, a3⟩ := h1 h0
      have hpm : p ∈ gn g := by rw [a1]; exact zt_itm T x (h - 1)
      have hpi : gl g p ≠ 4294967295 := by rw [a1]; exact hj (h - 1) (by omega)
      have hpL : zL s p ≠ 4294967295 := fun z => hpi ((zI_N I p hpm).1.mp z)
      have hpg := zI_g I p hpm
      have hOp : zt_On (zK s) (gl g) (gr g) x p := ⟨h - 1, a1.symm⟩
      have hnx : zt_nx (zK s) (gl g) (gr g) x p = n := by
        rw [a1, ← hn]
        obtain ⟨h', rfl⟩ : ∃ k, h = k + 1 := ⟨h - 1, by omega⟩
        rfl
      have hOn : zt_On (zK s) (gl g) (gr g) x n := ⟨h, hn⟩
      refine hp s q p n gw pw (zI_B I (by omega)) Tr Sm ⟨⟨hpg.1, hng.1, hpg.2, hng.2, hpL, e, a3, by omega, fun _ => ⟨hpm, hOp, hnx⟩⟩, a2, hw.1, hw.2, zt_find T hOn hl, fun hM hK0 hx5 hk => ?_⟩
      have h2' : 2 ≤ h := by
        rcases Nat.lt_or_ge h 2 with c | c
        · exfalso
          have e1 : h = 1 := by omega
          subst e1
          have p0 : p = 0 := a1
          rw [p0] at hnx
          rw [zt_nx_l (zt_0i T) (by rw [hK0]; omega)] at hnx
          have o1 : zt_On (zK s) (gl g) (gr g) 2147483646 n := by
            have := zt_Os (K := zK s) (dl := gl g) (dr := gr g) (x := 2147483646) zt_O0
            rw [zt_nx_l (zt_0i T) (by rw [hK0]; omega), hnx] at this
            exact this
          have := (zt_find T o1 hl).mp hM
          omega
        · exact c
      obtain ⟨b1, b2, b3⟩ := h2 h2'
      have hqm : q ∈ gn g := by rw [b1]; exact zt_itm T x (h - 2)
      have hqi : gl g q ≠ 4294967295 := by rw [b1]; exact hj (h - 2) (by omega)
      have hqL : zL s q ≠ 4294967295 := fun z => hqi ((zI_N I q hqm).1.mp z)
      have hqg := zI_g I q hqm
      refine ⟨⟨hqg.1, hqg.2, hqL, b3, by omega, fun _ => ⟨hqm, ⟨h - 2, b1.symm⟩, ?_⟩⟩, b2⟩
      rw [a1, b1]
      obtain ⟨h', rfl⟩ : ∃ k, h = k + 2 := ⟨h - 2, by omega⟩
      rfl
    · -- one node further
      have hgi : gl g n ≠ 4294967295 := fun z => e (hN.1.mpr z)
      obtain ⟨I', Tr'⟩ := zhp_I I hng.1 hng.2 e
      obtain ⟨c1, c2, c3, c4, c5, c6, c7, c8⟩ := zhp_in I hnm e
      have hK : zK (zhelp s n) = zK s := by unfold zK; rw [c5]
      have hdist : ∀ i, i < h → zt_it (zK s) (gl g) (gr g) x i ≠ n := by
        intro i hi
        rw [← hn]
        exact zt_inj T x hj i h hi (Nat.le_refl h)
      have Sm' : zSame s0 (zhelp s n) := ⟨c5.trans Sm.1, c6.trans Sm.2.1, c7.trans Sm.2.2⟩
      have hj' : ∀ j, j < h + 1 → gl g (zt_it (zK s) (gl g) (gr g) x j) ≠ 4294967295 := by
        intro j hj2
        rcases Nat.lt_or_ge j h with c | c
        · exact hj j c
        · rw [show j = h by omega, hn]; exact hgi
      have nxt : ∀ n', zt_nx (zK s) (gl g) (gr g) x n = n' → wX_search_22 post (nI t) m (nI p) (nI n) (nI n') (lN pw) (lN (zU (zhelp s n) n)) (nI (h + 1)) q0 q1 q2 q3 q4 q5 th ce ro ch (nI (zft (zhelp s n))) (nI (zno (zhelp s n))) (zky (zhelp s n)) (fun w_ => nI (zL (zhelp s n) w_)) (fun w_ => nI (zR (zhelp s n) w_)) (fun w_ => lN (zU (zhelp s n) w_)) (fun w_ => nI (zF (zhelp s n) w_)) lv st (fun w_ => nI (zN (zhelp s n) w_)) (fun w_ => nI (zO (zhelp s n) w_)) (fun w_ => nI (zC (zhelp s n) w_)) (fun w_ => lN (zW (zhelp s n) w_)) ph kd ky an ba lo J SG SP SL GW PW := by
        intro n' hn'
        refine ih (h + 1) m (by omega) (by omega) (zhelp s n) p n n' pw (zU (zhelp s n) n) I' (zTr_tr hg0 Tr Tr') Sm' ?_ ?_ ⟨hw.2, zI_u I' (by omega) n⟩ ?_ ?_
        · rw [hK, ← hn', ← hn]; rfl
        · rw [hK]; exact hj'
        · intro _
          rw [hK]
          exact ⟨hn.symm, rfl, c1⟩
        · intro h2
          obtain ⟨a1, a2, a3⟩ := h1 (by omega)
          rw [hK]
          refine ⟨a1, ?_, a3⟩
          rw [c4 p (by rw [a1]; exact hdist (h - 1) (by omega))]
          exact a2
      dsimp only
      rw [z_cl (show n < 2147483648 by omega), z_cl (show t < 2147483648 by omega), Int32.le_iff_toInt_le, hx, nI_1, c2, c3]
      refine ⟨z_in hng.1, nm_e ⟨z_in ht, z_in hng.1, br_c (fun c => ⟨z_in hng.1, nm_e (nm_e (nxt _ ?_))⟩) (fun c => ⟨z_in hng.1, nm_e (nm_e (nxt _ ?_))⟩)⟩⟩
      · have c' : zK (zhelp s n) n ≤ x := c
        rw [hK] at c'
        exact zt_nx_r hgi (by omega)
      · have c' : ¬ zK (zhelp s n) n ≤ x := c
        rw [hK] at c'
        exact zt_nx_l hgi (by omega)
theorem zw_search {post : SX → Prop} {t : Nat} (ht : t < 8) (I : zI B s g) (hB : B + 99 ≤ 4000000)
    (hp : ∀ (s' : CS) (q p l gw pw : Nat), zI (B + 99) s' g → zTr s g s' g → zSame s s' → zFd s' g (ky t).toInt q p l gw pw →
      post (q0, q1, q2, q3, q4, q5, th, ce, ro, ch, nI (zft s'), nI (zno s'), zky s', fun w_ => nI (zL s' w_), fun w_ => nI (zR s' w_), fun w_ => lN (zU s' w_), fun w_ => nI (zF s' w_), lv, st, fun w_ => nI (zN s' w_), fun w_ => nI (zO s' w_), fun w_ => nI (zC s' w_), fun w_ => lN (zW s' w_), ph, kd, ky, an, ba, lo, J, upd SG t (nI q), upd SP t (nI p), upd SL t (nI l), vp_updL GW t (lN gw), vp_updL PW t (lN pw))) :
    wpX_search post (q0, q1, q2, q3, q4, q5, th, ce, ro, ch, nI (zft s), nI (zno s), zky s, fun w_ => nI (zL s w_), fun w_ => nI (zR s w_), fun w_ => lN (zU s w_), fun w_ => nI (zF s w_), lv, st, fun w_ => nI (zN s w_), fun w_ => nI (zO s w_), fun w_ => nI (zC s w_), fun w_ => lN (zW s w_), ph, kd, ky, an, ba, lo, J, SG, SP, SL, GW, PW) (nI t) := by
  unfold wpX_search
  dsimp only
  refine nm_e ⟨100, ?_⟩
  exact zw_sloop ht s (ky t).toInt rfl (zI_T I) hp hB (zI_g I) 99 0 100 rfl (by omega) s 0 0 0 (zU s 0) (zU s 0) I zTr_rf ⟨rfl, rfl, rfl⟩ rfl (fun j hj => absurd hj (Nat.not_lt_zero j)) ⟨zI_u I (by omega) 0, zI_u I (by omega) 0⟩ (fun h => by omega) (fun h => by omega)
end
end
section
/-! build, describe, commit -/
def zbuild (s : CS) (k : Int32) (l : Nat) : CS :=
  (zft s, zno s, upd (upd (upd (zky s) (zF s (zft s - 2)) k) (zF s (zft s - 3)) (zky s l)) (zF s (zft s - 1)) (if zky s l ≤ k then k else zky s l),
   zu (zu (zu (zL s) (zF s (zft s - 2)) 4294967295) (zF s (zft s - 3)) 4294967295) (zF s (zft s - 1)) (if zky s l ≤ k then zF s (zft s - 3) else zF s (zft s - 2)),
   zu (zu (zu (zR s) (zF s (zft s - 2)) 4294967295) (zF s (zft s - 3)) 4294967295) (zF s (zft s - 1)) (if zky s l ≤ k then zF s (zft s - 2) else zF s (zft s - 3)),
   zu (zU s) (zF s (zft s - 1)) ((zU s (zF s (zft s - 1)) / 512 + 1) * 512), zF s, zN s, zO s, zC s, zW s)
def zdesc (s : CS) (a b c w : Nat) : CS := (zft s, zno s, zky s, zL s, zR s, zU s, zF s, zu (zN s) (zno s) a, zu (zO s) (zno s) b, zu (zC s) (zno s) c, zu (zW s) (zno s) w)
section
variable {q0 q1 q2 q3 q4 q5 th ce ro ch : Int32} {s : CS} {lv st ph kd ky an ba lo J SG SP SL : Nat → Int32} {GW PW : Nat → Int64}
theorem zw_build {post : Int32 → SX → Prop} {k : Int32} {l : Nat} (hl : l < 99) (h3 : 3 ≤ zft s) (hft : zft s ≤ 99) (f1 : zF s (zft s - 1) < 99) (f2 : zF s (zft s - 2) < 99) (f3 : zF s (zft s - 3) < 99)
    (n2 : l ≠ zF s (zft s - 2)) (n3 : l ≠ zF s (zft s - 3)) (hU : zU s (zF s (zft s - 1)) < 2147483648)
    (hp : post (nI (zF s (zft s - 1))) (q0, q1, q2, q3, q4, q5, th, ce, ro, ch, nI (zft (zbuild s k l)), nI (zno (zbuild s k l)), zky (zbuild s k l), fun w_ => nI (zL (zbuild s k l) w_), fun w_ => nI (zR (zbuild s k l) w_), fun w_ => lN (zU (zbuild s k l) w_), fun w_ => nI (zF (zbuild s k l) w_), lv, st, fun w_ => nI (zN (zbuild s k l) w_), fun w_ => nI (zO (zbuild s k l) w_), fun w_ => nI (zC (zbuild s k l) w_), fun w_ => lN (zW (zbuild s k l) w_), ph, kd, ky, an, ba, lo, J, SG, SP, SL, GW, PW)) : wpX_buildSubtree post (q0, q1, q2, q3, q4, q5, th, ce, ro, ch, nI (zft s), nI (zno s), zky s, fun w_ => nI (zL s w_), fun w_ => nI (zR s w_), fun w_ => lN (zU s w_), fun w_ => nI (zF s w_), lv, st, fun w_ => nI (zN s w_), fun w_ => nI (zO s w_), fun w_ => nI (zC s w_), fun w_ => lN (zW s w_), ph, kd, ky, an, ba, lo, J, SG, SP, SL, GW, PW) k (nI l) := by
  have e1 : nI (zft s) - 1 = nI (zft s - 1) := pk_sub (b := 1) (by omega)
  have e2 : nI (zft s) - 2 = nI (zft s - 2) := pk_sub (b := 2) (by omega)
  have e3 : nI (zft s) - 3 = nI (zft s - 3) := pk_sub (b := 3) (by omega)
  unfold wpX_buildSubtree
  dsimp only
  rw [e1, e2, e3, z_cl (show zft s - 1 < 2147483648 by omega), z_cl (show zft s - 2 < 2147483648 by omega), z_cl (show zft s - 3 < 2147483648 by omega)]
  refine ⟨z_in (by omega), nm_e ⟨z_in (by omega), nm_e ⟨z_in (by omega), nm_e (zw_leaf f2 ⟨z_in hl, ?_⟩)⟩⟩⟩
  dsimp only
  rw [z_cl (show l < 2147483648 by omega), pk_un n2]
  refine zw_leaf (s := (zft s, zno s, upd (zky s) (zF s (zft s - 2)) k, zu (zL s) (zF s (zft s - 2)) 4294967295, zu (zR s) (zF s (zft s - 2)) 4294967295, zU s, zF s, zN s, zO s, zC s, zW s)) f3 ⟨z_in hl, ?_⟩
  have ek : upd (zky (zft s, zno s, upd (zky s) (zF s (zft s - 2)) k, zu (zL s) (zF s (zft s - 2)) 4294967295, zu (zR s) (zF s (zft s - 2)) 4294967295, zU s, zF s, zN s, zO s, zC s, zW s)) (zF s (zft s - 3)) (zky s l) l = zky s l := by
    rw [pk_un n3]
    show upd (zky s) (zF s (zft s - 2)) k l = _
    rw [pk_un n2]
  dsimp only
  rw [ek]
  unfold zbuild at hp
  refine br_c (fun c => ?_) (fun c => ⟨z_in hl, ?_⟩)
  · rw [if_pos c, if_pos c, if_pos c] at hp
    exact zw_node (s := (zft s, zno s, upd (upd (zky s) (zF s (zft s - 2)) k) (zF s (zft s - 3)) (zky s l), zu (zu (zL s) (zF s (zft s - 2)) 4294967295) (zF s (zft s - 3)) 4294967295, zu (zu (zR s) (zF s (zft s - 2)) 4294967295) (zF s (zft s - 3)) 4294967295, zU s, zF s, zN s, zO s, zC s, zW s)) f1 hU hp
  · rw [if_neg c, if_neg c, if_neg c] at hp
    exact zw_node (s := (zft s, zno s, upd (upd (zky s) (zF s (zft s - 2)) k) (zF s (zft s - 3)) (zky s l), zu (zu (zL s) (zF s (zft s - 2)) 4294967295) (zF s (zft s - 3)) 4294967295, zu (zu (zR s) (zF s (zft s - 2)) 4294967295) (zF s (zft s - 3)) 4294967295, zU s, zF s, zN s, zO s, zC s, zW s)) f1 hU hp
theorem zw_word {post : Int64 → Prop} {w o c : Nat} (h : w < 2147483648) (ho : o < 128) (hc : c < 4) (hp : post (lN (w / 512 * 512 + o * 4 + c))) : wpX_wordOf post (q0, q1, q2, q3, q4, q5, th, ce, ro, ch, nI (zft s), nI (zno s), zky s, fun w_ => nI (zL s w_), fun w_ => nI (zR s w_), fun w_ => lN (zU s w_), fun w_ => nI (zF s w_), lv, st, fun w_ => nI (zN s w_), fun w_ => nI (zO s w_), fun w_ => nI (zC s w_), fun w_ => lN (zW s w_), ph, kd, ky, an, ba, lo, J, SG, SP, SL, GW, PW) (lN w) (nI c) (nI o) := by
  unfold wpX_wordOf
  dsimp only
  rw [z_wo h ho hc]; exact hp
theorem zw_desc {post : SX → Prop} {a b c w : Nat} (ho : zno s < 128) (hp : post (q0, q1, q2, q3, q4, q5, th, ce, ro, ch, nI (zft (zdesc s a b c w)), nI (zno (zdesc s a b c w)), zky (zdesc s a b c w), fun w_ => nI (zL (zdesc s a b c w) w_), fun w_ => nI (zR (zdesc s a b c w) w_), fun w_ => lN (zU (zdesc s a b c w) w_), fun w_ => nI (zF (zdesc s a b c w) w_), lv, st, fun w_ => nI (zN (zdesc s a b c w) w_), fun w_ => nI (zO (zdesc s a b c w) w_), fun w_ => nI (zC (zdesc s a b c w) w_), fun w_ => lN (zW (zdesc s a b c w) w_), ph, kd, ky, an, ba, lo, J, SG, SP, SL, GW, PW)) : wpX_describe post (q0, q1, q2, q3, q4, q5, th, ce, ro, ch, nI (zft s), nI (zno s), zky s, fun w_ => nI (zL s w_), fun w_ => nI (zR s w_), fun w_ => lN (zU s w_), fun w_ => nI (zF s w_), lv, st, fun w_ => nI (zN s w_), fun w_ => nI (zO s w_), fun w_ => nI (zC s w_), fun w_ => lN (zW s w_), ph, kd, ky, an, ba, lo, J, SG, SP, SL, GW, PW) (nI a) (nI b) (nI c) (lN w) := by
  unfold wpX_describe
  dsimp only
  rw [z_cl (show zno s < 2147483648 by omega)]
  exact ⟨z_in ho, nm_r (zu_I _ _ _) ⟨z_in ho, nm_r (zu_I _ _ _) ⟨z_in ho, nm_r (zu_I _ _ _) ⟨z_in ho, nm_r (zu_L _ _ _) hp⟩⟩⟩⟩
theorem zw_commit {post : SX → Prop} {t : Nat} (ht : t < 8) (hp : post (q0, q1, q2, q3, q4, q5, th, ce, ro, ch + 1, nI (zft s), nI (zno s + 1), zky s, fun w_ => nI (zL s w_), fun w_ => nI (zR s w_), fun w_ => lN (zU s w_), fun w_ => nI (zF s w_), lv, st, fun w_ => nI (zN s w_), fun w_ => nI (zO s w_), fun w_ => nI (zC s w_), fun w_ => lN (zW s w_), ph, kd, ky, an, ba, lo, upd J t (nI (zno s)), SG, SP, SL, GW, PW)) : wpX_commit post (q0, q1, q2, q3, q4, q5, th, ce, ro, ch, nI (zft s), nI (zno s), zky s, fun w_ => nI (zL s w_), fun w_ => nI (zR s w_), fun w_ => lN (zU s w_), fun w_ => nI (zF s w_), lv, st, fun w_ => nI (zN s w_), fun w_ => nI (zO s w_), fun w_ => nI (zC s w_), fun w_ => lN (zW s w_), ph, kd, ky, an, ba, lo, J, SG, SP, SL, GW, PW) (nI t) := by
  unfold wpX_commit
  dsimp only
  rw [z_cl (show t < 2147483648 by omega), nI_1]
  exact ⟨z_in ht, nm_e (nm_e (nm_e hp))⟩
end
section
variable {B : Nat} {s : CS} {g : GS}
theorem zbd_Off (I : zI B s g) {k : Int32} {l a b c w : Nat} (h3 : 3 ≤ zft s) : zOff s (zdesc (zbuild s k l) a b c w) := by
  refine ⟨rfl, rfl, rfl, ?_, ?_⟩
  · intro n hn hf
    have e1 : n ≠ zF s (zft s - 1) := fun e => hf ⟨_, by omega, e.symm⟩
    have e2 : n ≠ zF s (zft s - 2) := fun e => hf ⟨_, by omega, e.symm⟩
    have e3 : n ≠ zF s (zft s - 3) := fun e => hf ⟨_, by omega, e.symm⟩
    refine ⟨?_, ?_, ?_, ?_⟩
    · show upd (upd (upd (zky s) (zF s (zft s - 2)) k) (zF s (zft s - 3)) (zky s l)) (zF s (zft s - 1)) _ n = zky s n
      rw [pk_un e1, pk_un e3, pk_un e2]
    · show zu (zu (zu (zL s) (zF s (zft s - 2)) 4294967295) (zF s (zft s - 3)) 4294967295) (zF s (zft s - 1)) _ n = zL s n
      rw [zu_n e1, zu_n e3, zu_n e2]
    · show zu (zu (zu (zR s) (zF s (zft s - 2)) 4294967295) (zF s (zft s - 3)) 4294967295) (zF s (zft s - 1)) _ n = zR s n
      rw [zu_n e1, zu_n e3, zu_n e2]
    · show zu (zU s) (zF s (zft s - 1)) _ n = zU s n
      rw [zu_n e1]
  · intro o ho
    have e : o ≠ zno s := by omega
    exact ⟨zu_n e, zu_n e, zu_n e, zu_n e⟩
theorem zds_Off {a b c w : Nat} : zOff s (zdesc s a b c w) := by
  refine ⟨rfl, rfl, rfl, fun n _ _ => ⟨rfl, rfl, rfl, rfl⟩, ?_⟩
  intro o ho
  have e : o ≠ zno s := by omega
  exact ⟨zu_n e, zu_n e, zu_n e, zu_n e⟩
theorem zM_tr {s' : CS} (I : zI B s g) (Tr : zTr s g s' g) (y : Int) : zt_M (zK s') (gl g) (gn g) y ↔ zt_M (zK s) (gl g) (gn g) y := by
  have hK : ∀ n, n ∈ gn g → zK s' n = zK s n := by
    intro n hn
    have := zI_g I n hn
    unfold zK; rw [(Tr.1 n this.1 this.2).2.1]
  constructor
  · rintro ⟨n, hn, hl, e⟩; exact ⟨n, hn, hl, by rw [← hK n hn]; exact e⟩
  · rintro ⟨n, hn, hl, e⟩; exact ⟨n, hn, hl, by rw [hK n hn]; exact e⟩
end
end
section
/-! the two attempts -/
section
variable {B : Nat} {s : CS} {g : GS}
theorem zK_eq {s : CS} {n : Nat} {k : Int32} : zky s n = k ↔ zK s n = k.toInt := by unfold zK; rw [Int32.toInt_inj]
/-- the insertion of x below p, after build and describe -/
theorem zins (I : zI B s g) {k : Int32} {p l pw : Nat} (h3 : 3 ≤ zft s) (h64 : zno s < 128) (hsp : zSP s g k.toInt p l pw) (hu : pw = zU s p) (hk : zK s l ≠ k.toInt) :
    ∃ g', zI (B + 1) (zcomI (zdesc (zbuild s k l) p l (zF s (zft s - 1)) (pw / 512 * 512 + zno s * 4 + 1)) p) g' ∧
      zTr s g (zcomI (zdesc (zbuild s k l) p l (zF s (zft s - 1)) (pw / 512 * 512 + zno s * 4 + 1)) p) g' ∧
      (∀ y, zt_M (zK (zcomI (zdesc (zbuild s k l) p l (zF s (zft s - 1)) (pw / 512 * 512 + zno s * 4 + 1)) p)) (gl g') (gn g') y ↔ zt_M (zK s) (gl g) (gn g) y ∨ y = k.toInt) ∧
      (gn g').length = (gn g).length + 2 := by
  have hOff := zbd_Off I (k := k) (l := l) (a := p) (b := l) (c := zF s (zft s - 1)) (w := pw / 512 * 512 + zno s * 4 + 1) h3
  have IF := zI_F I
  have fT := IF.2.1 (zft s - 1) (by omega)
  have ff := IF.2.1 (zft s - 2) (by omega)
  have fc := IF.2.1 (zft s - 3) (by omega)
  have d12 := IF.2.2 (zft s - 2) (zft s - 1) (by omega) (by omega)
  have d13 := IF.2.2 (zft s - 3) (zft s - 1) (by omega) (by omega)
  have d23 := IF.2.2 (zft s - 3) (zft s - 2) (by omega) (by omega)
  obtain ⟨I2, Tr2⟩ := zof_I (B' := B + 1) I hOff (by
    intro n
    show zu (zU s) (zF s (zft s - 1)) ((zU s (zF s (zft s - 1)) / 512 + 1) * 512) n < 512 * (B + 1)
    have := zI_U I n
    by_cases e : n = zF s (zft s - 1)
    · subst e; rw [zu_s]; omega
    · rw [zu_n e]; omega)
  have hsp2 := zSP_tr Tr2 hsp
  have hUp : zU (zdesc (zbuild s k l) p l (zF s (zft s - 1)) (pw / 512 * 512 + zno s * 4 + 1)) p = zU s p := (hOff.2.2.2.1 p hsp.1 hsp.2.2.1).2.2.2
  have hKl : zK (zdesc (zbuild s k l) p l (zF s (zft s - 1)) (pw / 512 * 512 + zno s * 4 + 1)) l = zK s l := by
    unfold zK; rw [(hOff.2.2.2.1 l hsp.2.1 hsp.2.2.2.1).1]
  have kf : zK (zdesc (zbuild s k l) p l (zF s (zft s - 1)) (pw / 512 * 512 + zno s * 4 + 1)) (zF s (zft s - 2)) = k.toInt := by
    show (upd (upd (upd (zky s) (zF s (zft s - 2)) k) (zF s (zft s - 3)) (zky s l)) (zF s (zft s - 1)) _ (zF s (zft s - 2))).toInt = _
    rw [pk_un d12, pk_un d23.symm, pk_us]
  have kc : zK (zdesc (zbuild s k l) p l (zF s (zft s - 1)) (pw / 512 * 512 + zno s * 4 + 1)) (zF s (zft s - 3)) = zK s l := by
    show (upd (upd (upd (zky s) (zF s (zft s - 2)) k) (zF s (zft s - 3)) (zky s l)) (zF s (zft s - 1)) _ (zF s (zft s - 3))).toInt = _
    rw [pk_un d13, pk_us]; rfl
  have kT : zK (zdesc (zbuild s k l) p l (zF s (zft s - 1)) (pw / 512 * 512 + zno s * 4 + 1)) (zF s (zft s - 1)) = if zky s l ≤ k then k.toInt else zK s l := by
    show (upd (upd (upd (zky s) (zF s (zft s - 2)) k) (zF s (zft s - 3)) (zky s l)) (zF s (zft s - 1)) _ (zF s (zft s - 1))).toInt = _
    rw [pk_us]
    by_cases c : zky s l ≤ k
    · rw [if_pos c, if_pos c]
    · rw [if_neg c, if_neg c]; rfl
  have LT : zL (zdesc (zbuild s k l) p l (zF s (zft s - 1)) (pw / 512 * 512 + zno s * 4 + 1)) (zF s (zft s - 1)) = if zky s l ≤ k then zF s (zft s - 3) else zF s (zft s - 2) := zu_s
  have RT : zR (zdesc (zbuild s k l) p l (zF s (zft s - 1)) (pw / 512 * 512 + zno s * 4 + 1)) (zF s (zft s - 1)) = if zky s l ≤ k then zF s (zft s - 2) else zF s (zft s - 3) := zu_s
  have Lf : zL (zdesc (zbuild s k l) p l (zF s (zft s - 1)) (pw / 512 * 512 + zno s * 4 + 1)) (zF s (zft s - 2)) = 4294967295 := by
    show zu (zu (zu (zL s) (zF s (zft s - 2)) 4294967295) (zF s (zft s - 3)) 4294967295) (zF s (zft s - 1)) _ (zF s (zft s - 2)) = _
    rw [zu_n d12, zu_n d23.symm, zu_s]
  have Lc : zL (zdesc (zbuild s k l) p l (zF s (zft s - 1)) (pw / 512 * 512 + zno s * 4 + 1)) (zF s (zft s - 3)) = 4294967295 := by
    show zu (zu (zu (zL s) (zF s (zft s - 2)) 4294967295) (zF s (zft s - 3)) 4294967295) (zF s (zft s - 1)) _ (zF s (zft s - 3)) = _
    rw [zu_n d13, zu_s]
  have UT : zU (zdesc (zbuild s k l) p l (zF s (zft s - 1)) (pw / 512 * 512 + zno s * 4 + 1)) (zF s (zft s - 1)) % 512 = 0 := by
    show zu (zU s) (zF s (zft s - 1)) ((zU s (zF s (zft s - 1)) / 512 + 1) * 512) (zF s (zft s - 1)) % 512 = 0
    rw [zu_s]; omega
  have eno : zno (zdesc (zbuild s k l) p l (zF s (zft s - 1)) (pw / 512 * 512 + zno s * 4 + 1)) = zno s := rfl
  have eft : zft (zdesc (zbuild s k l) p l (zF s (zft s - 1)) (pw / 512 * 512 + zno s * 4 + 1)) = zft s := rfl
  have eF : zF (zdesc (zbuild s k l) p l (zF s (zft s - 1)) (pw / 512 * 512 + zno s * 4 + 1)) = zF s := rfl
  have ops : zN (zdesc (zbuild s k l) p l (zF s (zft s - 1)) (pw / 512 * 512 + zno s * 4 + 1)) (zno s) = p ∧ zO (zdesc (zbuild s k l) p l (zF s (zft s - 1)) (pw / 512 * 512 + zno s * 4 + 1)) (zno s) = l ∧ zC (zdesc (zbuild s k l) p l (zF s (zft s - 1)) (pw / 512 * 512 + zno s * 4 + 1)) (zno s) = zF s (zft s - 1) ∧ zW (zdesc (zbuild s k l) p l (zF s (zft s - 1)) (pw / 512 * 512 + zno s * 4 + 1)) (zno s) = pw / 512 * 512 + zno s * 4 + 1 := ⟨zu_s, zu_s, zu_s, zu_s⟩
  have hM := zM_tr I Tr2
  have hc : zky s l ≤ k ↔ zK s l ≤ k.toInt := Int32.le_iff_toInt_le
  generalize zdesc (zbuild s k l) p l (zF s (zft s - 1)) (pw / 512 * 512 + zno s * 4 + 1) = s2 at *
  obtain ⟨a1, a2, a3, a4, a5, a6, a7, a8, a9⟩ := hsp2
  obtain ⟨b1, b2, b3⟩ := a9 (by rw [hUp]; exact hu)
  have T2 := zI_T I2
  have hlm : l ∈ gn g := by rw [← b3]; exact zt_nxm T2 b1
  have hll : gl g l = 4294967295 := (zI_N I2 l hlm).1.mp a6
  have hpi : gl g p ≠ 4294967295 := fun z => a5 ((zI_N I2 p b1).1.mpr z)
  have hOl : zt_On (zK s2) (gl g) (gr g) k.toInt l := by rw [← b3]; exact zt_Os b2
  have hOk : zt_On (zK s2) (gl g) (gr g) (zK s l) l := by rw [← hKl]; exact zt_k T2 hlm
  have hch : gl g p = l ∨ gr g p = l := by
    rcases zt_nx_c (dr := gr g) (K := zK s2) (x := k.toInt) hpi with ⟨_, e⟩ | ⟨_, e⟩
    · exact Or.inl (e.symm.trans b3)
    · exact Or.inr (e.symm.trans b3)
  have nfr : ∀ i, i < zft s → zF s i ∉ gn g := fun i hi z => (zI_g I _ z).2 ⟨i, hi, rfl⟩
  have nT := nfr (zft s - 1) (by omega)
  have nf := nfr (zft s - 2) (by omega)
  have nc := nfr (zft s - 3) (by omega)
  by_cases c : zky s l ≤ k
  · have c' := hc.mp c
    rw [if_pos c] at kT LT RT
    have hH : zi_H (zK s2) (zK s2) (gl g) (gr g) (gn g) p l (zF s (zft s - 1)) (zF s (zft s - 3)) (zF s (zft s - 2)) :=
      ⟨b1, hpi, hch, hll, ⟨nT, nc, nf, d13.symm, d12.symm, d23⟩, ⟨fT, fc, ff⟩, fun _ _ => rfl, by rw [kT, kf], by rw [kc, kf]; omega, by rw [kc]; exact hOk, by rw [kf]; exact hOl⟩
    obtain ⟨r1, r2⟩ := zin_I I2 (by rw [eft]; exact h3) (by rw [eno]; exact h64) hH (by rw [eft, eF]) (Or.inr (by rw [eft, eF]; exact ⟨rfl, rfl⟩)) ⟨LT, RT, Lc, Lf, UT⟩ (by rw [hUp, ← hu]; exact a7) (by rw [eno, hUp, ← hu]; exact ops)
    refine ⟨_, r1, zTr_tr (zI_g I) Tr2 r2, fun y => ?_, zi_len T2 hH⟩
    refine (zi_M T2 hH y).trans ?_
    rw [hM y, kc, kf, hKl]
    constructor
    · rintro (⟨z, _⟩ | z | z)
      · exact Or.inl z
      · exact Or.inl (by rw [z]; exact (hM _).mp ⟨l, hlm, hll, hKl⟩)
      · exact Or.inr z
    · rintro (z | z)
      · by_cases e : y = zK s l
        · exact Or.inr (Or.inl e)
        · exact Or.inl ⟨z, e⟩
      · exact Or.inr (Or.inr z)
  · have c' : ¬ zK s l ≤ k.toInt := fun z => c (hc.mpr z)
    rw [if_neg c] at kT LT RT
    have hH : zi_H (zK s2) (zK s2) (gl g) (gr g) (gn g) p l (zF s (zft s - 1)) (zF s (zft s - 2)) (zF s (zft s - 3)) :=
      ⟨b1, hpi, hch, hll, ⟨nT, nf, nc, d12.symm, d13.symm, d23.symm⟩, ⟨fT, ff, fc⟩, fun _ _ => rfl, by rw [kT, kc], by rw [kc, kf]; omega, by rw [kf]; exact hOl, by rw [kc]; exact hOk⟩
    obtain ⟨r1, r2⟩ := zin_I I2 (by rw [eft]; exact h3) (by rw [eno]; exact h64) hH (by rw [eft, eF]) (Or.inl (by rw [eft, eF]; exact ⟨rfl, rfl⟩)) ⟨LT, RT, Lf, Lc, UT⟩ (by rw [hUp, ← hu]; exact a7) (by rw [eno, hUp, ← hu]; exact ops)
    refine ⟨_, r1, zTr_tr (zI_g I) Tr2 r2, fun y => ?_, zi_len T2 hH⟩
    refine (zi_M T2 hH y).trans ?_
    rw [hM y, kc, kf, hKl]
    constructor
    · rintro (⟨z, _⟩ | z | z)
      · exact Or.inl z
      · exact Or.inr z
      · exact Or.inl (by rw [z]; exact (hM _).mp ⟨l, hlm, hll, hKl⟩)
    · rintro (z | z)
      · by_cases e : y = zK s l
        · exact Or.inr (Or.inr e)
        · exact Or.inl ⟨z, e⟩
      · exact Or.inr (Or.inl z)
end
section
variable {q0 q1 q2 q3 q4 q5 ch : Int32} {th ce ro : Nat} {s : CS} {lv st ph kd ky an ba lo : Nat → Int32} {J SG SP SL GW PW : Nat → Nat}
variable {B : Nat} {g : GS}
theorem zw_comI {post : SX → Prop} {t p fw ft' : Nat} (ht : t < 8)
    (hp : post (q0, q1, q2, q3, q4, q5, nI th, nI ce, nI ro, ch + 1, nI (zft ((ft', zno s + 1, zky s, zL s, zR s, zu (zU s) p fw, zF s, zN s, zO s, zC s, zW s))), nI (zno ((ft', zno s + 1, zky s, zL s, zR s, zu (zU s) p fw, zF s, zN s, zO s, zC s, zW s))), zky ((ft', zno s + 1, zky s, zL s, zR s, zu (zU s) p fw, zF s, zN s, zO s, zC s, zW s)), fun w_ => nI (zL ((ft', zno s + 1, zky s, zL s, zR s, zu (zU s) p fw, zF s, zN s, zO s, zC s, zW s)) w_), fun w_ => nI (zR ((ft', zno s + 1, zky s, zL s, zR s, zu (zU s) p fw, zF s, zN s, zO s, zC s, zW s)) w_), fun w_ => lN (zU ((ft', zno s + 1, zky s, zL s, zR s, zu (zU s) p fw, zF s, zN s, zO s, zC s, zW s)) w_), fun w_ => nI (zF ((ft', zno s + 1, zky s, zL s, zR s, zu (zU s) p fw, zF s, zN s, zO s, zC s, zW s)) w_), lv, st, fun w_ => nI (zN ((ft', zno s + 1, zky s, zL s, zR s, zu (zU s) p fw, zF s, zN s, zO s, zC s, zW s)) w_), fun w_ => nI (zO ((ft', zno s + 1, zky s, zL s, zR s, zu (zU s) p fw, zF s, zN s, zO s, zC s, zW s)) w_), fun w_ => nI (zC ((ft', zno s + 1, zky s, zL s, zR s, zu (zU s) p fw, zF s, zN s, zO s, zC s, zW s)) w_), fun w_ => lN (zW ((ft', zno s + 1, zky s, zL s, zR s, zu (zU s) p fw, zF s, zN s, zO s, zC s, zW s)) w_), ph, kd, ky, an, ba, lo, fun w_ => nI (zu J t (zno s) w_), fun w_ => nI (SG w_), fun w_ => nI (SP w_), fun w_ => nI (SL w_), fun w_ => lN (GW w_), fun w_ => lN (PW w_))) :
    wpX_commit post (q0, q1, q2, q3, q4, q5, nI th, nI ce, nI ro, ch, nI ft', nI (zno (zsetU s p fw)), zky (zsetU s p fw), fun w_ => nI (zL (zsetU s p fw) w_), fun w_ => nI (zR (zsetU s p fw) w_), fun w_ => lN (zU (zsetU s p fw) w_), fun w_ => nI (zF (zsetU s p fw) w_), lv, st, fun w_ => nI (zN (zsetU s p fw) w_), fun w_ => nI (zO (zsetU s p fw) w_), fun w_ => nI (zC (zsetU s p fw) w_), fun w_ => lN (zW (zsetU s p fw) w_), ph, kd, ky, an, ba, lo, fun w_ => nI (J w_), fun w_ => nI (SG w_), fun w_ => nI (SP w_), fun w_ => nI (SL w_), fun w_ => lN (GW w_), fun w_ => lN (PW w_)) (nI t) := by
  unfold wpX_commit
  dsimp only
  rw [z_cl (show t < 2147483648 by omega)]
  exact ⟨z_in ht, nm_r (zu_I J t (zno s)) (nm_r (nI_1 (zno s)) (nm_e hp))⟩
theorem zhelp_no (s : CS) (n : Nat) : zno (zhelp s n) = zno s ∧ zft (zhelp s n) = zft s := by
  unfold zhelp
  by_cases c : zU s n % 4 = 0
  · rw [if_pos c]; exact ⟨rfl, rfl⟩
  · rw [if_neg c]; exact ⟨rfl, rfl⟩
theorem zw_tryI {post : Int32 → SX → Prop} {t : Nat} (ht : t < 8) (I : zI B s g) (hB : B + 2 ≤ 4000000) (hsp : zSP s g (ky t).toInt (SP t) (SL t) (PW t))
    (h3 : 3 * ro ≤ zft s) (hro : ro ≤ 32) (h64 : zno s ≤ 64)
    (k0 : zK s (SL t) = (ky t).toInt → post 0 (q0, q1, q2, q3, q4, q5, nI th, nI ce, nI ro, ch, nI (zft s), nI (zno s), zky s, fun w_ => nI (zL s w_), fun w_ => nI (zR s w_), fun w_ => lN (zU s w_), fun w_ => nI (zF s w_), lv, st, fun w_ => nI (zN s w_), fun w_ => nI (zO s w_), fun w_ => nI (zC s w_), fun w_ => lN (zW s w_), ph, kd, ky, an, ba, lo, fun w_ => nI (J w_), fun w_ => nI (SG w_), fun w_ => nI (SP w_), fun w_ => nI (SL w_), fun w_ => lN (GW w_), fun w_ => lN (PW w_)))
    (k2 : zK s (SL t) ≠ (ky t).toInt → ro = 0 → PW t = zU s (SP t) → post 2 (q0, q1, q2, q3, q4, q5, nI th, nI ce, nI ro, ch, nI (zft s), nI (zno s), zky s, fun w_ => nI (zL s w_), fun w_ => nI (zR s w_), fun w_ => lN (zU s w_), fun w_ => nI (zF s w_), lv, st, fun w_ => nI (zN s w_), fun w_ => nI (zO s w_), fun w_ => nI (zC s w_), fun w_ => lN (zW s w_), ph, kd, ky, an, ba, lo, fun w_ => nI (J w_), fun w_ => nI (SG w_), fun w_ => nI (SP w_), fun w_ => nI (SL w_), fun w_ => lN (GW w_), fun w_ => lN (PW w_)))
    (k3 : zK s (SL t) ≠ (ky t).toInt → PW t ≠ zU s (SP t) → ∀ s', zI (B + 2) s' g → zTr s g s' g → zno s' = zno s → zft s' = zft s → post 3 (q0, q1, q2, q3, q4, q5, nI th, nI ce, nI ro, ch, nI (zft s'), nI (zno s'), zky s', fun w_ => nI (zL s' w_), fun w_ => nI (zR s' w_), fun w_ => lN (zU s' w_), fun w_ => nI (zF s' w_), lv, st, fun w_ => nI (zN s' w_), fun w_ => nI (zO s' w_), fun w_ => nI (zC s' w_), fun w_ => lN (zW s' w_), ph, kd, ky, an, ba, lo, fun w_ => nI (J w_), fun w_ => nI (SG w_), fun w_ => nI (SP w_), fun w_ => nI (SL w_), fun w_ => lN (GW w_), fun w_ => lN (PW w_)))
    (k1 : zK s (SL t) ≠ (ky t).toInt → ro ≠ 0 → PW t = zU s (SP t) → ∀ s' g', zI (B + 1) s' g' → zTr s g s' g' → zno s' = zno s + 1 → zft s' = zft s - 3 →
      (∀ y, zt_M (zK s') (gl g') (gn g') y ↔ zt_M (zK s) (gl g) (gn g) y ∨ y = (ky t).toInt) → (gn g').length = (gn g).length + 2 →
      post 1 (q0, q1, q2, q3, q4, q5, nI th, nI ce, nI (ro - 1), ch + 1, nI (zft s'), nI (zno s'), zky s', fun w_ => nI (zL s' w_), fun w_ => nI (zR s' w_), fun w_ => lN (zU s' w_), fun w_ => nI (zF s' w_), lv, st, fun w_ => nI (zN s' w_), fun w_ => nI (zO s' w_), fun w_ => nI (zC s' w_), fun w_ => lN (zW s' w_), ph, kd, ky, an, ba, lo, fun w_ => nI (zu J t (zno s) w_), fun w_ => nI (SG w_), fun w_ => nI (SP w_), fun w_ => nI (SL w_), fun w_ => lN (GW w_), fun w_ => lN (PW w_))) :
    wpX_tryInsert post (q0, q1, q2, q3, q4, q5, nI th, nI ce, nI ro, ch, nI (zft s), nI (zno s), zky s, fun w_ => nI (zL s w_), fun w_ => nI (zR s w_), fun w_ => lN (zU s w_), fun w_ => nI (zF s w_), lv, st, fun w_ => nI (zN s w_), fun w_ => nI (zO s w_), fun w_ => nI (zC s w_), fun w_ => lN (zW s w_), ph, kd, ky, an, ba, lo, fun w_ => nI (J w_), fun w_ => nI (SG w_), fun w_ => nI (SP w_), fun w_ => nI (SL w_), fun w_ => lN (GW w_), fun w_ => lN (PW w_)) (nI t) := by
  have hsp' := hsp
  obtain ⟨a1, a2, a3, a4, a5, a6, a7, a8, a9⟩ := hsp'
  have hu := zI_u I (by omega)
  have hup := hu (SP t)
  unfold wpX_tryInsert
  dsimp only
  rw [z_cl (show t < 2147483648 by omega)]
  refine ⟨z_in ht, nm_e ⟨z_in ht, nm_e ⟨z_in ht, nm_e ⟨z_in a2, z_in ht, ?_⟩⟩⟩⟩
  rw [z_cl (show SL t < 2147483648 by omega), z_cl (show SP t < 2147483648 by omega), zK_eq, lN_eq (by omega) (by omega)]
  refine br_c k0 (fun hk => br_c (fun hr => ?_) (fun hr => ?_))
  · have hr' : ro = 0 := (nI_eq (b := 0) (by omega) (by omega)).mp hr
    exact ⟨z_in a1, br_c (fun e => k2 hk hr' e.symm) (fun e => k3 hk (fun z => e z.symm) s (zI_B I (by omega)) zTr_rf rfl rfl)⟩
  · have hr' : ro ≠ 0 := fun z => hr (by rw [z]; rfl)
    have h3' : 3 ≤ zft s := by omega
    have IF := zI_F I
    have fT := IF.2.1 (zft s - 1) (by omega)
    have ff := IF.2.1 (zft s - 2) (by omega)
    have fc := IF.2.1 (zft s - 3) (by omega)
    have n2 : SL t ≠ zF s (zft s - 2) := fun e => a4 ⟨_, by omega, e.symm⟩
    have n3 : SL t ≠ zF s (zft s - 3) := fun e => a4 ⟨_, by omega, e.symm⟩
    have hOff := zbd_Off I (k := ky t) (l := SL t) (a := SP t) (b := SL t) (c := zF s (zft s - 1)) (w := PW t / 512 * 512 + zno s * 4 + 1) h3'
    obtain ⟨I2, Tr2⟩ := zof_I (B' := B + 1) I hOff (by
      intro n
      show zu (zU s) (zF s (zft s - 1)) ((zU s (zF s (zft s - 1)) / 512 + 1) * 512) n < 512 * (B + 1)
      have := zI_U I n
      by_cases e : n = zF s (zft s - 1)
      · subst e; rw [zu_s]; omega
      · rw [zu_n e]; omega)
    have hq := hOff.2.2.2.1 (SP t) a1 a3
    have hz := zins I h3' (by omega) hsp (k := ky t)
    have hno : zno (zdesc (zbuild s (ky t) (SL t)) (SP t) (SL t) (zF s (zft s - 1)) (PW t / 512 * 512 + zno s * 4 + 1)) = zno s := rfl
    have hft : zft (zdesc (zbuild s (ky t) (SL t)) (SP t) (SL t) (zF s (zft s - 1)) (PW t / 512 * 512 + zno s * 4 + 1)) = zft s := rfl
    have hfr : ¬ zFr (zdesc (zbuild s (ky t) (SL t)) (SP t) (SL t) (zF s (zft s - 1)) (PW t / 512 * 512 + zno s * 4 + 1)) (SP t) := fun z => a3 ((zof_Fr hOff _).mp z)
    refine ⟨z_in ht, zw_build a2 h3' IF.1 fT ff fc n2 n3 (hu _) (zw_word (o := zno s) (c := 1) (by omega) (by omega) (by omega) (zw_desc (show zno s < 128 by omega) ?_))⟩
    dsimp only
    generalize zdesc (zbuild s (ky t) (SL t)) (SP t) (SL t) (zF s (zft s - 1)) (PW t / 512 * 512 + zno s * 4 + 1) = s2 at *
    have hln : zL s2 (SP t) ≠ 4294967295 := by rw [hq.2.1]; exact a5
    refine zw_cas (s := s2) a1 (by rw [hq.2.2.2]; omega) (by omega) (fun e => ?_) (fun e => ?_)
    · rw [hq.2.2.2] at e
      obtain ⟨g', r1, r2, r3, r4⟩ := hz e.symm hk
      clear hz
      have k1' := k1 hk hr' e.symm _ g' r1 r2 (by show zno s2 + 1 = _; rw [hno]) (by show zft s2 - 3 = _; rw [hft]) r3 r4
      have e3 : nI (zft s2) - 3 = nI (zft s2 - 3) := pk_sub (b := 3) (by omega)
      have e4 : nI ro - 1 = nI (ro - 1) := pk_sub (b := 1) (by omega)
      refine br_f (by decide) (nm_r e3 (nm_r e4 (zw_comI ht ?_)))
      unfold zcomI at k1'
      rw [hq.2.2.2, e, hno] at k1'
      rw [hno]
      exact k1'
    · rw [hq.2.2.2] at e
      have w := zhp_I I2 a1 hfr hln
      refine br_t rfl (zw_helpI I2 (by omega) a1 hfr hln ?_)
      exact k3 hk (fun z => e z.symm) _ w.1 (zTr_tr (zI_g I) Tr2 w.2) ((zhelp_no _ _).1.trans hno) ((zhelp_no _ _).2.trans hft)
end
end
section
/-! the attempt of a deletion -/
section
variable {B : Nat} {s : CS} {g : GS}
/-- the sibling -/
def zsib (s : CS) (p l : Nat) : Nat := if zL s p = l then zR s p else zL s p
theorem zhelp_fl {q p fw : Nat} (hpq : p ≠ q) (h1 : zU s q % 512 = 0) (h2 : fw / 4 % 128 = zno s) (hI : ∀ o, o < zno s → zW s o % 4 ≠ 0 ∧ zW s o / 4 % 128 = o)
    (hop : zU s p % 4 ≠ 0 → zU s p / 4 % 128 < zno s) : zhelp (zsetU s q fw) p = zsetU (zhelp s p) q fw ∧ zU (zhelp s p) q = zU s q := by
  have e1 : zU (zsetU s q fw) p = zU s p := zu_n hpq
  unfold zhelp
  rw [e1]
  by_cases c : zU s p % 4 = 0
  · rw [if_pos c, if_pos c]; exact ⟨rfl, rfl⟩
  · rw [if_neg c, if_neg c]
    have ho := hop c
    generalize zU s p / 4 % 128 = o at *
    obtain ⟨w1, w2⟩ := hI o ho
    have key : zsU (zswing (zsetU s q fw) o) o = zu (zsU (zswing s o) o) q fw ∧ zsU (zswing s o) o q = zU s q := by
      show (if zu (zU s) q fw (zN s o) = zW s o then zu (zu (zU s) q fw) (zN s o) ((zW s o / 512 + 1) * 512) else zu (zU s) q fw) = zu (if zU s (zN s o) = zW s o then zu (zU s) (zN s o) ((zW s o / 512 + 1) * 512) else zU s) q fw ∧ (if zU s (zN s o) = zW s o then zu (zU s) (zN s o) ((zW s o / 512 + 1) * 512) else zU s) q = zU s q
      by_cases e : zN s o = q
      · rw [e, zu_s, if_neg (show ¬ fw = zW s o from fun z => by rw [z] at h2; omega), if_neg (show ¬ zU s q = zW s o from fun z => by rw [z] at h1; omega)]
        exact ⟨rfl, rfl⟩
      · rw [zu_n e]
        by_cases c2 : zU s (zN s o) = zW s o
        · rw [if_pos c2, if_pos c2]
          refine ⟨?_, zu_n (fun z => e z.symm)⟩
          funext j
          rw [zu_e, zu_e, zu_e, zu_e]
          by_cases j1 : j = zN s o
          · rw [if_pos j1, if_pos j1, if_neg (fun z => e (j1.symm.trans z))]
          · rw [if_neg j1, if_neg j1]
        · rw [if_neg c2, if_neg c2]; exact ⟨rfl, rfl⟩
    refine ⟨?_, key.2⟩
    have k1 := key.1
    unfold zunfl zsetU at *
    rw [k1]
    rfl
theorem zunfl_fl {q fw o : Nat} (h1 : zN s o = q) (h2 : zW s o = fw) : zunfl (zsetU s q fw) o = zsetU s q ((fw / 512 + 1) * 512) := by
  have e : zsU (zsetU s q fw) o = zu (zU s) q ((fw / 512 + 1) * 512) := by
    show (if zu (zU s) q fw (zN s o) = zW s o then zu (zu (zU s) q fw) (zN s o) ((zW s o / 512 + 1) * 512) else zu (zU s) q fw) = _
    rw [h1, h2, zu_s, if_pos rfl]
    funext j
    rw [zu_e, zu_e, zu_e]
    by_cases j1 : j = q
    · rw [if_pos j1, if_pos j1]
    · rw [if_neg j1, if_neg j1, if_neg j1]
  unfold zunfl
  rw [e]
  rfl
end
section
variable {q0 q1 q2 q3 q4 q5 ch : Int32} {th ce ro : Nat} {s : CS} {lv st ph kd ky an ba lo : Nat → Int32} {J SG SP SL GW PW : Nat → Nat}
variable {B : Nat} {g : GS}
theorem zw_comD {post : SX → Prop} {t q p fw mw : Nat} (ht : t < 8)
    (hp : post (q0, q1, q2, q3, q4, q5, nI th, nI ce, nI ro, ch + 1, nI (zft ((zft s, zno s + 1, zky s, zL s, zR s, zu (zu (zU s) q fw) p mw, zF s, zN s, zO s, zC s, zW s))), nI (zno ((zft s, zno s + 1, zky s, zL s, zR s, zu (zu (zU s) q fw) p mw, zF s, zN s, zO s, zC s, zW s))), zky ((zft s, zno s + 1, zky s, zL s, zR s, zu (zu (zU s) q fw) p mw, zF s, zN s, zO s, zC s, zW s)), fun w_ => nI (zL ((zft s, zno s + 1, zky s, zL s, zR s, zu (zu (zU s) q fw) p mw, zF s, zN s, zO s, zC s, zW s)) w_), fun w_ => nI (zR ((zft s, zno s + 1, zky s, zL s, zR s, zu (zu (zU s) q fw) p mw, zF s, zN s, zO s, zC s, zW s)) w_), fun w_ => lN (zU ((zft s, zno s + 1, zky s, zL s, zR s, zu (zu (zU s) q fw) p mw, zF s, zN s, zO s, zC s, zW s)) w_), fun w_ => nI (zF ((zft s, zno s + 1, zky s, zL s, zR s, zu (zu (zU s) q fw) p mw, zF s, zN s, zO s, zC s, zW s)) w_), lv, st, fun w_ => nI (zN ((zft s, zno s + 1, zky s, zL s, zR s, zu (zu (zU s) q fw) p mw, zF s, zN s, zO s, zC s, zW s)) w_), fun w_ => nI (zO ((zft s, zno s + 1, zky s, zL s, zR s, zu (zu (zU s) q fw) p mw, zF s, zN s, zO s, zC s, zW s)) w_), fun w_ => nI (zC ((zft s, zno s + 1, zky s, zL s, zR s, zu (zu (zU s) q fw) p mw, zF s, zN s, zO s, zC s, zW s)) w_), fun w_ => lN (zW ((zft s, zno s + 1, zky s, zL s, zR s, zu (zu (zU s) q fw) p mw, zF s, zN s, zO s, zC s, zW s)) w_), ph, kd, ky, an, ba, lo, fun w_ => nI (zu J t (zno s) w_), fun w_ => nI (SG w_), fun w_ => nI (SP w_), fun w_ => nI (SL w_), fun w_ => lN (GW w_), fun w_ => lN (PW w_))) :
    wpX_commit post (q0, q1, q2, q3, q4, q5, nI th, nI ce, nI ro, ch, nI (zft (zsetU (zsetU s q fw) p mw)), nI (zno (zsetU (zsetU s q fw) p mw)), zky (zsetU (zsetU s q fw) p mw), fun w_ => nI (zL (zsetU (zsetU s q fw) p mw) w_), fun w_ => nI (zR (zsetU (zsetU s q fw) p mw) w_), fun w_ => lN (zU (zsetU (zsetU s q fw) p mw) w_), fun w_ => nI (zF (zsetU (zsetU s q fw) p mw) w_), lv, st, fun w_ => nI (zN (zsetU (zsetU s q fw) p mw) w_), fun w_ => nI (zO (zsetU (zsetU s q fw) p mw) w_), fun w_ => nI (zC (zsetU (zsetU s q fw) p mw) w_), fun w_ => lN (zW (zsetU (zsetU s q fw) p mw) w_), ph, kd, ky, an, ba, lo, fun w_ => nI (J w_), fun w_ => nI (SG w_), fun w_ => nI (SP w_), fun w_ => nI (SL w_), fun w_ => lN (GW w_), fun w_ => lN (PW w_)) (nI t) := by
  unfold wpX_commit
  dsimp only
  rw [z_cl (show t < 2147483648 by omega)]
  exact ⟨z_in ht, nm_r (zu_I J t (zno s)) (nm_r (nI_1 (zno s)) (nm_e hp))⟩
theorem zw_tryD66 {post : Int32 → SX → Prop} {t : Nat} (ht : t < 8) (I : zI B s g) (hB : B + 3 ≤ 4000000) (hsp : zSP s g (ky t).toInt (SP t) (SL t) (PW t)) (hsg : zSG s g (ky t).toInt (SG t) (SP t) (GW t)) (h64 : zno s ≤ 64)
    (k3 : ¬ (GW t = zU s (SG t) ∧ PW t = zU s (SP t)) → ∀ s', zI (B + 3) s' g → zTr s g s' g → zno s' = zno s → zft s' = zft s → post 3 (q0, q1, q2, q3, q4, q5, nI th, nI ce, nI ro, ch, nI (zft s'), nI (zno s'), zky s', fun w_ => nI (zL s' w_), fun w_ => nI (zR s' w_), fun w_ => lN (zU s' w_), fun w_ => nI (zF s' w_), lv, st, fun w_ => nI (zN s' w_), fun w_ => nI (zO s' w_), fun w_ => nI (zC s' w_), fun w_ => lN (zW s' w_), ph, kd, ky, an, ba, lo, fun w_ => nI (J w_), fun w_ => nI (SG w_), fun w_ => nI (SP w_), fun w_ => nI (SL w_), fun w_ => lN (GW w_), fun w_ => lN (PW w_)))
    (k1 : GW t = zU s (SG t) → PW t = zU s (SP t) → ∀ s' g', zI B s' g' → zTr s g s' g' → zno s' = zno s + 1 → zft s' = zft s →
      (∀ y, zt_M (zK s') (gl g') (gn g') y ↔ zt_M (zK s) (gl g) (gn g) y ∧ y ≠ zK s (SL t)) → (gn g').length + 2 = (gn g).length →
      post 1 (q0, q1, q2, q3, q4, q5, nI th, nI ce, nI ro, ch + 1, nI (zft s'), nI (zno s'), zky s', fun w_ => nI (zL s' w_), fun w_ => nI (zR s' w_), fun w_ => lN (zU s' w_), fun w_ => nI (zF s' w_), lv, st, fun w_ => nI (zN s' w_), fun w_ => nI (zO s' w_), fun w_ => nI (zC s' w_), fun w_ => lN (zW s' w_), ph, kd, ky, an, ba, lo, fun w_ => nI (zu J t (zno s) w_), fun w_ => nI (SG w_), fun w_ => nI (SP w_), fun w_ => nI (SL w_), fun w_ => lN (GW w_), fun w_ => lN (PW w_))) :
    wX_tryDelete_66 post (nI t) (nI (SG t)) (nI (SP t)) (nI (zsib s (SP t) (SL t))) q0 q1 q2 q3 q4 q5 (nI th) (nI ce) (nI ro) ch (nI (zft s)) (nI (zno s)) (zky s) (fun w_ => nI (zL s w_)) (fun w_ => nI (zR s w_)) (fun w_ => lN (zU s w_)) (fun w_ => nI (zF s w_)) lv st (fun w_ => nI (zN s w_)) (fun w_ => nI (zO s w_)) (fun w_ => nI (zC s w_)) (fun w_ => lN (zW s w_)) ph kd ky an ba lo (fun w_ => nI (J w_)) (fun w_ => nI (SG w_)) (fun w_ => nI (SP w_)) (fun w_ => nI (SL w_)) (fun w_ => lN (GW w_)) (fun w_ => lN (PW w_)) := by
  obtain ⟨a1, a2, a3, a4, a5, a6, a7, a8, a9⟩ := hsp
  obtain ⟨b1, b3, b5, b7, b8, b9⟩ := hsg
  have hu := zI_u I (by omega)
  have hup := hu (SP t)
  have huq := hu (SG t)
  have hOff := zds_Off (s := s) (a := SG t) (b := SP t) (c := zsib s (SP t) (SL t)) (w := GW t / 512 * 512 + zno s * 4 + 2)
  have IU := zI_U I
  obtain ⟨I2, Tr2⟩ := zof_I (B' := B) I hOff IU
  have ops : zN (zdesc s (SG t) (SP t) (zsib s (SP t) (SL t)) (GW t / 512 * 512 + zno s * 4 + 2)) (zno s) = SG t ∧ zO (zdesc s (SG t) (SP t) (zsib s (SP t) (SL t)) (GW t / 512 * 512 + zno s * 4 + 2)) (zno s) = SP t ∧ zC (zdesc s (SG t) (SP t) (zsib s (SP t) (SL t)) (GW t / 512 * 512 + zno s * 4 + 2)) (zno s) = zsib s (SP t) (SL t) ∧ zW (zdesc s (SG t) (SP t) (zsib s (SP t) (SL t)) (GW t / 512 * 512 + zno s * 4 + 2)) (zno s) = GW t / 512 * 512 + zno s * 4 + 2 := ⟨zu_s, zu_s, zu_s, zu_s⟩
  have hno : zno (zdesc s (SG t) (SP t) (zsib s (SP t) (SL t)) (GW t / 512 * 512 + zno s * 4 + 2)) = zno s := rfl
  have hft : zft (zdesc s (SG t) (SP t) (zsib s (SP t) (SL t)) (GW t / 512 * 512 + zno s * 4 + 2)) = zft s := rfl
  have hL2 : zL (zdesc s (SG t) (SP t) (zsib s (SP t) (SL t)) (GW t / 512 * 512 + zno s * 4 + 2)) = zL s := rfl
  have hR2 : zR (zdesc s (SG t) (SP t) (zsib s (SP t) (SL t)) (GW t / 512 * 512 + zno s * 4 + 2)) = zR s := rfl
  have hU2 : zU (zdesc s (SG t) (SP t) (zsib s (SP t) (SL t)) (GW t / 512 * 512 + zno s * 4 + 2)) = zU s := rfl
  have hK2 : zK (zdesc s (SG t) (SP t) (zsib s (SP t) (SL t)) (GW t / 512 * 512 + zno s * 4 + 2)) = zK s := rfl
  have hF2 : ∀ n, zFr (zdesc s (SG t) (SP t) (zsib s (SP t) (SL t)) (GW t / 512 * 512 + zno s * 4 + 2)) n ↔ zFr s n := fun n => Iff.rfl
  unfold wX_tryDelete_66
  rw [z_cl (show t < 2147483648 by omega)]
  refine ⟨z_in ht, zw_word (o := zno s) (c := 2) (by omega) (by omega) (by omega) (zw_desc (show zno s < 128 by omega) ⟨z_in ht, ?_⟩)⟩
  dsimp only
  generalize zdesc s (SG t) (SP t) (zsib s (SP t) (SL t)) (GW t / 512 * 512 + zno s * 4 + 2) = s2 at *
  have hln2 : zL s2 (SP t) ≠ 4294967295 := by rw [hL2]; exact a5
  have hlq2 : zL s2 (SG t) ≠ 4294967295 := by rw [hL2]; exact b5
  have hfp2 : ¬ zFr s2 (SP t) := fun z => a3 ((hF2 _).mp z)
  have hfq2 : ¬ zFr s2 (SG t) := fun z => b3 ((hF2 _).mp z)
  refine zw_cas (s := s2) b1 (by rw [hU2]; omega) (by omega) (fun e => ?_) (fun e => ?_)
  · rw [hU2] at e
    obtain ⟨c1, c2, c3⟩ := b9 e.symm
    have T := zI_T I
    have hqi : gl g (SG t) ≠ 4294967295 := fun z => b5 ((zI_N I _ c1).1.mpr z)
    have hpc : gl g (SG t) = SP t ∨ gr g (SG t) = SP t := by
      rcases zt_nx_c (dr := gr g) (K := zK s) (x := (ky t).toInt) hqi with ⟨_, e⟩ | ⟨_, e⟩
      · exact Or.inl (e.symm.trans c3)
      · exact Or.inr (e.symm.trans c3)
    have hpq : SP t ≠ SG t := by
      have := zt_cne T c1 hqi
      rcases hpc with e | e <;> rw [← e]
      · exact this.1.symm
      · exact this.2.symm
    have hU3 : zU (zsetU s2 (SG t) (GW t / 512 * 512 + zno s * 4 + 2)) (SP t) = zU s (SP t) := by
      show zu (zU s2) (SG t) _ (SP t) = _
      rw [zu_n hpq, hU2]
    refine br_f (by decide) ⟨z_in ht, zw_word (o := zno s2) (c := 3) (by omega) (by rw [hno]; omega) (by omega) ⟨z_in ht, ?_⟩⟩
    refine zw_cas (s := zsetU s2 (SG t) (GW t / 512 * 512 + zno s * 4 + 2)) a1 (by rw [hU3]; omega) (by omega) (fun e2 => ?_) (fun e2 => ?_)
    · -- both words stand
      rw [hU3] at e2
      obtain ⟨d1, d2, d3⟩ := a9 e2.symm
      have hpi : gl g (SP t) ≠ 4294967295 := fun z => a5 ((zI_N I _ d1).1.mpr z)
      have hlm : SL t ∈ gn g := by rw [← d3]; exact zt_nxm T d1
      have hll : gl g (SL t) = 4294967295 := (zI_N I _ hlm).1.mp a6
      have clp := zI_cl I d1 a5 (by omega)
      have hu2 := zt_un T d1 d1 hpi hpi
      have hsb : (gl g (SP t) = SL t ∧ gr g (SP t) = zsib s (SP t) (SL t)) ∨ (gl g (SP t) = zsib s (SP t) (SL t) ∧ gr g (SP t) = SL t) := by
        unfold zsib
        rcases zt_nx_c (dr := gr g) (K := zK s) (x := (ky t).toInt) hpi with ⟨_, e⟩ | ⟨_, e⟩
        · have e3 := e.symm.trans d3
          rw [if_pos (clp.2.1.trans e3)]
          exact Or.inl ⟨e3, clp.2.2.symm⟩
        · have e3 := e.symm.trans d3
          rw [if_neg (fun z => hu2.2.2 ((clp.2.1.symm.trans z).trans e3.symm))]
          exact Or.inr ⟨clp.2.1.symm, e3⟩
      have hH : zd_H (gl g) (gr g) (gn g) (SG t) (SP t) (zsib s (SP t) (SL t)) (SL t) := ⟨c1, d1, hqi, hpi, hpc, hsb, hll⟩
      have eG : zU s2 (SG t) = GW t := by rw [hU2]; exact e
      have eP : zU s2 (SP t) = PW t := by rw [hU2]; exact e2
      obtain ⟨r1, r2⟩ := zde_I I2 (by rw [hno]; omega) hH (by rw [eG]; exact b7) (by rw [eP]; exact a7) (by rw [hno, eG]; exact ops)
      have k1' := k1 e.symm e2.symm _ _ r1 (zTr_tr (zI_g I) Tr2 r2) (by show zno s2 + 1 = _; rw [hno]) (by show zft s2 = _; exact hft) (fun y => by
        have := zd_M (zI_T I2) hH y
        rw [hK2] at this
        refine Iff.trans ?_ this
        show zt_M (zK s2) _ _ y ↔ _
        rw [hK2]; exact Iff.rfl) (zd_len T hH)
      refine br_f (by decide) (zw_comD ht ?_)
      unfold zcomD at k1'
      rw [eG, eP, hno] at k1'
      rw [hno]
      exact k1'
    · -- the parent has changed: help there, take the flag back
      rw [hU3] at e2
      have IO2 := zI_O I2
      have A2 := zI_A I2 (SP t) a1 hfp2 hln2
      have hf := zhelp_fl (s := s2) (q := SG t) (p := SP t) (fw := GW t / 512 * 512 + zno s * 4 + 2) hpq (by rw [hU2, e]; exact b7) (by rw [hno]; omega) (fun o ho => ⟨(IO2 o ho).1.2.2.2.1, (IO2 o ho).1.2.2.2.2⟩) A2.2.2
      obtain ⟨I3, Tr3⟩ := zhp_I I2 a1 hfp2 hln2
      have hU3' : zU (zhelp s2 (SP t)) (SG t) = GW t := by rw [hf.2, hU2]; exact e
      have hl3 : zL (zhelp s2 (SP t)) (SG t) ≠ 4294967295 := fun z => hlq2 ((Tr3.1 _ b1 hfq2).2.2.1.mp z)
      obtain ⟨I4, Tr4⟩ := zbump I3 c1 hl3 (by rw [hU3']; omega)
      have hopN : zN (zhelp s2 (SP t)) (zno s) = SG t ∧ zW (zhelp s2 (SP t)) (zno s) = GW t / 512 * 512 + zno s * 4 + 2 := by
        unfold zhelp
        by_cases c : zU s2 (SP t) % 4 = 0
        · rw [if_pos c]; exact ⟨ops.1, ops.2.2.2⟩
        · rw [if_neg c]; exact ⟨ops.1, ops.2.2.2⟩
      have hno3 : zno (zhelp s2 (SP t)) = zno s := (zhelp_no _ _).1.trans hno
      have hft3 : zft (zhelp s2 (SP t)) = zft s := (zhelp_no _ _).2.trans hft
      rw [← hno3] at hopN
      have hu4 := zunfl_fl (s := zhelp s2 (SP t)) hopN.1 hopN.2
      rw [hU3'] at I4 Tr4
      have ev : (GW t / 512 * 512 + zno (zhelp s2 (SP t)) * 4 + 2) / 512 = GW t / 512 := by rw [hno3]; omega
      rw [ev] at hu4
      have k := k3 (fun z => e2 z.2.symm) _ (zI_B I4 (by omega)) (zTr_tr (zI_g I) Tr2 (zTr_tr (zI_g I2) Tr3 Tr4)) hno3 hft3
      rw [← hu4] at k
      have hu5 : ∀ m, zU (zsetU s2 (SG t) (GW t / 512 * 512 + zno s * 4 + 2)) m < 2147483648 := by
        intro m
        show zu (zU s2) (SG t) _ m < _
        by_cases em : m = SG t
        · rw [em, zu_s]; omega
        · rw [zu_n em, hU2]; exact hu m
      have hops : zU (zsetU s2 (SG t) (GW t / 512 * 512 + zno s * 4 + 2)) (SP t) % 4 ≠ 0 → zU (zsetU s2 (SG t) (GW t / 512 * 512 + zno s * 4 + 2)) (SP t) / 4 % 128 < zno s2 := by
        rw [hU3]; intro c; rw [hU2] at A2; exact A2.2.2 c
      refine br_t rfl (zw_help (s := zsetU s2 (SG t) (GW t / 512 * 512 + zno s * 4 + 2)) a1 hu5 (fun c => zI_op I2 (by omega) (hops c)) ?_)
      dsimp only
      rw [hf.1, ← hno3]
      generalize zhelp s2 (SP t) = s3 at *
      refine zw_unflag (s := zsetU s3 (SG t) (GW t / 512 * 512 + zno s3 * 4 + 2)) (o := zno s3) ?_ ?_ ?_ ?_ ?_
      · rw [hno3]; omega
      · show zN s3 (zno s3) < 99
        rw [hopN.1]; exact b1
      · show zW s3 (zno s3) < 2147483648
        rw [hopN.2, hno3]; omega
      · show zu (zU s3) (SG t) (GW t / 512 * 512 + zno s3 * 4 + 2) (zN s3 (zno s3)) < 2147483648
        rw [hopN.1, zu_s, hno3]; omega
      · exact k
  · rw [hU2] at e
    have w := zhp_I I2 b1 hfq2 hlq2
    refine br_t rfl (zw_helpI I2 (by omega) b1 hfq2 hlq2 ?_)
    exact k3 (fun z => e z.1.symm) _ (zI_B w.1 (by omega)) (zTr_tr (zI_g I) Tr2 w.2) ((zhelp_no _ _).1.trans hno) ((zhelp_no _ _).2.trans hft)
theorem zw_tryD {post : Int32 → SX → Prop} {t : Nat} (ht : t < 8) (I : zI B s g) (hB : B + 3 ≤ 4000000) (hsp : zSP s g (ky t).toInt (SP t) (SL t) (PW t)) (hsg : zK s (SL t) = (ky t).toInt → zSG s g (ky t).toInt (SG t) (SP t) (GW t)) (h64 : zno s ≤ 64)
    (k0 : zK s (SL t) ≠ (ky t).toInt → post 0 (q0, q1, q2, q3, q4, q5, nI th, nI ce, nI ro, ch, nI (zft s), nI (zno s), zky s, fun w_ => nI (zL s w_), fun w_ => nI (zR s w_), fun w_ => lN (zU s w_), fun w_ => nI (zF s w_), lv, st, fun w_ => nI (zN s w_), fun w_ => nI (zO s w_), fun w_ => nI (zC s w_), fun w_ => lN (zW s w_), ph, kd, ky, an, ba, lo, fun w_ => nI (J w_), fun w_ => nI (SG w_), fun w_ => nI (SP w_), fun w_ => nI (SL w_), fun w_ => lN (GW w_), fun w_ => lN (PW w_)))
    (k3 : zK s (SL t) = (ky t).toInt → ¬ (GW t = zU s (SG t) ∧ PW t = zU s (SP t)) → ∀ s', zI (B + 3) s' g → zTr s g s' g → zno s' = zno s → zft s' = zft s → post 3 (q0, q1, q2, q3, q4, q5, nI th, nI ce, nI ro, ch, nI (zft s'), nI (zno s'), zky s', fun w_ => nI (zL s' w_), fun w_ => nI (zR s' w_), fun w_ => lN (zU s' w_), fun w_ => nI (zF s' w_), lv, st, fun w_ => nI (zN s' w_), fun w_ => nI (zO s' w_), fun w_ => nI (zC s' w_), fun w_ => lN (zW s' w_), ph, kd, ky, an, ba, lo, fun w_ => nI (J w_), fun w_ => nI (SG w_), fun w_ => nI (SP w_), fun w_ => nI (SL w_), fun w_ => lN (GW w_), fun w_ => lN (PW w_)))
    (k1 : zK s (SL t) = (ky t).toInt → GW t = zU s (SG t) → PW t = zU s (SP t) → ∀ s' g', zI B s' g' → zTr s g s' g' → zno s' = zno s + 1 → zft s' = zft s →
      (∀ y, zt_M (zK s') (gl g') (gn g') y ↔ zt_M (zK s) (gl g) (gn g) y ∧ y ≠ (ky t).toInt) → (gn g').length + 2 = (gn g).length →
      post 1 (q0, q1, q2, q3, q4, q5, nI th, nI ce, nI ro, ch + 1, nI (zft s'), nI (zno s'), zky s', fun w_ => nI (zL s' w_), fun w_ => nI (zR s' w_), fun w_ => lN (zU s' w_), fun w_ => nI (zF s' w_), lv, st, fun w_ => nI (zN s' w_), fun w_ => nI (zO s' w_), fun w_ => nI (zC s' w_), fun w_ => lN (zW s' w_), ph, kd, ky, an, ba, lo, fun w_ => nI (zu J t (zno s) w_), fun w_ => nI (SG w_), fun w_ => nI (SP w_), fun w_ => nI (SL w_), fun w_ => lN (GW w_), fun w_ => lN (PW w_))) :
    wpX_tryDelete post (q0, q1, q2, q3, q4, q5, nI th, nI ce, nI ro, ch, nI (zft s), nI (zno s), zky s, fun w_ => nI (zL s w_), fun w_ => nI (zR s w_), fun w_ => lN (zU s w_), fun w_ => nI (zF s w_), lv, st, fun w_ => nI (zN s w_), fun w_ => nI (zO s w_), fun w_ => nI (zC s w_), fun w_ => lN (zW s w_), ph, kd, ky, an, ba, lo, fun w_ => nI (J w_), fun w_ => nI (SG w_), fun w_ => nI (SP w_), fun w_ => nI (SL w_), fun w_ => lN (GW w_), fun w_ => lN (PW w_)) (nI t) := by
  have hsp' := hsp
  obtain ⟨a1, a2, a3, a4, a5, a6, a7, a8, a9⟩ := hsp'
  have hA := zI_A I (SP t) a1 a3 a5
  unfold wpX_tryDelete
  dsimp only
  rw [z_cl (show t < 2147483648 by omega)]
  refine ⟨z_in ht, nm_e ⟨z_in ht, nm_e ⟨z_in ht, nm_e ⟨z_in a2, z_in ht, ?_⟩⟩⟩⟩
  rw [z_cl (show SL t < 2147483648 by omega), z_cl (show SP t < 2147483648 by omega), zK_eq, nI_eq (by omega) (by omega)]
  refine br_c (fun hk => ⟨z_in a1, br_c (fun c => ⟨z_in a1, ?_⟩) (fun c => ⟨z_in a1, ?_⟩)⟩) k0
  · have := zw_tryD66 (post := post) ht I hB hsp (hsg hk) h64 (k3 hk) (fun h1 h2 => by rw [hk]; exact k1 hk h1 h2)
    unfold zsib at this
    rw [if_pos c] at this
    exact this
  · have := zw_tryD66 (post := post) ht I hB hsp (hsg hk) h64 (k3 hk) (fun h1 h2 => by rw [hk]; exact k1 hk h1 h2)
    unfold zsib at this
    rw [if_neg c] at this
    exact this
end
end
section
/-! the reference's walks -/
theorem zup2 (f : Nat → Int32) (k : Nat) (a b : Int32) : upd (upd f k a) k b = upd f k b := by
  funext j
  by_cases h : j = k
  · subst h; rw [pk_us, pk_us]
  · rw [pk_un h, pk_un h, pk_un h]
section
variable {th ce ro ch : Int32} {sl ph kd ky an ba lo : Nat → Int32}
theorem zy_slotL {post : Int32 → Prop} {v : Int32} (hf : ∀ i, i < 32 → sl i = v → (∀ j, j < i → sl j ≠ v) → post (nI i)) (hn : (∀ i, i < 32 → sl i ≠ v) → post (-1)) :
    ∀ d i n : Nat, i + d = 32 → d < n → (∀ j, j < i → sl j ≠ v) → wY_slotOf_2 post v th ce ro ch sl ph kd ky an ba lo n (nI i) := by
  intro d
  induction d with
  | zero =>
    intro i n hd hn' hj
    obtain ⟨n, rfl⟩ : ∃ k, n = k + 1 := ⟨n - 1, by omega⟩
    exact br_t (nI_le (a := 32) (by omega) (by omega)) (hn (fun j hj' => hj j (by omega)))
  | succ d ih =>
    intro i n hd hn' hj
    obtain ⟨n, rfl⟩ : ∃ k, n = k + 1 := ⟨n - 1, by omega⟩
    refine br_f (nI_ge (b := 32) (by omega) (by decide)) ⟨z_in (by omega), ?_⟩
    rw [z_cl (show i < 2147483648 by omega)]
    refine br_c (fun c => hf i (by omega) c hj) (fun c => nm_r (nI_1 i) (ih (i + 1) n (by omega) (by omega) (fun j hj' => ?_)))
    rcases Nat.lt_or_ge j i with q | q
    · exact hj j q
    · rw [show j = i by omega]; exact c
theorem zy_slot {post : Int32 → Prop} {v : Int32} (hf : ∀ i, i < 32 → sl i = v → (∀ j, j < i → sl j ≠ v) → post (nI i)) (hn : (∀ i, i < 32 → sl i ≠ v) → post (-1)) : wpY_slotOf post (th, ce, ro, ch, sl, ph, kd, ky, an, ba, lo) v :=
  ⟨33, zy_slotL hf hn 32 0 33 rfl (by omega) (fun j hj => absurd hj (Nat.not_lt_zero j))⟩
theorem zy_bad {post : Int32 → Prop} {v : Int32} {n : Nat} (hn : n ≤ 8) (hb : (v < 0 ∨ ¬ v < nI n) → post 1) (hg : ∀ t, t < n → v = nI t → post 0) : wpY_bad post (nI n, ce, ro, ch, sl, ph, kd, ky, an, ba, lo) v := by
  refine br_c (fun c => hb (Or.inl c)) (fun c => br_c (fun c2 => ?_) (fun c2 => hb (Or.inr c2)))
  obtain ⟨t, h1, h2⟩ := nI_of c
  rw [h2, nI_ltI h1 (by omega)] at c2
  exact hg t c2 h2
/-- a slot search for a key -/
def zHas (sl : Nat → Int32) (v : Int32) : Prop := ∃ i, i < 32 ∧ sl i = v
theorem zy_act198n {post : Int32 → SY → Prop} {t : Nat} {r : Int32} (ht : t < 8) (hp : post r (th, ce, ro, ch, sl, upd ph t 0, kd, ky, upd an t r, ba, lo)) : wY_act_198 post (nI t) r 0 th ce ro ch sl ph kd ky an ba lo := by
  unfold wY_act_198
  rw [z_cl (show t < 2147483648 by omega)]
  exact ⟨z_in ht, nm_e (br_t rfl ⟨z_in ht, nm_e hp⟩)⟩
theorem zy_act198c {post : Int32 → SY → Prop} {t : Nat} {r : Int32} (ht : t < 8) (hp : post 1 (th, ce, ro, ch + 1, sl, upd ph t 4, kd, ky, upd an t 1, ba, upd lo t 2)) : wY_act_198 post (nI t) r 1 th ce ro ch sl ph kd ky an ba lo := by
  unfold wY_act_198
  rw [z_cl (show t < 2147483648 by omega)]
  exact ⟨z_in ht, nm_e (br_f (by decide) (nm_e ⟨z_in ht, nm_r (zup2 _ _ _ _) ⟨z_in ht, nm_e ⟨z_in ht, nm_e hp⟩⟩⟩))⟩
theorem zy_act144n {post : Int32 → SY → Prop} {t : Nat} {r p : Int32} {c : Int32} (ht : t < 8) (hk : ¬ (kd t = 2 ∧ p = 3)) (hp : wY_act_198 post (nI t) r c th ce ro ch sl ph kd ky an ba lo) : wY_act_144 post (nI t) p r c th ce ro ch sl ph kd ky an ba lo := by
  unfold wY_act_144
  rw [z_cl (show t < 2147483648 by omega)]
  exact ⟨z_in ht, br_c (fun c => br_c (fun c2 => absurd ⟨c, c2⟩ hk) (fun _ => hp)) (fun _ => hp)⟩
theorem zy_act51n {post : Int32 → SY → Prop} {t : Nat} {r p : Int32} (ht : t < 8) (hk : ¬ (kd t = 1 ∧ p = 2)) (hp : wY_act_144 post (nI t) p r 0 th ce ro ch sl ph kd ky an ba lo) : wY_act_51 post (nI t) p r 0 th ce ro ch sl ph kd ky an ba lo := by
  unfold wY_act_51
  rw [z_cl (show t < 2147483648 by omega)]
  exact ⟨z_in ht, br_c (fun c => br_c (fun c2 => absurd ⟨c, c2⟩ hk) (fun _ => hp)) (fun _ => hp)⟩
theorem zy_act30 {post : Int32 → SY → Prop} {t : Nat} {p : Int32} (ht : t < 8) (h0 : kd t ≠ 0) (hp : wY_act_51 post (nI t) p 0 0 th ce ro ch sl ph kd ky an ba lo) : wY_act_30 post (nI t) p th ce ro ch sl ph kd ky an ba lo := by
  unfold wY_act_30
  rw [z_cl (show t < 2147483648 by omega)]
  exact ⟨z_in ht, br_f h0 hp⟩
/-- a find -/
theorem zy_aF {post : Int32 → SY → Prop} {t : Nat} (ht : t < 8) (h0 : kd t = 0) (h2 : ph t = 2 → post 0 (th, ce, ro, ch, sl, upd ph t 0, kd, ky, upd an t 0, ba, lo)) (h3 : ph t = 3 → post 1 (th, ce, ro, ch, sl, upd ph t 0, kd, ky, upd an t 1, ba, lo)) (hp : ph t = 2 ∨ ph t = 3) : wY_act_30 post (nI t) (ph t) th ce ro ch sl ph kd ky an ba lo := by
  unfold wY_act_30
  rw [z_cl (show t < 2147483648 by omega)]
  have n1 : ∀ p : Int32, ¬ (kd t = 1 ∧ p = 2) := fun p z => absurd (h0.symm.trans z.1) (by decide)
  have n2 : ∀ p : Int32, ¬ (kd t = 2 ∧ p = 3) := fun p z => absurd (h0.symm.trans z.1) (by decide)
  refine ⟨z_in ht, br_t h0 (br_c (fun c => ?_) (fun c => ?_))⟩
  · exact zy_act51n ht (n1 _) (zy_act144n ht (n2 _) (zy_act198n ht (h3 c)))
  · rcases hp with e | e
    · exact zy_act51n ht (n1 _) (zy_act144n ht (n2 _) (zy_act198n ht (h2 e)))
    · exact absurd e c
/-- neither -/
theorem zy_aN {post : Int32 → SY → Prop} {t : Nat} (ht : t < 8) (h : (kd t = 1 ∧ ph t = 3) ∨ (kd t = 2 ∧ ph t = 2)) (hp : post 0 (th, ce, ro, ch, sl, upd ph t 0, kd, ky, upd an t 0, ba, lo)) : wY_act_30 post (nI t) (ph t) th ce ro ch sl ph kd ky an ba lo := by
  have e0 : kd t ≠ 0 := by rcases h with h | h <;> rw [h.1] <;> decide
  have e1 : ¬ (kd t = 1 ∧ ph t = 2) := by rcases h with h | h <;> rw [h.1, h.2] <;> decide
  have e2 : ¬ (kd t = 2 ∧ ph t = 3) := by rcases h with h | h <;> rw [h.1, h.2] <;> decide
  exact zy_act30 ht e0 (zy_act51n ht e1 (zy_act144n ht e2 (zy_act198n ht hp)))
/-- an insertion -/
theorem zy_aI {post : Int32 → SY → Prop} {t : Nat} (ht : t < 8) (h1 : kd t = 1) (h2 : ph t = 2)
    (k0 : zHas sl (ky t) → post 0 (th, ce, ro, ch, sl, upd ph t 0, kd, ky, upd an t 0, upd ba t ch, lo))
    (k2 : ¬ zHas sl (ky t) → ro = 0 → post 2 (th, ce, ro, ch, sl, upd ph t 0, kd, ky, upd an t 2, upd ba t ch, lo))
    (k2' : ¬ zHas sl (ky t) → ro ≠ 0 → ¬ zHas sl 2147483647 → post 2 (th, ce, ro, ch, sl, upd ph t 0, kd, ky, upd an t 2, upd ba t ch, lo))
    (k1 : ¬ zHas sl (ky t) → ro ≠ 0 → ∀ i, i < 32 → sl i = 2147483647 → post 1 (th, ce, ro - 1, ch + 1, upd sl i (ky t), upd ph t 4, kd, ky, upd an t 1, upd ba t ch, upd lo t 2)) :
    wY_act_30 post (nI t) (ph t) th ce ro ch sl ph kd ky an ba lo := by
  have n2 : ¬ (kd t = 2 ∧ ph t = 3) := fun z => absurd (h1.symm.trans z.1) (by decide)
  refine zy_act30 ht (by rw [h1]; decide) ?_
  unfold wY_act_51
  rw [z_cl (show t < 2147483648 by omega)]
  refine ⟨z_in ht, br_t h1 (br_t h2 ⟨z_in ht, nm_e ⟨z_in ht, zy_slot (fun i hi e _ => zy_slot (fun j hj e2 _ => ?_) (fun e2 => ?_)) (fun e => zy_slot (fun j hj e2 _ => ?_) (fun e2 => ?_))⟩⟩)⟩
  · exact br_t (nI_pos' (by omega)) (zy_act144n ht n2 (zy_act198n ht (k0 ⟨i, hi, e⟩)))
  · exact br_t (nI_pos' (by omega)) (zy_act144n ht n2 (zy_act198n ht (k0 ⟨i, hi, e⟩)))
  · have hn : ¬ zHas sl (ky t) := fun ⟨i, hi, w⟩ => e i hi w
    refine br_f (by decide) (br_c (fun c => ?_) (fun c => br_t (nI_pos' (by omega)) ⟨z_in ht, z_in hj, ?_⟩))
    · exact zy_act144n ht n2 (zy_act198n ht (k2 hn c))
    · rw [z_cl (show j < 2147483648 by omega)]
      exact nm_e (nm_e (zy_act144n ht n2 (zy_act198c ht (k1 hn c j hj e2))))
  · have hn : ¬ zHas sl (ky t) := fun ⟨i, hi, w⟩ => e i hi w
    refine br_f (by decide) (br_c (fun c => ?_) (fun c => br_f (by decide) ?_))
    · exact zy_act144n ht n2 (zy_act198n ht (k2 hn c))
    · exact zy_act144n ht n2 (zy_act198n ht (k2' hn c (fun ⟨i, hi, w⟩ => e2 i hi w)))
/-- a deletion -/
theorem zy_aD {post : Int32 → SY → Prop} {t : Nat} (ht : t < 8) (h1 : kd t = 2) (h2 : ph t = 3)
    (k0 : ¬ zHas sl (ky t) → post 0 (th, ce, ro, ch, sl, upd ph t 0, kd, ky, upd an t 0, upd ba t ch, lo))
    (k1 : ∀ i, i < 32 → sl i = ky t → post 1 (th, ce, ro, ch + 1, upd sl i 2147483647, upd ph t 4, kd, ky, upd an t 1, upd ba t ch, upd lo t 2)) :
    wY_act_30 post (nI t) (ph t) th ce ro ch sl ph kd ky an ba lo := by
  have n1 : ¬ (kd t = 1 ∧ ph t = 2) := fun z => absurd (h1.symm.trans z.1) (by decide)
  refine zy_act30 ht (by rw [h1]; decide) (zy_act51n ht n1 ?_)
  unfold wY_act_144
  rw [z_cl (show t < 2147483648 by omega)]
  refine ⟨z_in ht, br_t h1 (br_t h2 ⟨z_in ht, nm_e ⟨z_in ht, zy_slot (fun i hi e _ => ?_) (fun e => ?_)⟩⟩)⟩
  · refine br_f (nI_pos (by omega)) ⟨z_in hi, ?_⟩
    rw [z_cl (show i < 2147483648 by omega)]
    exact nm_e (zy_act198c ht (k1 i hi e))
  · exact br_t (by decide) (zy_act198n ht (k0 (fun ⟨i, hi, w⟩ => e i hi w)))
theorem zy_act {post : Int32 → SY → Prop} {v : Int32} {n : Nat} (hn : n ≤ 8)
    (hb : (v < 0 ∨ ¬ v < nI n) → post (-1) (nI n, ce, ro, ch, sl, ph, kd, ky, an, ba, lo))
    (hw : ∀ t, t < n → v = nI t → ph t ≠ 2 → ph t ≠ 3 → post (-2) (nI n, ce, ro, ch, sl, ph, kd, ky, an, ba, lo))
    (hg : ∀ t, t < n → v = nI t → (ph t = 2 ∨ ph t = 3) → wY_act_30 post (nI t) (ph t) (nI n) ce ro ch sl ph kd ky an ba lo) : wpY_act post (nI n, ce, ro, ch, sl, ph, kd, ky, an, ba, lo) v := by
  unfold wpY_act
  dsimp only
  refine zy_bad hn (fun c => br_f (by decide) (hb c)) (fun t ht e => ?_)
  subst e
  refine br_t rfl ⟨z_in (by omega), ?_⟩
  rw [z_cl (show t < 2147483648 by omega)]
  exact nm_e (br_c (fun c => hg t ht rfl (Or.inl c)) (fun c => br_c (fun c2 => hg t ht rfl (Or.inr c2)) (fun c2 => hw t ht rfl c c2)))
theorem zy_look {post : Int32 → SY → Prop} {t : Nat} (ht : t < 8)
    (k0 : ¬ zHas sl (ky t) → post 0 (th, ce, ro, ch, sl, upd ph t 2, kd, ky, an, upd ba t ch, lo)) (k1 : zHas sl (ky t) → post 1 (th, ce, ro, ch, sl, upd ph t 3, kd, ky, an, upd ba t ch, lo)) : wY_look_35 post (nI t) th ce ro ch sl ph kd ky an ba lo := by
  unfold wY_look_35
  rw [z_cl (show t < 2147483648 by omega)]
  refine ⟨z_in ht, nm_e ⟨z_in ht, zy_slot (fun i hi e _ => ?_) (fun e => ?_)⟩⟩
  · exact br_f (nI_pos (by omega)) ⟨z_in ht, nm_e (k1 ⟨i, hi, e⟩)⟩
  · exact br_t (by decide) ⟨z_in ht, nm_e (k0 (fun ⟨i, hi, w⟩ => e i hi w))⟩
end
end
section
/-! change: an attempt, and a second one after a fresh search -/
def zAg (t : Nat) (SG SP SL GW PW SG' SP' SL' GW' PW' : Nat → Nat) : Prop :=
  (∀ u, u ≠ t → SG' u = SG u ∧ SP' u = SP u ∧ SL' u = SL u ∧ GW' u = GW u ∧ PW' u = PW u) ∧
  ((∀ u, GW u < 2147483648 ∧ PW u < 2147483648) → ∀ u, GW' u < 2147483648 ∧ PW' u < 2147483648)
theorem zAg_rf {t : Nat} {SG SP SL GW PW : Nat → Nat} : zAg t SG SP SL GW PW SG SP SL GW PW := ⟨fun _ _ => ⟨rfl, rfl, rfl, rfl, rfl⟩, fun h => h⟩
theorem zAg_u {t : Nat} {SG SP SL GW PW : Nat → Nat} {q p l gw pw : Nat} (h1 : gw < 2147483648) (h2 : pw < 2147483648) : zAg t SG SP SL GW PW (zu SG t q) (zu SP t p) (zu SL t l) (zu GW t gw) (zu PW t pw) := by
  refine ⟨fun u hu => ⟨zu_n hu, zu_n hu, zu_n hu, zu_n hu, zu_n hu⟩, fun h u => ?_⟩
  by_cases e : u = t
  · subst e; rw [zu_s, zu_s]; exact ⟨h1, h2⟩
  · rw [zu_n e, zu_n e]; exact h u
section
variable {q0 q1 q2 q3 q4 q5 ch : Int32} {th ce ro : Nat} {s : CS} {lv st ph kd ky an ba lo : Nat → Int32} {J SG SP SL GW PW : Nat → Nat}
variable {B : Nat} {g : GS}
theorem zw_searchT {post : SX → Prop} {t : Nat} (ht : t < 8) (I : zI B s g) (hB : B + 99 ≤ 4000000)
    (hp : ∀ (s' : CS) (q p l gw pw : Nat), zI (B + 99) s' g → zTr s g s' g → zSame s s' → zFd s' g (ky t).toInt q p l gw pw →
      post (q0, q1, q2, q3, q4, q5, nI th, nI ce, nI ro, ch, nI (zft s'), nI (zno s'), zky s', fun w_ => nI (zL s' w_), fun w_ => nI (zR s' w_), fun w_ => lN (zU s' w_), fun w_ => nI (zF s' w_), lv, st, fun w_ => nI (zN s' w_), fun w_ => nI (zO s' w_), fun w_ => nI (zC s' w_), fun w_ => lN (zW s' w_), ph, kd, ky, an, ba, lo, fun w_ => nI (J w_), fun w_ => nI (zu SG t q w_), fun w_ => nI (zu SP t p w_), fun w_ => nI (zu SL t l w_), fun w_ => lN (zu GW t gw w_), fun w_ => lN (zu PW t pw w_))) :
    wpX_search post (q0, q1, q2, q3, q4, q5, nI th, nI ce, nI ro, ch, nI (zft s), nI (zno s), zky s, fun w_ => nI (zL s w_), fun w_ => nI (zR s w_), fun w_ => lN (zU s w_), fun w_ => nI (zF s w_), lv, st, fun w_ => nI (zN s w_), fun w_ => nI (zO s w_), fun w_ => nI (zC s w_), fun w_ => lN (zW s w_), ph, kd, ky, an, ba, lo, fun w_ => nI (J w_), fun w_ => nI (SG w_), fun w_ => nI (SP w_), fun w_ => nI (SL w_), fun w_ => lN (GW w_), fun w_ => lN (PW w_)) (nI t) := by
  refine zw_search ht I hB (fun s' q p l gw pw h1 h2 h3 h4 => ?_)
  rw [zu_I, zu_I, zu_I, zu_L, zu_L]
  exact hp s' q p l gw pw h1 h2 h3 h4
theorem zw_changeI {post : Int32 → SX → Prop} {t : Nat} (ht : t < 8) (I : zI B s g) (hB : B + 110 ≤ 4000000) (hkd : kd t = 1) (hx : (ky t).toInt ≤ 2147483645)
    (hsp : zSP s g (ky t).toInt (SP t) (SL t) (PW t)) (hne : zK s (SL t) ≠ (ky t).toInt) (h3 : 3 * ro ≤ zft s) (hro : ro ≤ 32) (h64 : zno s ≤ 64)
    (k0 : zt_M (zK s) (gl g) (gn g) (ky t).toInt → ∀ s' SG' SP' SL' GW' PW', zI (B + 110) s' g → zTr s g s' g → zno s' = zno s → zft s' = zft s → zAg t SG SP SL GW PW SG' SP' SL' GW' PW' →
      post 0 (q0, q1, q2, q3, q4, q5, nI th, nI ce, nI ro, ch, nI (zft s'), nI (zno s'), zky s', fun w_ => nI (zL s' w_), fun w_ => nI (zR s' w_), fun w_ => lN (zU s' w_), fun w_ => nI (zF s' w_), lv, st, fun w_ => nI (zN s' w_), fun w_ => nI (zO s' w_), fun w_ => nI (zC s' w_), fun w_ => lN (zW s' w_), ph, kd, ky, an, upd ba t ch, lo, fun w_ => nI (J w_), fun w_ => nI (SG' w_), fun w_ => nI (SP' w_), fun w_ => nI (SL' w_), fun w_ => lN (GW' w_), fun w_ => lN (PW' w_)))
    (k2 : ¬ zt_M (zK s) (gl g) (gn g) (ky t).toInt → ro = 0 → ∀ s' SG' SP' SL' GW' PW', zI (B + 110) s' g → zTr s g s' g → zno s' = zno s → zft s' = zft s → zAg t SG SP SL GW PW SG' SP' SL' GW' PW' →
      post 2 (q0, q1, q2, q3, q4, q5, nI th, nI ce, nI ro, ch, nI (zft s'), nI (zno s'), zky s', fun w_ => nI (zL s' w_), fun w_ => nI (zR s' w_), fun w_ => lN (zU s' w_), fun w_ => nI (zF s' w_), lv, st, fun w_ => nI (zN s' w_), fun w_ => nI (zO s' w_), fun w_ => nI (zC s' w_), fun w_ => lN (zW s' w_), ph, kd, ky, an, upd ba t ch, lo, fun w_ => nI (J w_), fun w_ => nI (SG' w_), fun w_ => nI (SP' w_), fun w_ => nI (SL' w_), fun w_ => lN (GW' w_), fun w_ => lN (PW' w_)))
    (k1 : ¬ zt_M (zK s) (gl g) (gn g) (ky t).toInt → ro ≠ 0 → ∀ s' g' SG' SP' SL' GW' PW', zI (B + 110) s' g' → zTr s g s' g' → zno s' = zno s + 1 → zft s' = zft s - 3 →
      (∀ y, zt_M (zK s') (gl g') (gn g') y ↔ zt_M (zK s) (gl g) (gn g) y ∨ y = (ky t).toInt) → (gn g').length = (gn g).length + 2 → zAg t SG SP SL GW PW SG' SP' SL' GW' PW' →
      post 1 (q0, q1, q2, q3, q4, q5, nI th, nI ce, nI (ro - 1), ch + 1, nI (zft s'), nI (zno s'), zky s', fun w_ => nI (zL s' w_), fun w_ => nI (zR s' w_), fun w_ => lN (zU s' w_), fun w_ => nI (zF s' w_), lv, st, fun w_ => nI (zN s' w_), fun w_ => nI (zO s' w_), fun w_ => nI (zC s' w_), fun w_ => lN (zW s' w_), ph, kd, ky, an, upd ba t ch, lo, fun w_ => nI (zu J t (zno s) w_), fun w_ => nI (SG' w_), fun w_ => nI (SP' w_), fun w_ => nI (SL' w_), fun w_ => lN (GW' w_), fun w_ => lN (PW' w_))) :
    wpX_change post (q0, q1, q2, q3, q4, q5, nI th, nI ce, nI ro, ch, nI (zft s), nI (zno s), zky s, fun w_ => nI (zL s w_), fun w_ => nI (zR s w_), fun w_ => lN (zU s w_), fun w_ => nI (zF s w_), lv, st, fun w_ => nI (zN s w_), fun w_ => nI (zO s w_), fun w_ => nI (zC s w_), fun w_ => lN (zW s w_), ph, kd, ky, an, ba, lo, fun w_ => nI (J w_), fun w_ => nI (SG w_), fun w_ => nI (SP w_), fun w_ => nI (SL w_), fun w_ => lN (GW w_), fun w_ => lN (PW w_)) (nI t) := by
  have absent : PW t = zU s (SP t) → ¬ zt_M (zK s) (gl g) (gn g) (ky t).toInt := by
    intro e z
    obtain ⟨a1, a2, a3, a4, a5, a6, a7, a8, a9⟩ := hsp
    obtain ⟨b1, b2, b3⟩ := a9 e
    have T := zI_T I
    have o1 := zt_Os b2
    rw [b3] at o1
    exact hne ((zt_find T o1 ((zI_N I _ (zt_Om T o1)).1.mp a6)).mp z)
  unfold wpX_change
  dsimp only
  rw [z_cl (show t < 2147483648 by omega)]
  refine ⟨z_in ht, nm_e ?_⟩
  unfold wpX_attempt
  dsimp only
  rw [z_cl (show t < 2147483648 by omega)]
  refine ⟨z_in ht, br_t hkd (zw_tryI ht I (by omega) hsp h3 hro h64 (fun e => absurd e hne) (fun _ hr e => ?_) (fun _ e s1 I1 Tr1 no1 ft1 => ?_) (fun _ hr e s1 g1 I1 Tr1 no1 ft1 M1 l1 => ?_))⟩
  · exact br_f (by decide) (k2 (absent e) hr s SG SP SL GW PW (zI_B I (by omega)) zTr_rf rfl rfl zAg_rf)
  · refine br_t rfl (zw_searchT ht I1 (by omega) (fun s2 q p l gw pw I2 Tr2 Sm2 F2 => ?_))
    obtain ⟨f1, f2, f3, f4, f5, f6⟩ := F2
    have Tr12 := zTr_tr (zI_g I) Tr1 Tr2
    have hM := zM_tr I Tr12
    rw [hM] at f5
    dsimp only
    refine ⟨z_in ht, br_t hkd (zw_tryI (SP := zu SP t p) (SL := zu SL t l) (PW := zu PW t pw) ht I2 (by omega) (by rw [zu_s, zu_s, zu_s]; exact f1) (by rw [Sm2.2.1, ft1]; exact h3) hro (by rw [Sm2.2.2, no1]; exact h64) ?_ ?_ ?_ ?_)⟩
    · rw [zu_s]
      intro e
      exact k0 (f5.mpr e) s2 _ _ _ _ _ (zI_B I2 (by omega)) Tr12 (Sm2.2.2.trans no1) (Sm2.2.1.trans ft1) (zAg_u f3 f4)
    · rw [zu_s]
      intro e hr _
      exact k2 (fun z => e (f5.mp z)) hr s2 _ _ _ _ _ (zI_B I2 (by omega)) Tr12 (Sm2.2.2.trans no1) (Sm2.2.1.trans ft1) (zAg_u f3 f4)
    · rw [zu_s, zu_s, zu_s]
      intro _ e
      exact absurd f2 e
    · rw [zu_s, zu_s, zu_s]
      intro e hr _ s3 g3 I3 Tr3 no3 ft3 M3 l3
      have hno : zno s2 = zno s := Sm2.2.2.trans no1
      have hft : zft s2 = zft s := Sm2.2.1.trans ft1
      rw [hno]
      exact k1 (fun z => e (f5.mp z)) hr s3 g3 _ _ _ _ _ (zI_B I3 (by omega)) (zTr_tr (zI_g I) Tr12 Tr3) (by rw [no3, hno]) (by rw [ft3, hft]) (fun y => by rw [M3 y, hM y]) l3 (zAg_u f3 f4)
  · exact br_f (by decide) (k1 (absent e) hr s1 g1 SG SP SL GW PW (zI_B I1 (by omega)) Tr1 no1 ft1 M1 l1 zAg_rf)
theorem zw_changeD {post : Int32 → SX → Prop} {t : Nat} (ht : t < 8) (I : zI B s g) (hB : B + 110 ≤ 4000000) (hkd : kd t = 2) (hx : (ky t).toInt ≤ 2147483645)
    (hM1 : zt_M (zK s) (gl g) (gn g) 2147483646) (hK0 : zK s 0 = 2147483647)
    (hsp : zSP s g (ky t).toInt (SP t) (SL t) (PW t)) (hsg : zSG s g (ky t).toInt (SG t) (SP t) (GW t)) (heq : zK s (SL t) = (ky t).toInt) (h64 : zno s ≤ 64)
    (k0 : ¬ zt_M (zK s) (gl g) (gn g) (ky t).toInt → ∀ s' SG' SP' SL' GW' PW', zI (B + 110) s' g → zTr s g s' g → zno s' = zno s → zft s' = zft s → zAg t SG SP SL GW PW SG' SP' SL' GW' PW' →
      post 0 (q0, q1, q2, q3, q4, q5, nI th, nI ce, nI ro, ch, nI (zft s'), nI (zno s'), zky s', fun w_ => nI (zL s' w_), fun w_ => nI (zR s' w_), fun w_ => lN (zU s' w_), fun w_ => nI (zF s' w_), lv, st, fun w_ => nI (zN s' w_), fun w_ => nI (zO s' w_), fun w_ => nI (zC s' w_), fun w_ => lN (zW s' w_), ph, kd, ky, an, upd ba t ch, lo, fun w_ => nI (J w_), fun w_ => nI (SG' w_), fun w_ => nI (SP' w_), fun w_ => nI (SL' w_), fun w_ => lN (GW' w_), fun w_ => lN (PW' w_)))
    (k1 : zt_M (zK s) (gl g) (gn g) (ky t).toInt → ∀ s' g' SG' SP' SL' GW' PW', zI (B + 110) s' g' → zTr s g s' g' → zno s' = zno s + 1 → zft s' = zft s →
      (∀ y, zt_M (zK s') (gl g') (gn g') y ↔ zt_M (zK s) (gl g) (gn g) y ∧ y ≠ (ky t).toInt) → (gn g').length + 2 = (gn g).length → zAg t SG SP SL GW PW SG' SP' SL' GW' PW' →
      post 1 (q0, q1, q2, q3, q4, q5, nI th, nI ce, nI ro, ch + 1, nI (zft s'), nI (zno s'), zky s', fun w_ => nI (zL s' w_), fun w_ => nI (zR s' w_), fun w_ => lN (zU s' w_), fun w_ => nI (zF s' w_), lv, st, fun w_ => nI (zN s' w_), fun w_ => nI (zO s' w_), fun w_ => nI (zC s' w_), fun w_ => lN (zW s' w_), ph, kd, ky, an, upd ba t ch, lo, fun w_ => nI (zu J t (zno s) w_), fun w_ => nI (SG' w_), fun w_ => nI (SP' w_), fun w_ => nI (SL' w_), fun w_ => lN (GW' w_), fun w_ => lN (PW' w_))) :
    wpX_change post (q0, q1, q2, q3, q4, q5, nI th, nI ce, nI ro, ch, nI (zft s), nI (zno s), zky s, fun w_ => nI (zL s w_), fun w_ => nI (zR s w_), fun w_ => lN (zU s w_), fun w_ => nI (zF s w_), lv, st, fun w_ => nI (zN s w_), fun w_ => nI (zO s w_), fun w_ => nI (zC s w_), fun w_ => lN (zW s w_), ph, kd, ky, an, ba, lo, fun w_ => nI (J w_), fun w_ => nI (SG w_), fun w_ => nI (SP w_), fun w_ => nI (SL w_), fun w_ => lN (GW w_), fun w_ => lN (PW w_)) (nI t) := by
  have n1 : ¬ kd t = 1 := by rw [hkd]; decide
  have present : PW t = zU s (SP t) → zt_M (zK s) (gl g) (gn g) (ky t).toInt := by
    intro e
    obtain ⟨a1, a2, a3, a4, a5, a6, a7, a8, a9⟩ := hsp
    obtain ⟨b1, b2, b3⟩ := a9 e
    have T := zI_T I
    have o1 := zt_Os b2
    rw [b3] at o1
    exact (zt_find T o1 ((zI_N I _ (zt_Om T o1)).1.mp a6)).mpr heq
  unfold wpX_change
  dsimp only
  rw [z_cl (show t < 2147483648 by omega)]
  refine ⟨z_in ht, nm_e ?_⟩
  unfold wpX_attempt
  dsimp only
  rw [z_cl (show t < 2147483648 by omega)]
  refine ⟨z_in ht, br_f n1 (zw_tryD ht I (by omega) hsp (fun _ => hsg) h64 (fun e => absurd heq e) (fun _ e s1 I1 Tr1 no1 ft1 => ?_) (fun _ eg e s1 g1 I1 Tr1 no1 ft1 M1 l1 => ?_))⟩
  · refine br_t rfl (zw_searchT ht I1 (by omega) (fun s2 q p l gw pw I2 Tr2 Sm2 F2 => ?_))
    obtain ⟨f1, f2, f3, f4, f5, f6⟩ := F2
    have Tr12 := zTr_tr (zI_g I) Tr1 Tr2
    have hM := zM_tr I Tr12
    have hK0' : zK s2 0 = 2147483647 := by
      have h0 := zI_g I 0 (zt_0 (zI_T I))
      have := (Tr12.1 0 h0.1 h0.2).2.1
      unfold zK at hK0 ⊢; rw [this]; exact hK0
    have f6' := f6 ((hM _).mpr hM1) hK0' hx
    rw [hM] at f5
    dsimp only
    refine ⟨z_in ht, br_f n1 (zw_tryD (SG := zu SG t q) (GW := zu GW t gw) (SP := zu SP t p) (SL := zu SL t l) (PW := zu PW t pw) ht I2 (by omega) (by rw [zu_s, zu_s, zu_s]; exact f1) (by rw [zu_s, zu_s, zu_s, zu_s]; exact fun e => (f6' e).1) (by rw [Sm2.2.2, no1]; exact h64) ?_ ?_ ?_)⟩
    · rw [zu_s]
      intro e
      exact k0 (fun z => e (f5.mp z)) s2 _ _ _ _ _ (zI_B I2 (by omega)) Tr12 (Sm2.2.2.trans no1) (Sm2.2.1.trans ft1) (zAg_u f3 f4)
    · rw [zu_s, zu_s, zu_s, zu_s, zu_s]
      intro e1 e
      exact absurd ⟨(f6' e1).2, f2⟩ e
    · rw [zu_s, zu_s, zu_s, zu_s, zu_s]
      intro e _ _ s3 g3 I3 Tr3 no3 ft3 M3 l3
      have hno : zno s2 = zno s := Sm2.2.2.trans no1
      have hft : zft s2 = zft s := Sm2.2.1.trans ft1
      rw [hno]
      exact k1 (f5.mpr e) s3 g3 _ _ _ _ _ (zI_B I3 (by omega)) (zTr_tr (zI_g I) Tr12 Tr3) (by rw [no3, hno]) (by rw [ft3, hft]) (fun y => by rw [M3 y, hM y]) l3 (zAg_u f3 f4)
  · exact br_f (by decide) (k1 (present e) s1 g1 SG SP SL GW PW (zI_B I1 (by omega)) Tr1 no1 ft1 M1 l1 zAg_rf)
end
end
section
/-! the relation, and the methods that touch one thread alone -/
def i_Rel (k : Nat) (u : SX) (v : SY) : Prop := ∀ P : SX → SY → Prop, (∀ (q0 q1 q2 q3 q4 q5 ch : Int32) (th ce ro : Nat) (s : CS) (g : GS) (lv st ph kd ky an ba lo sl : Nat → Int32) (J SG SP SL GW PW : Nat → Nat), zRel k th ce ro s g ph kd ky lo J SG SP SL GW PW sl → P (q0, q1, q2, q3, q4, q5, nI th, nI ce, nI ro, ch, nI (zft s), nI (zno s), zky s, fun w_ => nI (zL s w_), fun w_ => nI (zR s w_), fun w_ => lN (zU s w_), fun w_ => nI (zF s w_), lv, st, fun w_ => nI (zN s w_), fun w_ => nI (zO s w_), fun w_ => nI (zC s w_), fun w_ => lN (zW s w_), ph, kd, ky, an, ba, lo, fun w_ => nI (J w_), fun w_ => nI (SG w_), fun w_ => nI (SP w_), fun w_ => nI (SL w_), fun w_ => lN (GW w_), fun w_ => lN (PW w_)) (nI th, nI ce, nI ro, ch, sl, ph, kd, ky, an, ba, lo)) → P u v
section
variable {q0 q1 q2 q3 q4 q5 ch : Int32} {th ce ro : Nat} {s : CS} {lv st ph kd ky an ba lo : Nat → Int32} {J SG SP SL GW PW : Nat → Nat}
variable {k : Nat} {g g' : GS} {s' : CS} {sl : Nat → Int32} {ph' kd' ky' lo' : Nat → Int32} {J' SG' SP' SL' GW' PW' : Nat → Nat}
theorem zR_in (h : zRel k th ce ro s g ph kd ky lo J SG SP SL GW PW sl) : i_Rel k (q0, q1, q2, q3, q4, q5, nI th, nI ce, nI ro, ch, nI (zft s), nI (zno s), zky s, fun w_ => nI (zL s w_), fun w_ => nI (zR s w_), fun w_ => lN (zU s w_), fun w_ => nI (zF s w_), lv, st, fun w_ => nI (zN s w_), fun w_ => nI (zO s w_), fun w_ => nI (zC s w_), fun w_ => lN (zW s w_), ph, kd, ky, an, ba, lo, fun w_ => nI (J w_), fun w_ => nI (SG w_), fun w_ => nI (SP w_), fun w_ => nI (SL w_), fun w_ => lN (GW w_), fun w_ => lN (PW w_)) (nI th, nI ce, nI ro, ch, sl, ph, kd, ky, an, ba, lo) := fun _ hP => hP _ _ _ _ _ _ _ _ _ _ _ _ _ _ _ _ _ _ _ _ _ _ _ _ _ _ _ h
theorem zR_up (h : zRel k th ce ro s g ph kd ky lo J SG SP SL GW PW sl) : zRel (k + 4) th ce ro s g ph kd ky lo J SG SP SL GW PW sl :=
  ⟨h.1, h.2.1, zI_B h.2.2.1 (by omega), h.2.2.2⟩
theorem i_up {k : Nat} {u : SX} {v : SY} (h : i_Rel k u v) : i_Rel (k + 4) u v := by
  refine h (fun u v => i_Rel (k + 4) u v) ?_
  intro q0 q1 q2 q3 q4 q5 ch th ce ro s g lv st ph kd ky an ba lo sl J SG SP SL GW PW R
  exact zR_in (zR_up R)
def zOfft (t : Nat) (ph kd ky lo ph' kd' ky' lo' : Nat → Int32) (J J' : Nat → Nat) : Prop := ∀ u, u ≠ t → ph' u = ph u ∧ kd' u = kd u ∧ ky' u = ky u ∧ lo' u = lo u ∧ J' u = J u
theorem zTh_upd {t : Nat} (ht : t < th) (h : zTh s g th ph kd ky lo J SG SP SL GW PW) (Tr : zTr s g s' g')
    (ho : zOfft t ph kd ky lo ph' kd' ky' lo' J J') (ha : zAg t SG SP SL GW PW SG' SP' SL' GW' PW')
    (h1 : zT1 s' g' (ph' t) (kd' t) (ky' t) (lo' t) (J' t) (SG' t) (SP' t) (SL' t) (GW' t) (PW' t)) (hw : zOwn s' ph' J') :
    zTh s' g' th ph' kd' ky' lo' J' SG' SP' SL' GW' PW' := by
  refine ⟨fun u hu => ?_, hw, fun u h1 h2 => ?_⟩
  · by_cases e : u = t
    · rw [e]; exact h1
    · obtain ⟨a1, a2, a3, a4, a5⟩ := ho u e
      obtain ⟨b1, b2, b3, b4, b5⟩ := ha.1 u e
      rw [a1, a2, a3, a4, a5, b1, b2, b3, b4, b5]
      exact zT1_tr Tr (h.1 u hu)
  · rw [(ho u (by omega)).1]; exact h.2.2 u h1 h2
theorem zOwn_k {t : Nat} (h : zOwn s ph J) (Tr : zTr s g s' g') (hn : zno s' = zno s) (ho : ∀ u, u ≠ t → ph' u = ph u ∧ J' u = J u) (hc : ph t ≠ 4 ∨ ¬ zPd s' (J t)) : zOwn s' ph' J' := by
  intro o hlt pd
  rw [hn] at hlt
  obtain ⟨u, hu, e1, e2⟩ := h o hlt ((Tr.2.2.2 o hlt).2 pd)
  have hut : u ≠ t := by
    intro e
    rw [e] at e1 e2
    rcases hc with c | c
    · exact c e1
    · rw [e2] at c; exact c pd
  exact ⟨u, hu, by rw [(ho u hut).1]; exact e1, by rw [(ho u hut).2]; exact e2⟩
theorem zOwn_same {t : Nat} (h : zOwn s ph J) (Tr : zTr s g s' g') (hn : zno s' = zno s) (ho : ∀ u, ph' u = ph u ∧ J' u = J u) : zOwn s' ph' J' := by
  intro o hlt pd
  rw [hn] at hlt
  obtain ⟨u, hu, e1, e2⟩ := h o hlt ((Tr.2.2.2 o hlt).2 pd)
  exact ⟨u, hu, by rw [(ho u).1]; exact e1, by rw [(ho u).2]; exact e2⟩
theorem zOwn_n {t : Nat} (ht : t < 8) (h : zOwn s ph J) (Tr : zTr s g s' g') (hn : zno s' = zno s + 1) (ho : ∀ u, u ≠ t → ph' u = ph u ∧ J' u = J u) (hc : ph t ≠ 4) (h4 : ph' t = 4) (hJ : J' t = zno s) : zOwn s' ph' J' := by
  intro o hlt pd
  rw [hn] at hlt
  by_cases e : o = zno s
  · exact ⟨t, ht, h4, by rw [hJ, e]⟩
  · have hlt : o < zno s := by omega
    obtain ⟨u, hu, e1, e2⟩ := h o hlt ((Tr.2.2.2 o hlt).2 pd)
    have hut : u ≠ t := by
      intro e
      rw [e] at e1; exact hc e1
    exact ⟨u, hu, by rw [(ho u hut).1]; exact e1, by rw [(ho u hut).2]; exact e2⟩
theorem zSl_tr {B : Nat} (I : zI B s g) (Tr : zTr s g s' g) (h : zSl s g sl) : zSl s' g sl := by
  obtain ⟨a1, a2, a3, a4, a5, a6⟩ := h
  have hM := zM_tr I Tr
  refine ⟨a1, a2, fun x hx => (hM x).trans (a3 x hx), (hM _).mpr a4, (hM _).mpr a5, ?_⟩
  have h0 := zI_g I 0 (zt_0 (zI_T I))
  have := (Tr.1 0 h0.1 h0.2).2.1
  unfold zK at a6 ⊢; rw [this]; exact a6
theorem zCt_tr (h : zCt s g ce ro sl) (h1 : zft s' = zft s) (h2 : zno s' = zno s) : zCt s' g ce ro sl := by
  unfold zCt; rw [h1, h2]; exact h
theorem zw_bad {post : Int32 → Prop} {v : Int32} (hn : th ≤ 8) (hb : (v < 0 ∨ ¬ v < nI th) → post 1) (hg : ∀ t, t < th → v = nI t → post 0) : wpX_bad post (q0, q1, q2, q3, q4, q5, nI th, nI ce, nI ro, ch, nI (zft s), nI (zno s), zky s, fun w_ => nI (zL s w_), fun w_ => nI (zR s w_), fun w_ => lN (zU s w_), fun w_ => nI (zF s w_), lv, st, fun w_ => nI (zN s w_), fun w_ => nI (zO s w_), fun w_ => nI (zC s w_), fun w_ => lN (zW s w_), ph, kd, ky, an, ba, lo, fun w_ => nI (J w_), fun w_ => nI (SG w_), fun w_ => nI (SP w_), fun w_ => nI (SL w_), fun w_ => lN (GW w_), fun w_ => lN (PW w_)) v := by
  refine br_c (fun c => hb (Or.inl c)) (fun c => br_c (fun c2 => ?_) (fun c2 => hb (Or.inr c2)))
  obtain ⟨t, h1, h2⟩ := nI_of c
  rw [h2, nI_ltI h1 (by omega)] at c2
  exact hg t c2 h2
theorem zbad_iff {v : Int32} {t : Nat} (hn : th ≤ 8) (ht : t < th) (e : v = nI t) : ¬ (v < 0 ∨ ¬ v < nI th) := by
  subst e
  rintro (c | c)
  · exact nI_pos (show t < 2 ^ 31 by omega) c
  · exact c (nI_lt ht (by omega))
/-- the reference's bad, known -/
theorem zy_badT {post : Int32 → Prop} {v : Int32} (hb : v < 0 ∨ ¬ v < nI th) (hp : post 1) : wpY_bad post (nI th, nI ce, nI ro, ch, sl, ph, kd, ky, an, ba, lo) v := by
  refine br_c (fun c => hp) (fun c => br_c (fun c2 => ?_) (fun c2 => hp))
  rcases hb with h | h
  · exact absurd h c
  · exact absurd c2 h
theorem zy_badF {post : Int32 → Prop} {t : Nat} (hn : th ≤ 8) (ht : t < th) (hp : post 0) : wpY_bad post (nI th, nI ce, nI ro, ch, sl, ph, kd, ky, an, ba, lo) (nI t) := by
  exact br_f (nI_pos (show t < 2 ^ 31 by omega)) (br_t (nI_lt ht (by omega)) hp)
end
end
section
/-! methods that only read one cell -/
theorem i_vc_phase {k : Nat} {u : SX} {v : SY} (I : i_Rel k u v) (hk : k + 4 ≤ 2050) (v1 : Int32) : wpX_phase (fun r => wpY_phase (fun r' => r' = r ∧ i_Rel (k + 4) u v) v v1) u v1 := by
  refine I (fun u v => wpX_phase (fun r => wpY_phase (fun r' => r' = r ∧ i_Rel (k + 4) u v) v v1) u v1) ?_
  intro q0 q1 q2 q3 q4 q5 ch th ce ro s g lv st ph kd ky an ba lo sl J SG SP SL GW PW R
  have h8 := R.2.1
  unfold wpX_phase wpY_phase
  dsimp only
  refine zw_bad h8 (fun c => br_f (by decide) (zy_badT c (br_f (by decide) ⟨rfl, zR_in (zR_up R)⟩))) (fun t ht e => ?_)
  subst e
  exact br_t rfl ⟨z_in (by omega), zy_badF h8 ht (br_t rfl ⟨z_in (by omega), rfl, zR_in (zR_up R)⟩)⟩
theorem i_vc_kind {k : Nat} {u : SX} {v : SY} (I : i_Rel k u v) (hk : k + 4 ≤ 2050) (v1 : Int32) : wpX_kind (fun r => wpY_kind (fun r' => r' = r ∧ i_Rel (k + 4) u v) v v1) u v1 := by
  refine I (fun u v => wpX_kind (fun r => wpY_kind (fun r' => r' = r ∧ i_Rel (k + 4) u v) v v1) u v1) ?_
  intro q0 q1 q2 q3 q4 q5 ch th ce ro s g lv st ph kd ky an ba lo sl J SG SP SL GW PW R
  have h8 := R.2.1
  unfold wpX_kind wpY_kind
  dsimp only
  refine zw_bad h8 (fun c => br_f (by decide) (zy_badT c (br_f (by decide) ⟨rfl, zR_in (zR_up R)⟩))) (fun t ht e => ?_)
  subst e
  exact br_t rfl ⟨z_in (by omega), zy_badF h8 ht (br_t rfl ⟨z_in (by omega), rfl, zR_in (zR_up R)⟩)⟩
theorem i_vc_key {k : Nat} {u : SX} {v : SY} (I : i_Rel k u v) (hk : k + 4 ≤ 2050) (v1 : Int32) : wpX_key (fun r => wpY_key (fun r' => r' = r ∧ i_Rel (k + 4) u v) v v1) u v1 := by
  refine I (fun u v => wpX_key (fun r => wpY_key (fun r' => r' = r ∧ i_Rel (k + 4) u v) v v1) u v1) ?_
  intro q0 q1 q2 q3 q4 q5 ch th ce ro s g lv st ph kd ky an ba lo sl J SG SP SL GW PW R
  have h8 := R.2.1
  unfold wpX_key wpY_key
  dsimp only
  refine zw_bad h8 (fun c => br_f (by decide) (zy_badT c (br_f (by decide) ⟨rfl, zR_in (zR_up R)⟩))) (fun t ht e => ?_)
  subst e
  exact br_t rfl ⟨z_in (by omega), zy_badF h8 ht (br_t rfl ⟨z_in (by omega), rfl, zR_in (zR_up R)⟩)⟩
theorem i_vc_answer {k : Nat} {u : SX} {v : SY} (I : i_Rel k u v) (hk : k + 4 ≤ 2050) (v1 : Int32) : wpX_answer (fun r => wpY_answer (fun r' => r' = r ∧ i_Rel (k + 4) u v) v v1) u v1 := by
  refine I (fun u v => wpX_answer (fun r => wpY_answer (fun r' => r' = r ∧ i_Rel (k + 4) u v) v v1) u v1) ?_
  intro q0 q1 q2 q3 q4 q5 ch th ce ro s g lv st ph kd ky an ba lo sl J SG SP SL GW PW R
  have h8 := R.2.1
  unfold wpX_answer wpY_answer
  dsimp only
  refine zw_bad h8 (fun c => br_f (by decide) (zy_badT c (br_f (by decide) ⟨rfl, zR_in (zR_up R)⟩))) (fun t ht e => ?_)
  subst e
  exact br_t rfl ⟨z_in (by omega), zy_badF h8 ht (br_t rfl ⟨z_in (by omega), rfl, zR_in (zR_up R)⟩)⟩
theorem i_vc_stepsLeft {k : Nat} {u : SX} {v : SY} (I : i_Rel k u v) (hk : k + 4 ≤ 2050) (v1 : Int32) : wpX_stepsLeft (fun r => wpY_stepsLeft (fun r' => r' = r ∧ i_Rel (k + 4) u v) v v1) u v1 := by
  refine I (fun u v => wpX_stepsLeft (fun r => wpY_stepsLeft (fun r' => r' = r ∧ i_Rel (k + 4) u v) v v1) u v1) ?_
  intro q0 q1 q2 q3 q4 q5 ch th ce ro s g lv st ph kd ky an ba lo sl J SG SP SL GW PW R
  have h8 := R.2.1
  unfold wpX_stepsLeft wpY_stepsLeft
  dsimp only
  refine zw_bad h8 (fun c => br_f (by decide) (zy_badT c (br_f (by decide) ⟨rfl, zR_in (zR_up R)⟩))) (fun t ht e => ?_)
  subst e
  exact br_t rfl ⟨z_in (by omega), zy_badF h8 ht (br_t rfl ⟨z_in (by omega), rfl, zR_in (zR_up R)⟩)⟩
theorem i_vc_basis {k : Nat} {u : SX} {v : SY} (I : i_Rel k u v) (hk : k + 4 ≤ 2050) (v1 : Int32) : wpX_basis (fun r => wpY_basis (fun r' => r' = r ∧ i_Rel (k + 4) u v) v v1) u v1 := by
  refine I (fun u v => wpX_basis (fun r => wpY_basis (fun r' => r' = r ∧ i_Rel (k + 4) u v) v v1) u v1) ?_
  intro q0 q1 q2 q3 q4 q5 ch th ce ro s g lv st ph kd ky an ba lo sl J SG SP SL GW PW R
  have h8 := R.2.1
  unfold wpX_basis wpY_basis
  dsimp only
  refine zw_bad h8 (fun c => br_f (by decide) (zy_badT c (br_f (by decide) ⟨rfl, zR_in (zR_up R)⟩))) (fun t ht e => ?_)
  subst e
  exact br_t rfl ⟨z_in (by omega), zy_badF h8 ht (br_t rfl ⟨z_in (by omega), rfl, zR_in (zR_up R)⟩)⟩
theorem i_vc_room {k : Nat} {u : SX} {v : SY} (I : i_Rel k u v) (hk : k + 4 ≤ 2050) : wpX_room (fun r => wpY_room (fun r' => r' = r ∧ i_Rel (k + 4) u v) v) u := by
  refine I (fun u v => wpX_room (fun r => wpY_room (fun r' => r' = r ∧ i_Rel (k + 4) u v) v) u) ?_
  intro q0 q1 q2 q3 q4 q5 ch th ce ro s g lv st ph kd ky an ba lo sl J SG SP SL GW PW R
  exact ⟨rfl, zR_in (zR_up R)⟩
theorem i_vc_changes {k : Nat} {u : SX} {v : SY} (I : i_Rel k u v) (hk : k + 4 ≤ 2050) : wpX_changes (fun r => wpY_changes (fun r' => r' = r ∧ i_Rel (k + 4) u v) v) u := by
  refine I (fun u v => wpX_changes (fun r => wpY_changes (fun r' => r' = r ∧ i_Rel (k + 4) u v) v) u) ?_
  intro q0 q1 q2 q3 q4 q5 ch th ce ro s g lv st ph kd ky an ba lo sl J SG SP SL GW PW R
  exact ⟨rfl, zR_in (zR_up R)⟩
end
section
/-! start, help, step -/
section
variable {q0 q1 q2 q3 q4 q5 ch : Int32} {th ce ro : Nat} {s : CS} {lv st ph kd ky an ba lo : Nat → Int32} {J SG SP SL GW PW : Nat → Nat}
variable {k : Nat} {g : GS} {sl : Nat → Int32}
theorem zw_s39 {post : Int32 → SX → Prop} {t : Nat} {x2 x3 : Int32} (ht : t < 8) (h1 : x3 ≤ 2147483645 → post 4 (q0, q1, q2, q3, q4, q5, nI th, nI ce, nI ro, ch, nI (zft s), nI (zno s), zky s, fun w_ => nI (zL s w_), fun w_ => nI (zR s w_), fun w_ => lN (zU s w_), fun w_ => nI (zF s w_), lv, st, fun w_ => nI (zN s w_), fun w_ => nI (zO s w_), fun w_ => nI (zC s w_), fun w_ => lN (zW s w_), upd ph t 1, upd kd t x2, upd ky t x3, upd an t 3, upd ba t ch, lo, fun w_ => nI (J w_), fun w_ => nI (SG w_), fun w_ => nI (SP w_), fun w_ => nI (SL w_), fun w_ => lN (GW w_), fun w_ => lN (PW w_))) (h2 : ¬ x3 ≤ 2147483645 → post (-4) (q0, q1, q2, q3, q4, q5, nI th, nI ce, nI ro, ch, nI (zft s), nI (zno s), zky s, fun w_ => nI (zL s w_), fun w_ => nI (zR s w_), fun w_ => lN (zU s w_), fun w_ => nI (zF s w_), lv, st, fun w_ => nI (zN s w_), fun w_ => nI (zO s w_), fun w_ => nI (zC s w_), fun w_ => lN (zW s w_), ph, kd, ky, an, ba, lo, fun w_ => nI (J w_), fun w_ => nI (SG w_), fun w_ => nI (SP w_), fun w_ => nI (SL w_), fun w_ => lN (GW w_), fun w_ => lN (PW w_))) :
    wX_start_39 post (nI t) x2 x3 q0 q1 q2 q3 q4 q5 (nI th) (nI ce) (nI ro) ch (nI (zft s)) (nI (zno s)) (zky s) (fun w_ => nI (zL s w_)) (fun w_ => nI (zR s w_)) (fun w_ => lN (zU s w_)) (fun w_ => nI (zF s w_)) lv st (fun w_ => nI (zN s w_)) (fun w_ => nI (zO s w_)) (fun w_ => nI (zC s w_)) (fun w_ => lN (zW s w_)) ph kd ky an ba lo (fun w_ => nI (J w_)) (fun w_ => nI (SG w_)) (fun w_ => nI (SP w_)) (fun w_ => nI (SL w_)) (fun w_ => lN (GW w_)) (fun w_ => lN (PW w_)) := by
  unfold wX_start_39
  rw [z_cl (show t < 2147483648 by omega)]
  exact br_c (fun c => ⟨z_in ht, nm_e ⟨z_in ht, nm_e ⟨z_in ht, nm_e ⟨z_in ht, nm_e ⟨z_in ht, nm_e (h1 c)⟩⟩⟩⟩⟩) h2
theorem zy_s39 {post : Int32 → SY → Prop} {t : Nat} {x2 x3 : Int32} (ht : t < 8) (h1 : x3 ≤ 2147483645 → post 4 (nI th, nI ce, nI ro, ch, sl, upd ph t 1, upd kd t x2, upd ky t x3, upd an t 3, upd ba t ch, lo)) (h2 : ¬ x3 ≤ 2147483645 → post (-4) (nI th, nI ce, nI ro, ch, sl, ph, kd, ky, an, ba, lo)) :
    wY_start_39 post (nI t) x2 x3 (nI th) (nI ce) (nI ro) ch sl ph kd ky an ba lo := by
  unfold wY_start_39
  rw [z_cl (show t < 2147483648 by omega)]
  exact br_c (fun c => ⟨z_in ht, nm_e ⟨z_in ht, nm_e ⟨z_in ht, nm_e ⟨z_in ht, nm_e ⟨z_in ht, nm_e (h1 c)⟩⟩⟩⟩⟩) h2
theorem zx_start {post : Int32 → SX → Prop} {t : Nat} {x2 x3 : Int32} (h8 : th ≤ 8) (ht : t < th) (hw : ph t ≠ 0 → post (-2) (q0, q1, q2, q3, q4, q5, nI th, nI ce, nI ro, ch, nI (zft s), nI (zno s), zky s, fun w_ => nI (zL s w_), fun w_ => nI (zR s w_), fun w_ => lN (zU s w_), fun w_ => nI (zF s w_), lv, st, fun w_ => nI (zN s w_), fun w_ => nI (zO s w_), fun w_ => nI (zC s w_), fun w_ => lN (zW s w_), ph, kd, ky, an, ba, lo, fun w_ => nI (J w_), fun w_ => nI (SG w_), fun w_ => nI (SP w_), fun w_ => nI (SL w_), fun w_ => lN (GW w_), fun w_ => lN (PW w_))) (hk : ph t = 0 → ¬ (x2 = 0 ∨ x2 = 1 ∨ x2 = 2) → post (-3) (q0, q1, q2, q3, q4, q5, nI th, nI ce, nI ro, ch, nI (zft s), nI (zno s), zky s, fun w_ => nI (zL s w_), fun w_ => nI (zR s w_), fun w_ => lN (zU s w_), fun w_ => nI (zF s w_), lv, st, fun w_ => nI (zN s w_), fun w_ => nI (zO s w_), fun w_ => nI (zC s w_), fun w_ => lN (zW s w_), ph, kd, ky, an, ba, lo, fun w_ => nI (J w_), fun w_ => nI (SG w_), fun w_ => nI (SP w_), fun w_ => nI (SL w_), fun w_ => lN (GW w_), fun w_ => lN (PW w_)))
    (hg : ph t = 0 → (x2 = 0 ∨ x2 = 1 ∨ x2 = 2) → wX_start_39 post (nI t) x2 x3 q0 q1 q2 q3 q4 q5 (nI th) (nI ce) (nI ro) ch (nI (zft s)) (nI (zno s)) (zky s) (fun w_ => nI (zL s w_)) (fun w_ => nI (zR s w_)) (fun w_ => lN (zU s w_)) (fun w_ => nI (zF s w_)) lv st (fun w_ => nI (zN s w_)) (fun w_ => nI (zO s w_)) (fun w_ => nI (zC s w_)) (fun w_ => lN (zW s w_)) ph kd ky an ba lo (fun w_ => nI (J w_)) (fun w_ => nI (SG w_)) (fun w_ => nI (SP w_)) (fun w_ => nI (SL w_)) (fun w_ => lN (GW w_)) (fun w_ => lN (PW w_))) : wpX_start post (q0, q1, q2, q3, q4, q5, nI th, nI ce, nI ro, ch, nI (zft s), nI (zno s), zky s, fun w_ => nI (zL s w_), fun w_ => nI (zR s w_), fun w_ => lN (zU s w_), fun w_ => nI (zF s w_), lv, st, fun w_ => nI (zN s w_), fun w_ => nI (zO s w_), fun w_ => nI (zC s w_), fun w_ => lN (zW s w_), ph, kd, ky, an, ba, lo, fun w_ => nI (J w_), fun w_ => nI (SG w_), fun w_ => nI (SP w_), fun w_ => nI (SL w_), fun w_ => lN (GW w_), fun w_ => lN (PW w_)) (nI t) x2 x3 := by
  unfold wpX_start
  dsimp only
  refine zw_bad h8 (fun c => absurd c (zbad_iff h8 ht rfl)) (fun t' ht' e => ?_)
  refine br_t rfl ⟨z_in (by omega), ?_⟩
  rw [z_cl (show t < 2147483648 by omega)]
  refine br_c (fun c => br_c (fun a => hg c (Or.inl a)) (fun a => br_c (fun b => hg c (Or.inr (Or.inl b))) (fun b => br_c (fun d => hg c (Or.inr (Or.inr d))) (fun d => hk c ?_)))) hw
  rintro (z | z | z)
  · exact a z
  · exact b z
  · exact d z
theorem zy_start {post : Int32 → SY → Prop} {t : Nat} {x2 x3 : Int32} (h8 : th ≤ 8) (ht : t < th) (hw : ph t ≠ 0 → post (-2) (nI th, nI ce, nI ro, ch, sl, ph, kd, ky, an, ba, lo)) (hk : ph t = 0 → ¬ (x2 = 0 ∨ x2 = 1 ∨ x2 = 2) → post (-3) (nI th, nI ce, nI ro, ch, sl, ph, kd, ky, an, ba, lo))
    (hg : ph t = 0 → (x2 = 0 ∨ x2 = 1 ∨ x2 = 2) → wY_start_39 post (nI t) x2 x3 (nI th) (nI ce) (nI ro) ch sl ph kd ky an ba lo) : wpY_start post (nI th, nI ce, nI ro, ch, sl, ph, kd, ky, an, ba, lo) (nI t) x2 x3 := by
  unfold wpY_start
  dsimp only
  refine zy_badF h8 ht (br_t rfl ⟨z_in (by omega), ?_⟩)
  rw [z_cl (show t < 2147483648 by omega)]
  refine br_c (fun c => br_c (fun a => hg c (Or.inl a)) (fun a => br_c (fun b => hg c (Or.inr (Or.inl b))) (fun b => br_c (fun d => hg c (Or.inr (Or.inr d))) (fun d => hk c ?_)))) hw
  rintro (z | z | z)
  · exact a z
  · exact b z
  · exact d z
theorem zs_start {t : Nat} {x2 x3 : Int32} (R : zRel k th ce ro s g ph kd ky lo J SG SP SL GW PW sl) (ht : t < th) (h0 : ph t = 0) (h2 : x2 = 0 ∨ x2 = 1 ∨ x2 = 2) (h3 : x3 ≤ 2147483645) :
    zRel (k + 4) th ce ro s g (upd ph t 1) (upd kd t x2) (upd ky t x3) lo J SG SP SL GW PW sl := by
  obtain ⟨a1, a2, a3, a4, a5, a6, a7⟩ := R
  refine ⟨a1, a2, zI_B a3 (by omega), zTh_upd ht a4 zTr_rf (fun u hu => ⟨pk_un hu, pk_un hu, pk_un hu, rfl, rfl⟩) zAg_rf ?_ ?_, a5, a6, a7⟩
  · rw [pk_us, pk_us, pk_us]
    refine ⟨Or.inr (Or.inl rfl), fun _ => ⟨h2, ?_⟩, fun z => absurd z (by decide), fun z => absurd z (by decide), fun z => ?_⟩
    · have := Int32.le_iff_toInt_le.mp h3
      exact this
    · rcases z with z | z <;> exact absurd z (by decide)
  · exact zOwn_k (t := t) a4.2.1 (zTr_rf (g := g)) rfl (fun u hu => ⟨pk_un hu, rfl⟩) (Or.inl (by rw [h0]; decide))
end
theorem i_vc_start {k : Nat} {u : SX} {v : SY} (I : i_Rel k u v) (hk : k + 4 ≤ 2050) (v1 : Int32) (v2 : Int32) (v3 : Int32) : wpX_start (fun r u' => wpY_start (fun r' v' => r' = r ∧ i_Rel (k + 4) u' v') v v1 v2 v3) u v1 v2 v3 := by
  refine I (fun u v => wpX_start (fun r u' => wpY_start (fun r' v' => r' = r ∧ i_Rel (k + 4) u' v') v v1 v2 v3) u v1 v2 v3) ?_
  intro q0 q1 q2 q3 q4 q5 ch th ce ro s g lv st ph kd ky an ba lo sl J SG SP SL GW PW R
  have h8 := R.2.1
  by_cases hb : v1 < 0 ∨ ¬ v1 < nI th
  · unfold wpX_start wpY_start
    dsimp only
    exact zw_bad h8 (fun c => br_f (by decide) (zy_badT c (br_f (by decide) ⟨rfl, zR_in (zR_up R)⟩))) (fun t ht e => absurd hb (zbad_iff h8 ht e))
  · obtain ⟨t, ht, rfl⟩ : ∃ t, t < th ∧ v1 = nI t := by
      obtain ⟨t, h1, h2⟩ := nI_of (x := v1) (fun c => hb (Or.inl c))
      refine ⟨t, ?_, h2⟩
      rw [h2] at hb
      by_cases c : t < th
      · exact c
      · exact absurd (Or.inr (nI_nlt (by omega) h1)) hb
    refine zx_start h8 ht (fun c => zy_start h8 ht (fun _ => ⟨rfl, zR_in (zR_up R)⟩) (fun z => absurd z c) (fun z => absurd z c)) (fun c c2 => zy_start h8 ht (fun z => absurd c z) (fun _ _ => ⟨rfl, zR_in (zR_up R)⟩) (fun _ z => absurd z c2)) (fun c c2 => zw_s39 (by omega) (fun c3 => ?_) (fun c3 => ?_))
    · exact zy_start h8 ht (fun z => absurd c z) (fun _ z => absurd c2 z) (fun _ _ => zy_s39 (by omega) (fun _ => ⟨rfl, zR_in (zs_start R ht c c2 c3)⟩) (fun z => absurd c3 z))
    · exact zy_start h8 ht (fun z => absurd c z) (fun _ z => absurd c2 z) (fun _ _ => zy_s39 (by omega) (fun z => absurd z c3) (fun _ => ⟨rfl, zR_in (zR_up R)⟩))
end
section
section
variable {q0 q1 q2 q3 q4 q5 ch : Int32} {th ce ro : Nat} {s : CS} {lv st ph kd ky an ba lo : Nat → Int32} {J SG SP SL GW PW : Nat → Nat}
variable {k : Nat} {g : GS} {sl : Nat → Int32}
theorem zget {v1 : Int32} (hb : ¬ (v1 < 0 ∨ ¬ v1 < nI th)) (h8 : th ≤ 8) : ∃ t, t < th ∧ v1 = nI t := by
  obtain ⟨t, h1, h2⟩ := nI_of (x := v1) (fun c => hb (Or.inl c))
  refine ⟨t, ?_, h2⟩
  rw [h2] at hb
  by_cases c : t < th
  · exact c
  · exact absurd (Or.inr (nI_nlt (by omega) h1)) hb
theorem zw_badF {post : Int32 → Prop} {t : Nat} (hn : th ≤ 8) (ht : t < th) (hp : post 0) : wpX_bad post (q0, q1, q2, q3, q4, q5, nI th, nI ce, nI ro, ch, nI (zft s), nI (zno s), zky s, fun w_ => nI (zL s w_), fun w_ => nI (zR s w_), fun w_ => lN (zU s w_), fun w_ => nI (zF s w_), lv, st, fun w_ => nI (zN s w_), fun w_ => nI (zO s w_), fun w_ => nI (zC s w_), fun w_ => lN (zW s w_), ph, kd, ky, an, ba, lo, fun w_ => nI (J w_), fun w_ => nI (SG w_), fun w_ => nI (SP w_), fun w_ => nI (SL w_), fun w_ => lN (GW w_), fun w_ => lN (PW w_)) (nI t) :=
  br_f (nI_pos (show t < 2 ^ 31 by omega)) (br_t (nI_lt ht (by omega)) hp)
theorem zw_badT {post : Int32 → Prop} {v : Int32} (hb : v < 0 ∨ ¬ v < nI th) (hp : post 1) : wpX_bad post (q0, q1, q2, q3, q4, q5, nI th, nI ce, nI ro, ch, nI (zft s), nI (zno s), zky s, fun w_ => nI (zL s w_), fun w_ => nI (zR s w_), fun w_ => lN (zU s w_), fun w_ => nI (zF s w_), lv, st, fun w_ => nI (zN s w_), fun w_ => nI (zO s w_), fun w_ => nI (zC s w_), fun w_ => lN (zW s w_), ph, kd, ky, an, ba, lo, fun w_ => nI (J w_), fun w_ => nI (SG w_), fun w_ => nI (SP w_), fun w_ => nI (SL w_), fun w_ => lN (GW w_), fun w_ => lN (PW w_)) v := by
  refine br_c (fun c => hp) (fun c => br_c (fun c2 => ?_) (fun c2 => hp))
  rcases hb with h | h
  · exact absurd h c
  · exact absurd c2 h
theorem zw_clr {post : Int32 → Prop} {t : Nat} (ht : t < 8) (h1 : (ph t = 4 ∨ ph t = 5) → post 1) (h0 : ¬ (ph t = 4 ∨ ph t = 5) → post 0) : wpX_clearing post (q0, q1, q2, q3, q4, q5, nI th, nI ce, nI ro, ch, nI (zft s), nI (zno s), zky s, fun w_ => nI (zL s w_), fun w_ => nI (zR s w_), fun w_ => lN (zU s w_), fun w_ => nI (zF s w_), lv, st, fun w_ => nI (zN s w_), fun w_ => nI (zO s w_), fun w_ => nI (zC s w_), fun w_ => lN (zW s w_), ph, kd, ky, an, ba, lo, fun w_ => nI (J w_), fun w_ => nI (SG w_), fun w_ => nI (SP w_), fun w_ => nI (SL w_), fun w_ => lN (GW w_), fun w_ => lN (PW w_)) (nI t) := by
  unfold wpX_clearing
  dsimp only
  rw [z_cl (show t < 2147483648 by omega)]
  refine ⟨z_in ht, br_c (fun c => h1 (Or.inl c)) (fun c => ⟨z_in ht, br_c (fun c2 => h1 (Or.inr c2)) (fun c2 => h0 ?_)⟩)⟩
  rintro (z | z)
  · exact c z
  · exact c2 z
theorem zw_sgt {post : Int32 → Prop} {t : Nat} (ht : t < 8) (h1 : (ph t = 2 ∨ ph t = 3) → post 1) (h0 : ¬ (ph t = 2 ∨ ph t = 3) → post 0) : wpX_sighted post (q0, q1, q2, q3, q4, q5, nI th, nI ce, nI ro, ch, nI (zft s), nI (zno s), zky s, fun w_ => nI (zL s w_), fun w_ => nI (zR s w_), fun w_ => lN (zU s w_), fun w_ => nI (zF s w_), lv, st, fun w_ => nI (zN s w_), fun w_ => nI (zO s w_), fun w_ => nI (zC s w_), fun w_ => lN (zW s w_), ph, kd, ky, an, ba, lo, fun w_ => nI (J w_), fun w_ => nI (SG w_), fun w_ => nI (SP w_), fun w_ => nI (SL w_), fun w_ => lN (GW w_), fun w_ => lN (PW w_)) (nI t) := by
  unfold wpX_sighted
  dsimp only
  rw [z_cl (show t < 2147483648 by omega)]
  refine ⟨z_in ht, br_c (fun c => h1 (Or.inl c)) (fun c => ⟨z_in ht, br_c (fun c2 => h1 (Or.inr c2)) (fun c2 => h0 ?_)⟩)⟩
  rintro (z | z)
  · exact c z
  · exact c2 z
theorem zs_help {t u : Nat} (R : zRel k th ce ro s g ph kd ky lo J SG SP SL GW PW sl) (ht : t < th) (hu : u < th) (h0 : ph t = 0) (h4 : ph u = 4 ∨ ph u = 5) :
    zRel (k + 4) th ce ro s g (upd ph t 5) kd ky (upd lo t 2) (zu J t (J u)) SG SP SL GW PW sl := by
  obtain ⟨a1, a2, a3, a4, a5, a6, a7⟩ := R
  refine ⟨a1, a2, zI_B a3 (by omega), zTh_upd ht a4 zTr_rf (fun u hu => ⟨pk_un hu, rfl, rfl, pk_un hu, zu_n hu⟩) zAg_rf ?_ ?_, a5, a6, a7⟩
  · rw [pk_us, pk_us, zu_s]
    refine ⟨Or.inr (Or.inr (Or.inr (Or.inr (Or.inr rfl)))), fun z => ?_, fun z => absurd z (by decide), fun z => absurd z (by decide), fun _ => ⟨((a4.1 u (by omega)).2.2.2.2 h4).1, Or.inl rfl⟩⟩
    rcases z with z | z | z <;> exact absurd z (by decide)
  · exact zOwn_k (t := t) a4.2.1 (zTr_rf (g := g)) rfl (fun u hu => ⟨pk_un hu, zu_n hu⟩) (Or.inl (by rw [h0]; decide))
theorem zs_step1 {t : Nat} (R : zRel k th ce ro s g ph kd ky lo J SG SP SL GW PW sl) (ht : t < th) (h4 : ph t = 4 ∨ ph t = 5) (h2 : lo t = 2) :
    zRel (k + 4) th ce ro (zswing s (J t)) g ph kd ky (upd lo t 1) J SG SP SL GW PW sl := by
  obtain ⟨a1, a2, a3, a4, a5, a6, a7⟩ := R
  have h1 := a4.1 t (by omega)
  have hJ := (h1.2.2.2.2 h4).1
  obtain ⟨b1, b2, b3⟩ := zsw_I a3 hJ
  refine ⟨a1, a2, zI_B b1 (by omega), zTh_upd ht a4 b2 (fun u hu => ⟨rfl, rfl, rfl, pk_un hu, rfl⟩) zAg_rf ?_ ?_, zSl_tr a3 b2 a5, zCt_tr a6 rfl rfl, a7⟩
  · rw [pk_us]
    obtain ⟨c1, c2, c3, c4, c5⟩ := zT1_tr b2 h1
    exact ⟨c1, c2, c3, c4, fun z => ⟨hJ, Or.inr ⟨rfl, b3⟩⟩⟩
  · exact zOwn_same (t := t) a4.2.1 b2 rfl (fun u => ⟨rfl, rfl⟩)
theorem zs_step2 {t : Nat} (R : zRel k th ce ro s g ph kd ky lo J SG SP SL GW PW sl) (ht : t < th) (h4 : ph t = 4 ∨ ph t = 5) (h2 : lo t ≠ 2) :
    zRel (k + 4) th ce ro (zunfl s (J t)) g (upd ph t 0) kd ky (upd lo t 0) J SG SP SL GW PW sl := by
  obtain ⟨a1, a2, a3, a4, a5, a6, a7⟩ := R
  have h1 := a4.1 t (by omega)
  obtain ⟨hJ, hl⟩ := h1.2.2.2.2 h4
  have hsw : zSw s (J t) := by
    rcases hl with e | e
    · exact absurd e h2
    · exact e.2
  obtain ⟨b1, b2, b3⟩ := zun_I a3 hJ hsw
  refine ⟨a1, a2, zI_B b1 (by omega), zTh_upd ht a4 b2 (fun u hu => ⟨pk_un hu, rfl, rfl, pk_un hu, rfl⟩) zAg_rf ?_ ?_, zSl_tr a3 b2 a5, zCt_tr a6 rfl rfl, a7⟩
  · rw [pk_us, pk_us]
    refine ⟨Or.inl rfl, fun z => ?_, fun z => absurd z (by decide), fun z => absurd z (by decide), fun z => ?_⟩
    · rcases z with z | z | z <;> exact absurd z (by decide)
    · rcases z with z | z <;> exact absurd z (by decide)
  · exact zOwn_k (t := t) a4.2.1 b2 rfl (fun u hu => ⟨pk_un hu, rfl⟩) (Or.inr b3)
theorem zy_step {post : Int32 → SY → Prop} {t : Nat} (ht : t < 8) (h2 : lo t = 2 ∨ lo t = 1) (p1 : lo t = 2 → post 1 (nI th, nI ce, nI ro, ch, sl, ph, kd, ky, an, ba, upd lo t 1)) (p0 : lo t = 1 → post 0 (nI th, nI ce, nI ro, ch, sl, upd ph t 0, kd, ky, an, ba, upd lo t 0)) : wY_step_33 post (nI t) (nI th) (nI ce) (nI ro) ch sl ph kd ky an ba lo := by
  unfold wY_step_33
  rw [z_cl (show t < 2147483648 by omega)]
  rcases h2 with e | e
  · refine ⟨z_in ht, z_in ht, nm_r (e' := upd lo t 1) (by rw [e]; rfl) ⟨z_in ht, ?_⟩⟩
    rw [pk_us]
    exact br_f (by decide) ⟨z_in ht, p1 e⟩
  · refine ⟨z_in ht, z_in ht, nm_r (e' := upd lo t 0) (by rw [e]; rfl) ⟨z_in ht, ?_⟩⟩
    rw [pk_us]
    exact br_t rfl ⟨z_in ht, nm_e ⟨z_in ht, p0 e⟩⟩
theorem zx_step {post : Int32 → SX → Prop} {t B : Nat} (h8 : th ≤ 8) (ht : t < th) (I : zI B s g) (hB : B ≤ 4000000) (h64 : zno s ≤ 64) (hw : ¬ (ph t = 4 ∨ ph t = 5) → post (-2) (q0, q1, q2, q3, q4, q5, nI th, nI ce, nI ro, ch, nI (zft s), nI (zno s), zky s, fun w_ => nI (zL s w_), fun w_ => nI (zR s w_), fun w_ => lN (zU s w_), fun w_ => nI (zF s w_), lv, st, fun w_ => nI (zN s w_), fun w_ => nI (zO s w_), fun w_ => nI (zC s w_), fun w_ => lN (zW s w_), ph, kd, ky, an, ba, lo, fun w_ => nI (J w_), fun w_ => nI (SG w_), fun w_ => nI (SP w_), fun w_ => nI (SL w_), fun w_ => lN (GW w_), fun w_ => lN (PW w_)))
    (hJ : (ph t = 4 ∨ ph t = 5) → J t < zno s ∧ (lo t = 2 ∨ lo t = 1))
    (p1 : (ph t = 4 ∨ ph t = 5) → lo t = 2 → post 1 (q0, q1, q2, q3, q4, q5, nI th, nI ce, nI ro, ch, nI (zft (zswing s (J t))), nI (zno (zswing s (J t))), zky (zswing s (J t)), fun w_ => nI (zL (zswing s (J t)) w_), fun w_ => nI (zR (zswing s (J t)) w_), fun w_ => lN (zU (zswing s (J t)) w_), fun w_ => nI (zF (zswing s (J t)) w_), lv, st, fun w_ => nI (zN (zswing s (J t)) w_), fun w_ => nI (zO (zswing s (J t)) w_), fun w_ => nI (zC (zswing s (J t)) w_), fun w_ => lN (zW (zswing s (J t)) w_), ph, kd, ky, an, ba, upd lo t 1, fun w_ => nI (J w_), fun w_ => nI (SG w_), fun w_ => nI (SP w_), fun w_ => nI (SL w_), fun w_ => lN (GW w_), fun w_ => lN (PW w_)))
    (p0 : (ph t = 4 ∨ ph t = 5) → lo t = 1 → post 0 (q0, q1, q2, q3, q4, q5, nI th, nI ce, nI ro, ch, nI (zft (zunfl s (J t))), nI (zno (zunfl s (J t))), zky (zunfl s (J t)), fun w_ => nI (zL (zunfl s (J t)) w_), fun w_ => nI (zR (zunfl s (J t)) w_), fun w_ => lN (zU (zunfl s (J t)) w_), fun w_ => nI (zF (zunfl s (J t)) w_), lv, st, fun w_ => nI (zN (zunfl s (J t)) w_), fun w_ => nI (zO (zunfl s (J t)) w_), fun w_ => nI (zC (zunfl s (J t)) w_), fun w_ => lN (zW (zunfl s (J t)) w_), upd ph t 0, kd, ky, an, ba, upd lo t 0, fun w_ => nI (J w_), fun w_ => nI (SG w_), fun w_ => nI (SP w_), fun w_ => nI (SL w_), fun w_ => lN (GW w_), fun w_ => lN (PW w_))) : wpX_step post (q0, q1, q2, q3, q4, q5, nI th, nI ce, nI ro, ch, nI (zft s), nI (zno s), zky s, fun w_ => nI (zL s w_), fun w_ => nI (zR s w_), fun w_ => lN (zU s w_), fun w_ => nI (zF s w_), lv, st, fun w_ => nI (zN s w_), fun w_ => nI (zO s w_), fun w_ => nI (zC s w_), fun w_ => lN (zW s w_), ph, kd, ky, an, ba, lo, fun w_ => nI (J w_), fun w_ => nI (SG w_), fun w_ => nI (SP w_), fun w_ => nI (SL w_), fun w_ => lN (GW w_), fun w_ => lN (PW w_)) (nI t) := by
  unfold wpX_step
  dsimp only
  refine zw_badF h8 ht (br_t rfl (zw_clr (by omega) (fun c => br_f (by decide) ⟨z_in (by omega), z_in (by omega), ?_⟩) (fun c => br_t rfl (hw c))))
  rw [z_cl (show t < 2147483648 by omega)]
  obtain ⟨hj, hl⟩ := hJ c
  obtain ⟨o1, o2, o3, o4, o5, o6⟩ := zI_op I hB hj
  rcases hl with e | e
  · refine nm_r (e' := upd lo t 1) (by rw [e]; rfl) ⟨z_in (by omega), ?_⟩
    rw [pk_us]
    refine br_f (by decide) ⟨z_in (by omega), zw_swing (by omega) o1 o3 o2 o5 o6 ⟨z_in (by omega), ?_⟩⟩
    dsimp only
    rw [pk_us]
    exact p1 c e
  · refine nm_r (e' := upd lo t 0) (by rw [e]; rfl) ⟨z_in (by omega), ?_⟩
    rw [pk_us]
    refine br_t (by decide) ⟨z_in (by omega), zw_unflag (by omega) o1 o4 (zI_u I hB _) ⟨z_in (by omega), nm_e ⟨z_in (by omega), ?_⟩⟩⟩
    dsimp only
    rw [pk_us]
    exact p0 c e
end
theorem i_vc_step {k : Nat} {u : SX} {v : SY} (I : i_Rel k u v) (hk : k + 4 ≤ 2050) (v1 : Int32) : wpX_step (fun r u' => wpY_step (fun r' v' => r' = r ∧ i_Rel (k + 4) u' v') v v1) u v1 := by
  refine I (fun u v => wpX_step (fun r u' => wpY_step (fun r' v' => r' = r ∧ i_Rel (k + 4) u' v') v v1) u v1) ?_
  intro q0 q1 q2 q3 q4 q5 ch th ce ro s g lv st ph kd ky an ba lo sl J SG SP SL GW PW R
  have h8 := R.2.1
  by_cases hb : v1 < 0 ∨ ¬ v1 < nI th
  · unfold wpX_step wpY_step
    dsimp only
    exact zw_badT hb (br_f (by decide) (zy_badT hb (br_f (by decide) ⟨rfl, zR_in (zR_up R)⟩)))
  · obtain ⟨t, ht, rfl⟩ := zget hb h8
    have hT := R.2.2.2.1.1 t (by omega)
    have hC := R.2.2.2.2.2.1
    have hJ : (ph t = 4 ∨ ph t = 5) → J t < zno s ∧ (lo t = 2 ∨ lo t = 1) := by
      intro z
      obtain ⟨a, b⟩ := hT.2.2.2.2 z
      exact ⟨a, b.imp id (fun w => w.1)⟩
    have hy : ∀ (post : Int32 → SY → Prop), (¬ (ph t = 4 ∨ ph t = 5) → post (-2) (nI th, nI ce, nI ro, ch, sl, ph, kd, ky, an, ba, lo)) → ((ph t = 4 ∨ ph t = 5) → wY_step_33 post (nI t) (nI th) (nI ce) (nI ro) ch sl ph kd ky an ba lo) → wpY_step post (nI th, nI ce, nI ro, ch, sl, ph, kd, ky, an, ba, lo) (nI t) := by
      intro post h1 h2
      unfold wpY_step
      dsimp only
      refine zy_badF h8 ht (br_t rfl ⟨z_in (by omega), ?_⟩)
      rw [z_cl (show t < 2147483648 by omega)]
      refine br_c (fun c => h2 (Or.inl c)) (fun c => ⟨z_in (by omega), br_c (fun c2 => h2 (Or.inr c2)) (fun c2 => h1 ?_)⟩)
      rintro (z | z)
      · exact c z
      · exact c2 z
    refine zx_step h8 ht R.2.2.1 (by omega) (by have := hC.2.2.1; omega) (fun c => hy _ (fun _ => ⟨rfl, zR_in (zR_up R)⟩) (fun z => absurd z c)) hJ (fun c e => hy _ (fun z => absurd c z) (fun _ => zy_step (by omega) (Or.inl e) (fun _ => ⟨rfl, zR_in (zs_step1 R ht c e)⟩) (fun z => absurd (e.symm.trans z) (by decide)))) (fun c e => hy _ (fun z => absurd c z) (fun _ => zy_step (by omega) (Or.inr e) (fun z => absurd (e.symm.trans z) (by decide)) (fun _ => ⟨rfl, zR_in (zs_step2 R ht c (by rw [e]; decide))⟩)))
theorem i_vc_help {k : Nat} {u : SX} {v : SY} (I : i_Rel k u v) (hk : k + 4 ≤ 2050) (v1 : Int32) (v2 : Int32) : wpX_help (fun r u' => wpY_help (fun r' v' => r' = r ∧ i_Rel (k + 4) u' v') v v1 v2) u v1 v2 := by
  refine I (fun u v => wpX_help (fun r u' => wpY_help (fun r' v' => r' = r ∧ i_Rel (k + 4) u' v') v v1 v2) u v1 v2) ?_
  intro q0 q1 q2 q3 q4 q5 ch th ce ro s g lv st ph kd ky an ba lo sl J SG SP SL GW PW R
  have h8 := R.2.1
  unfold wpX_help wpY_help
  dsimp only
  by_cases hb : v1 < 0 ∨ ¬ v1 < nI th
  · exact zw_badT hb (br_f (by decide) (zy_badT hb (br_f (by decide) ⟨rfl, zR_in (zR_up R)⟩)))
  · obtain ⟨t, ht, rfl⟩ := zget hb h8
    by_cases hb2 : v2 < 0 ∨ ¬ v2 < nI th
    · exact zw_badF h8 ht (br_t rfl (zw_badT hb2 (br_f (by decide) (zy_badF h8 ht (br_t rfl (zy_badT hb2 (br_f (by decide) ⟨rfl, zR_in (zR_up R)⟩)))))))
    · obtain ⟨w, hw, rfl⟩ := zget hb2 h8
      refine zw_badF h8 ht (br_t rfl (zw_badF h8 hw (br_t rfl ⟨z_in (by omega), ?_⟩)))
      rw [z_cl (show t < 2147483648 by omega), z_cl (show w < 2147483648 by omega)]
      refine br_c (fun c => ?_) (fun c => zy_badF h8 ht (br_t rfl (zy_badF h8 hw (br_t rfl ⟨z_in (by omega), br_f c ⟨rfl, zR_in (zR_up R)⟩⟩))))
      refine zw_clr (by omega) (fun c2 => br_f (by decide) ⟨z_in (by omega), z_in (by omega), nm_r (zu_I J t (J w)) ⟨z_in (by omega), nm_e ⟨z_in (by omega), nm_e ?_⟩⟩⟩) (fun c2 => br_t rfl ?_)
      · refine zy_badF h8 ht (br_t rfl (zy_badF h8 hw (br_t rfl ⟨z_in (by omega), br_t c ⟨z_in (by omega), ?_⟩⟩)))
        have fin : wY_help_55 (fun r' v' => r' = 4 ∧ i_Rel (k + 4) (q0, q1, q2, q3, q4, q5, nI th, nI ce, nI ro, ch, nI (zft s), nI (zno s), zky s, fun w_ => nI (zL s w_), fun w_ => nI (zR s w_), fun w_ => lN (zU s w_), fun w_ => nI (zF s w_), lv, st, fun w_ => nI (zN s w_), fun w_ => nI (zO s w_), fun w_ => nI (zC s w_), fun w_ => lN (zW s w_), upd ph t 5, kd, ky, an, ba, upd lo t 2, fun w_ => nI (zu J t (J w) w_), fun w_ => nI (SG w_), fun w_ => nI (SP w_), fun w_ => nI (SL w_), fun w_ => lN (GW w_), fun w_ => lN (PW w_)) v') (nI t) (nI th) (nI ce) (nI ro) ch sl ph kd ky an ba lo := by
          unfold wY_help_55
          rw [z_cl (show t < 2147483648 by omega)]
          exact ⟨z_in (by omega), nm_e ⟨z_in (by omega), nm_e ⟨rfl, zR_in (zs_help R ht hw c c2)⟩⟩⟩
        exact br_c (fun _ => fin) (fun c3 => ⟨z_in (by omega), br_c (fun _ => fin) (fun c4 => absurd c2 (fun z => z.elim c3 c4))⟩)
      · refine zy_badF h8 ht (br_t rfl (zy_badF h8 hw (br_t rfl ⟨z_in (by omega), br_t c ⟨z_in (by omega), ?_⟩⟩)))
        exact br_f (fun z => c2 (Or.inl z)) ⟨z_in (by omega), br_f (fun z => c2 (Or.inr z)) ⟨rfl, zR_in (zR_up R)⟩⟩
end
section
/-! look and act: the pure part -/
section
variable {q0 q1 q2 q3 q4 q5 ch : Int32} {th ce ro : Nat} {s : CS} {lv st ph kd ky an ba lo : Nat → Int32} {J SG SP SL GW PW : Nat → Nat}
variable {k : Nat} {g g' : GS} {s' : CS} {sl : Nat → Int32} {SG' SP' SL' GW' PW' : Nat → Nat}
theorem zHas_M (h : zSl s g sl) {x : Int32} (hx : x.toInt ≤ 2147483645) : zHas sl x ↔ zt_M (zK s) (gl g) (gn g) x.toInt := by
  rw [h.2.2.1 _ hx]
  unfold zHas
  constructor
  · rintro ⟨i, hi, e⟩; exact ⟨i, hi, by rw [e]⟩
  · rintro ⟨i, hi, e⟩; exact ⟨i, hi, Int32.toInt_inj.mp e⟩
theorem zT1_0 {kd ky lo : Int32} {J q p l gw pw : Nat} : zT1 s g 0 kd ky lo J q p l gw pw := by
  refine ⟨Or.inl rfl, fun z => ?_, fun z => absurd z (by decide), fun z => absurd z (by decide), fun z => ?_⟩
  · rcases z with z | z | z <;> exact absurd z (by decide)
  · rcases z with z | z <;> exact absurd z (by decide)
theorem zs_look {t q p l gw pw : Nat} (R : zRel k th ce ro s g ph kd ky lo J SG SP SL GW PW sl) (ht : t < th) (hp : ph t = 1 ∨ ph t = 2 ∨ ph t = 3)
    (I' : zI (200 * k + 99) s' g) (Tr : zTr s g s' g) (Sm : zSame s s') (F : zFd s' g (ky t).toInt q p l gw pw) :
    (zK s' l = (ky t).toInt ↔ zHas sl (ky t)) ∧
    (zK s' l = (ky t).toInt → zRel (k + 4) th ce ro s' g (upd ph t 3) kd ky lo J (zu SG t q) (zu SP t p) (zu SL t l) (zu GW t gw) (zu PW t pw) sl) ∧
    (zK s' l ≠ (ky t).toInt → zRel (k + 4) th ce ro s' g (upd ph t 2) kd ky lo J (zu SG t q) (zu SP t p) (zu SL t l) (zu GW t gw) (zu PW t pw) sl) := by
  obtain ⟨a1, a2, a3, a4, a5, a6, a7⟩ := R
  obtain ⟨f1, f2, f3, f4, f5, f6⟩ := F
  have h1 := a4.1 t (by omega)
  obtain ⟨hkd, hky⟩ := h1.2.1 hp
  have hS := zSl_tr a3 Tr a5
  have hag := zAg_u (t := t) (SG := SG) (SP := SP) (SL := SL) (GW := GW) (PW := PW) (q := q) (p := p) (l := l) f3 f4
  have hn4 : ph t ≠ 4 := by rcases hp with e | e | e <;> rw [e] <;> decide
  refine ⟨by rw [zHas_M hS hky]; exact f5.symm, fun e => ?_, fun e => ?_⟩
  · refine ⟨a1, a2, zI_B I' (by omega), zTh_upd ht a4 Tr (fun u hu => ⟨pk_un hu, rfl, rfl, rfl, rfl⟩) hag ?_ ?_, hS, zCt_tr a6 Sm.2.1 Sm.2.2, hag.2 a7⟩
    · rw [pk_us, zu_s, zu_s, zu_s, zu_s, zu_s]
      refine ⟨Or.inr (Or.inr (Or.inr (Or.inl rfl))), fun _ => ⟨hkd, hky⟩, fun z => absurd z (by decide), fun _ => ⟨f1, (f6 hS.2.2.2.1 hS.2.2.2.2.2 hky e).1, e⟩, fun z => ?_⟩
      rcases z with z | z <;> exact absurd z (by decide)
    · exact zOwn_k (t := t) a4.2.1 Tr Sm.2.2 (fun u hu => ⟨pk_un hu, rfl⟩) (Or.inl hn4)
  · refine ⟨a1, a2, zI_B I' (by omega), zTh_upd ht a4 Tr (fun u hu => ⟨pk_un hu, rfl, rfl, rfl, rfl⟩) hag ?_ ?_, hS, zCt_tr a6 Sm.2.1 Sm.2.2, hag.2 a7⟩
    · rw [pk_us, zu_s, zu_s, zu_s, zu_s, zu_s]
      refine ⟨Or.inr (Or.inr (Or.inl rfl)), fun _ => ⟨hkd, hky⟩, fun _ => ⟨f1, e⟩, fun z => absurd z (by decide), fun z => ?_⟩
      rcases z with z | z <;> exact absurd z (by decide)
    · exact zOwn_k (t := t) a4.2.1 Tr Sm.2.2 (fun u hu => ⟨pk_un hu, rfl⟩) (Or.inl hn4)
theorem zs_act0 {t : Nat} (R : zRel k th ce ro s g ph kd ky lo J SG SP SL GW PW sl) (ht : t < th) (hp : ph t = 2 ∨ ph t = 3)
    (I' : zI (200 * k + 110) s' g) (Tr : zTr s g s' g) (hno : zno s' = zno s) (hft : zft s' = zft s) (hag : zAg t SG SP SL GW PW SG' SP' SL' GW' PW') :
    zRel (k + 4) th ce ro s' g (upd ph t 0) kd ky lo J SG' SP' SL' GW' PW' sl := by
  obtain ⟨a1, a2, a3, a4, a5, a6, a7⟩ := R
  have hn4 : ph t ≠ 4 := by rcases hp with e | e <;> rw [e] <;> decide
  refine ⟨a1, a2, zI_B I' (by omega), zTh_upd ht a4 Tr (fun u hu => ⟨pk_un hu, rfl, rfl, rfl, rfl⟩) hag ?_ ?_, zSl_tr a3 Tr a5, zCt_tr a6 hft hno, hag.2 a7⟩
  · rw [pk_us]; exact zT1_0
  · exact zOwn_k (t := t) a4.2.1 Tr hno (fun u hu => ⟨pk_un hu, rfl⟩) (Or.inl hn4)
theorem zTh_new {t : Nat} (ht : t < th) (h8 : th ≤ 8) (h : zTh s g th ph kd ky lo J SG SP SL GW PW) (hp : ph t = 2 ∨ ph t = 3) (Tr : zTr s g s' g') (hno : zno s' = zno s + 1) (hag : zAg t SG SP SL GW PW SG' SP' SL' GW' PW') :
    zTh s' g' th (upd ph t 4) kd ky (upd lo t 2) (zu J t (zno s)) SG' SP' SL' GW' PW' := by
  have hn4 : ph t ≠ 4 := by rcases hp with e | e <;> rw [e] <;> decide
  refine zTh_upd ht h Tr (fun u hu => ⟨pk_un hu, rfl, rfl, pk_un hu, zu_n hu⟩) hag ?_ ?_
  · rw [pk_us, pk_us, zu_s]
    refine ⟨Or.inr (Or.inr (Or.inr (Or.inr (Or.inl rfl)))), fun z => ?_, fun z => absurd z (by decide), fun z => absurd z (by decide), fun _ => ⟨by omega, Or.inl rfl⟩⟩
    rcases z with z | z | z <;> exact absurd z (by decide)
  · exact zOwn_n (t := t) (by omega) h.2.1 Tr hno (fun u hu => ⟨pk_un hu, zu_n hu⟩) hn4 pk_us zu_s
theorem zK0_tr {B : Nat} (I : zI B s g) (Tr : zTr s g s' g') : zK s' 0 = zK s 0 := by
  have h0 := zI_g I 0 (zt_0 (zI_T I))
  have := (Tr.1 0 h0.1 h0.2).2.1
  unfold zK; rw [this]
theorem zs_ins {t i : Nat} (R : zRel k th ce ro s g ph kd ky lo J SG SP SL GW PW sl) (ht : t < th) (hp : ph t = 2) (hnm : ¬ zt_M (zK s) (gl g) (gn g) (ky t).toInt) (hr : ro ≠ 0)
    (I' : zI (200 * k + 110) s' g') (Tr : zTr s g s' g') (hno : zno s' = zno s + 1) (hft : zft s' = zft s - 3)
    (hM : ∀ y, zt_M (zK s') (gl g') (gn g') y ↔ zt_M (zK s) (gl g) (gn g) y ∨ y = (ky t).toInt) (hl : (gn g').length = (gn g).length + 2) (hag : zAg t SG SP SL GW PW SG' SP' SL' GW' PW')
    (hi : i < 32) (hsi : sl i = 2147483647) :
    zRel (k + 4) th ce (ro - 1) s' g' (upd ph t 4) kd ky (upd lo t 2) (zu J t (zno s)) SG' SP' SL' GW' PW' (upd sl i (ky t)) := by
  obtain ⟨a1, a2, a3, a4, a5, a6, a7⟩ := R
  have hky := ((a4.1 t (by omega)).2.1 (Or.inr (Or.inl hp))).2
  have hNo : (2147483647 : Int32).toInt = 2147483647 := by decide
  have hkn : ky t ≠ 2147483647 := fun e => by rw [e, hNo] at hky; omega
  obtain ⟨b1, b2, b3, b4, b5, b6⟩ := a5
  have hnh : ∀ j, j < 32 → sl j ≠ ky t := fun j hj e => hnm ((b3 _ hky).mpr ⟨j, hj, by rw [e]⟩)
  have hcn : zcn (zfull (upd sl i (ky t))) 32 = zcn (zfull sl) 32 + 1 := by
    refine zcn_1 (k := i) ?_ ?_ 32 hi (fun j hj hne => ?_)
    · unfold zfull; rw [pk_us]; exact decide_eq_true hkn
    · unfold zfull; rw [hsi]; exact decide_eq_false (fun z => z rfl)
    · unfold zfull; rw [pk_un hne]
  refine ⟨a1, a2, zI_B I' (by omega), zTh_new ht a2 a4 (Or.inl hp) Tr hno hag, ⟨?_, ?_, ?_, ?_, ?_, ?_⟩, ?_, hag.2 a7⟩
  · intro j hj
    by_cases e : j = i
    · rw [e, pk_us]; exact Or.inr hky
    · rw [pk_un e]; exact b1 j hj
  · intro j j' hj hj' e hne
    by_cases e1 : j = i <;> by_cases e2 : j' = i
    · rw [e1, e2]
    · rw [e1, pk_us, pk_un e2] at e; exact absurd e.symm (hnh j' hj')
    · rw [e2, pk_us, pk_un e1] at e; exact absurd e (hnh j hj)
    · rw [pk_un e1, pk_un e2] at e; rw [pk_un e1] at hne; exact b2 j j' hj hj' e hne
  · intro x hx
    rw [hM x, b3 x hx]
    constructor
    · rintro (⟨j, hj, e⟩ | e)
      · have : j ≠ i := by
          intro z; rw [z, hsi, hNo] at e; omega
        exact ⟨j, hj, by rw [pk_un this]; exact e⟩
      · exact ⟨i, hi, by rw [pk_us]; exact e.symm⟩
    · rintro ⟨j, hj, e⟩
      by_cases e1 : j = i
      · rw [e1, pk_us] at e; exact Or.inr e.symm
      · rw [pk_un e1] at e; exact Or.inl ⟨j, hj, e⟩
  · exact (hM _).mpr (Or.inl b4)
  · exact (hM _).mpr (Or.inl b5)
  · rw [zK0_tr a3 Tr]; exact b6
  · obtain ⟨c1, c2, c3, c4, c5⟩ := a6
    unfold zCt
    rw [hcn, hl, c1, hft, hno]
    refine ⟨by omega, by omega, by omega, by omega, c5⟩
theorem zs_del {t i : Nat} (R : zRel k th ce ro s g ph kd ky lo J SG SP SL GW PW sl) (ht : t < th) (hp : ph t = 3)
    (I' : zI (200 * k + 110) s' g') (Tr : zTr s g s' g') (hno : zno s' = zno s + 1) (hft : zft s' = zft s)
    (hM : ∀ y, zt_M (zK s') (gl g') (gn g') y ↔ zt_M (zK s) (gl g) (gn g) y ∧ y ≠ (ky t).toInt) (hl : (gn g').length + 2 = (gn g).length) (hag : zAg t SG SP SL GW PW SG' SP' SL' GW' PW')
    (hi : i < 32) (hsi : sl i = ky t) :
    zRel (k + 4) th ce ro s' g' (upd ph t 4) kd ky (upd lo t 2) (zu J t (zno s)) SG' SP' SL' GW' PW' (upd sl i 2147483647) := by
  obtain ⟨a1, a2, a3, a4, a5, a6, a7⟩ := R
  have hky := ((a4.1 t (by omega)).2.1 (Or.inr (Or.inr hp))).2
  have hNo : (2147483647 : Int32).toInt = 2147483647 := by decide
  have hkn : ky t ≠ 2147483647 := fun e => by rw [e, hNo] at hky; omega
  obtain ⟨b1, b2, b3, b4, b5, b6⟩ := a5
  have hcn : zcn (zfull sl) 32 = zcn (zfull (upd sl i 2147483647)) 32 + 1 := by
    refine zcn_1 (k := i) ?_ ?_ 32 hi (fun j hj hne => ?_)
    · unfold zfull; rw [hsi]; exact decide_eq_true hkn
    · unfold zfull; rw [pk_us]; exact decide_eq_false (fun z => z rfl)
    · unfold zfull; rw [pk_un hne]
  refine ⟨a1, a2, zI_B I' (by omega), zTh_new ht a2 a4 (Or.inr hp) Tr hno hag, ⟨?_, ?_, ?_, ?_, ?_, ?_⟩, ?_, hag.2 a7⟩
  · intro j hj
    by_cases e : j = i
    · rw [e, pk_us]; exact Or.inl rfl
    · rw [pk_un e]; exact b1 j hj
  · intro j j' hj hj' e hne
    by_cases e1 : j = i
    · rw [e1, pk_us] at hne; exact absurd rfl hne
    · by_cases e2 : j' = i
      · rw [pk_un e1, e2, pk_us] at e; rw [pk_un e1] at hne; exact absurd e hne
      · rw [pk_un e1, pk_un e2] at e; rw [pk_un e1] at hne; exact b2 j j' hj hj' e hne
  · intro x hx
    rw [hM x, b3 x hx]
    constructor
    · rintro ⟨⟨j, hj, e⟩, hne⟩
      have : j ≠ i := by
        intro z; rw [z, hsi] at e; exact hne e.symm
      exact ⟨j, hj, by rw [pk_un this]; exact e⟩
    · rintro ⟨j, hj, e⟩
      by_cases e1 : j = i
      · rw [e1, pk_us, hNo] at e; omega
      · rw [pk_un e1] at e
        refine ⟨⟨j, hj, e⟩, fun z => e1 ?_⟩
        have e3 : sl j = sl i := by rw [hsi]; exact Int32.toInt_inj.mp (e.trans z)
        exact b2 j i hj hi e3 (by rw [e3, hsi]; exact hkn)
  · exact (hM _).mpr ⟨b4, by omega⟩
  · exact (hM _).mpr ⟨b5, by omega⟩
  · rw [zK0_tr a3 Tr]; exact b6
  · obtain ⟨c1, c2, c3, c4, c5⟩ := a6
    unfold zCt
    rw [hft, hno]
    refine ⟨by omega, by omega, by omega, by omega, c5⟩
end
end
section
/-! look and act: the walks joined -/
section
variable {q0 q1 q2 q3 q4 q5 ch : Int32} {th ce ro : Nat} {s : CS} {lv st ph kd ky an ba lo : Nat → Int32} {J SG SP SL GW PW : Nat → Nat}
variable {k B : Nat} {g : GS} {sl : Nat → Int32}
theorem zx_look31 {post : Int32 → SX → Prop} {t : Nat} (ht : t < 8) (I : zI B s g) (hB : B + 99 ≤ 4000000)
    (hp : ∀ (s' : CS) (q p l gw pw : Nat), zI (B + 99) s' g → zTr s g s' g → zSame s s' → zFd s' g (ky t).toInt q p l gw pw →
      (zK s' l = (ky t).toInt → post 1 (q0, q1, q2, q3, q4, q5, nI th, nI ce, nI ro, ch, nI (zft s'), nI (zno s'), zky s', fun w_ => nI (zL s' w_), fun w_ => nI (zR s' w_), fun w_ => lN (zU s' w_), fun w_ => nI (zF s' w_), lv, st, fun w_ => nI (zN s' w_), fun w_ => nI (zO s' w_), fun w_ => nI (zC s' w_), fun w_ => lN (zW s' w_), upd ph t 3, kd, ky, an, upd ba t ch, lo, fun w_ => nI (J w_), fun w_ => nI (zu SG t q w_), fun w_ => nI (zu SP t p w_), fun w_ => nI (zu SL t l w_), fun w_ => lN (zu GW t gw w_), fun w_ => lN (zu PW t pw w_))) ∧
      (zK s' l ≠ (ky t).toInt → post 0 (q0, q1, q2, q3, q4, q5, nI th, nI ce, nI ro, ch, nI (zft s'), nI (zno s'), zky s', fun w_ => nI (zL s' w_), fun w_ => nI (zR s' w_), fun w_ => lN (zU s' w_), fun w_ => nI (zF s' w_), lv, st, fun w_ => nI (zN s' w_), fun w_ => nI (zO s' w_), fun w_ => nI (zC s' w_), fun w_ => lN (zW s' w_), upd ph t 2, kd, ky, an, upd ba t ch, lo, fun w_ => nI (J w_), fun w_ => nI (zu SG t q w_), fun w_ => nI (zu SP t p w_), fun w_ => nI (zu SL t l w_), fun w_ => lN (zu GW t gw w_), fun w_ => lN (zu PW t pw w_)))) :
    wX_look_31 post (nI t) q0 q1 q2 q3 q4 q5 (nI th) (nI ce) (nI ro) ch (nI (zft s)) (nI (zno s)) (zky s) (fun w_ => nI (zL s w_)) (fun w_ => nI (zR s w_)) (fun w_ => lN (zU s w_)) (fun w_ => nI (zF s w_)) lv st (fun w_ => nI (zN s w_)) (fun w_ => nI (zO s w_)) (fun w_ => nI (zC s w_)) (fun w_ => lN (zW s w_)) ph kd ky an ba lo (fun w_ => nI (J w_)) (fun w_ => nI (SG w_)) (fun w_ => nI (SP w_)) (fun w_ => nI (SL w_)) (fun w_ => lN (GW w_)) (fun w_ => lN (PW w_)) := by
  unfold wX_look_31
  rw [z_cl (show t < 2147483648 by omega)]
  refine ⟨z_in ht, nm_e (zw_searchT ht I hB (fun s' q p l gw pw h1 h2 h3 h4 => ?_))⟩
  obtain ⟨k1, k0⟩ := hp s' q p l gw pw h1 h2 h3 h4
  have hl : l < 99 := h4.1.2.1
  dsimp only
  rw [zu_s, z_cl (show l < 2147483648 by omega), zK_eq]
  exact ⟨z_in ht, z_in hl, z_in ht, br_c (fun c => ⟨z_in ht, nm_e (k1 c)⟩) (fun c => ⟨z_in ht, nm_e (k0 c)⟩)⟩
theorem zx_actW {post : Int32 → SX → Prop} {t : Nat} (h8 : th ≤ 8) (ht : t < th) (h : ¬ (ph t = 2 ∨ ph t = 3)) (hp : post (-2) (q0, q1, q2, q3, q4, q5, nI th, nI ce, nI ro, ch, nI (zft s), nI (zno s), zky s, fun w_ => nI (zL s w_), fun w_ => nI (zR s w_), fun w_ => lN (zU s w_), fun w_ => nI (zF s w_), lv, st, fun w_ => nI (zN s w_), fun w_ => nI (zO s w_), fun w_ => nI (zC s w_), fun w_ => lN (zW s w_), ph, kd, ky, an, ba, lo, fun w_ => nI (J w_), fun w_ => nI (SG w_), fun w_ => nI (SP w_), fun w_ => nI (SL w_), fun w_ => lN (GW w_), fun w_ => lN (PW w_))) : wpX_act post (q0, q1, q2, q3, q4, q5, nI th, nI ce, nI ro, ch, nI (zft s), nI (zno s), zky s, fun w_ => nI (zL s w_), fun w_ => nI (zR s w_), fun w_ => lN (zU s w_), fun w_ => nI (zF s w_), lv, st, fun w_ => nI (zN s w_), fun w_ => nI (zO s w_), fun w_ => nI (zC s w_), fun w_ => lN (zW s w_), ph, kd, ky, an, ba, lo, fun w_ => nI (J w_), fun w_ => nI (SG w_), fun w_ => nI (SP w_), fun w_ => nI (SL w_), fun w_ => lN (GW w_), fun w_ => lN (PW w_)) (nI t) := by
  unfold wpX_act
  dsimp only
  exact zw_badF h8 ht (br_t rfl (zw_sgt (by omega) (fun c => absurd c h) (fun _ => br_t rfl hp)))
theorem zx_actF {post : Int32 → SX → Prop} {t : Nat} (h8 : th ≤ 8) (ht : t < th) (h0 : kd t = 0) (h : ph t = 2 ∨ ph t = 3) (p1 : ph t = 3 → post 1 (q0, q1, q2, q3, q4, q5, nI th, nI ce, nI ro, ch, nI (zft s), nI (zno s), zky s, fun w_ => nI (zL s w_), fun w_ => nI (zR s w_), fun w_ => lN (zU s w_), fun w_ => nI (zF s w_), lv, st, fun w_ => nI (zN s w_), fun w_ => nI (zO s w_), fun w_ => nI (zC s w_), fun w_ => lN (zW s w_), upd ph t 0, kd, ky, upd an t 1, ba, lo, fun w_ => nI (J w_), fun w_ => nI (SG w_), fun w_ => nI (SP w_), fun w_ => nI (SL w_), fun w_ => lN (GW w_), fun w_ => lN (PW w_))) (p0 : ph t = 2 → post 0 (q0, q1, q2, q3, q4, q5, nI th, nI ce, nI ro, ch, nI (zft s), nI (zno s), zky s, fun w_ => nI (zL s w_), fun w_ => nI (zR s w_), fun w_ => lN (zU s w_), fun w_ => nI (zF s w_), lv, st, fun w_ => nI (zN s w_), fun w_ => nI (zO s w_), fun w_ => nI (zC s w_), fun w_ => lN (zW s w_), upd ph t 0, kd, ky, upd an t 0, ba, lo, fun w_ => nI (J w_), fun w_ => nI (SG w_), fun w_ => nI (SP w_), fun w_ => nI (SL w_), fun w_ => lN (GW w_), fun w_ => lN (PW w_))) : wpX_act post (q0, q1, q2, q3, q4, q5, nI th, nI ce, nI ro, ch, nI (zft s), nI (zno s), zky s, fun w_ => nI (zL s w_), fun w_ => nI (zR s w_), fun w_ => lN (zU s w_), fun w_ => nI (zF s w_), lv, st, fun w_ => nI (zN s w_), fun w_ => nI (zO s w_), fun w_ => nI (zC s w_), fun w_ => lN (zW s w_), ph, kd, ky, an, ba, lo, fun w_ => nI (J w_), fun w_ => nI (SG w_), fun w_ => nI (SP w_), fun w_ => nI (SL w_), fun w_ => lN (GW w_), fun w_ => lN (PW w_)) (nI t) := by
  unfold wpX_act wpX_decide wX_decide_15
  dsimp only
  rw [z_cl (show t < 2147483648 by omega)]
  have h88 : t < 8 := by omega
  refine zw_badF h8 ht (br_t rfl (zw_sgt (by omega) (fun _ => br_f (by decide) ⟨z_in h88, br_c (fun c => ⟨z_in h88, br_t h0 (br_f (by decide) ⟨z_in h88, nm_e (br_t rfl ⟨z_in h88, br_t h0 ⟨z_in h88, nm_e (p1 c)⟩⟩)⟩)⟩) (fun c => ⟨z_in h88, br_t h0 (br_t rfl ⟨z_in h88, nm_e (br_f (by decide) ⟨z_in h88, nm_e (p0 ?_)⟩)⟩)⟩)⟩) (fun z => absurd h z)))
  rcases h with e | e
  · exact e
  · exact absurd e c
theorem zx_actN {post : Int32 → SX → Prop} {t : Nat} (h8 : th ≤ 8) (ht : t < th) (h : (kd t = 1 ∧ ph t = 3) ∨ (kd t = 2 ∧ ph t = 2)) (p0 : post 0 (q0, q1, q2, q3, q4, q5, nI th, nI ce, nI ro, ch, nI (zft s), nI (zno s), zky s, fun w_ => nI (zL s w_), fun w_ => nI (zR s w_), fun w_ => lN (zU s w_), fun w_ => nI (zF s w_), lv, st, fun w_ => nI (zN s w_), fun w_ => nI (zO s w_), fun w_ => nI (zC s w_), fun w_ => lN (zW s w_), upd ph t 0, kd, ky, upd an t 0, ba, lo, fun w_ => nI (J w_), fun w_ => nI (SG w_), fun w_ => nI (SP w_), fun w_ => nI (SL w_), fun w_ => lN (GW w_), fun w_ => lN (PW w_))) : wpX_act post (q0, q1, q2, q3, q4, q5, nI th, nI ce, nI ro, ch, nI (zft s), nI (zno s), zky s, fun w_ => nI (zL s w_), fun w_ => nI (zR s w_), fun w_ => lN (zU s w_), fun w_ => nI (zF s w_), lv, st, fun w_ => nI (zN s w_), fun w_ => nI (zO s w_), fun w_ => nI (zC s w_), fun w_ => lN (zW s w_), ph, kd, ky, an, ba, lo, fun w_ => nI (J w_), fun w_ => nI (SG w_), fun w_ => nI (SP w_), fun w_ => nI (SL w_), fun w_ => lN (GW w_), fun w_ => lN (PW w_)) (nI t) := by
  unfold wpX_act wpX_decide wX_decide_15 wX_decide_51
  dsimp only
  rw [z_cl (show t < 2147483648 by omega)]
  have h88 : t < 8 := by omega
  have hs : ph t = 2 ∨ ph t = 3 := by rcases h with h | h <;> simp [h.2]
  refine zw_badF h8 ht (br_t rfl (zw_sgt (by omega) (fun _ => br_f (by decide) ⟨z_in h88, ?_⟩) (fun z => absurd hs z)))
  rcases h with ⟨e1, e2⟩ | ⟨e1, e2⟩
  · exact br_t e2 ⟨z_in h88, br_f (by rw [e1]; decide) ⟨z_in h88, br_f (by rw [e1]; decide) (br_f (by decide) ⟨z_in h88, nm_e (br_f (by decide) ⟨z_in h88, nm_e p0⟩)⟩)⟩⟩
  · exact br_f (by rw [e2]; decide) ⟨z_in h88, br_f (by rw [e1]; decide) ⟨z_in h88, br_t e1 (br_f (by decide) ⟨z_in h88, nm_e (br_f (by decide) ⟨z_in h88, nm_e p0⟩)⟩)⟩⟩
theorem zx_actI {post : Int32 → SX → Prop} {t : Nat} (h8 : th ≤ 8) (ht : t < th) (I : zI B s g) (hB : B + 110 ≤ 4000000) (hkd : kd t = 1) (hph : ph t = 2) (hx : (ky t).toInt ≤ 2147483645)
    (hsp : zSP s g (ky t).toInt (SP t) (SL t) (PW t)) (hne : zK s (SL t) ≠ (ky t).toInt) (h3 : 3 * ro ≤ zft s) (hro : ro ≤ 32) (h64 : zno s ≤ 64)
    (k0 : zt_M (zK s) (gl g) (gn g) (ky t).toInt → ∀ s' SG' SP' SL' GW' PW', zI (B + 110) s' g → zTr s g s' g → zno s' = zno s → zft s' = zft s → zAg t SG SP SL GW PW SG' SP' SL' GW' PW' →
      post 0 (q0, q1, q2, q3, q4, q5, nI th, nI ce, nI ro, ch, nI (zft s'), nI (zno s'), zky s', fun w_ => nI (zL s' w_), fun w_ => nI (zR s' w_), fun w_ => lN (zU s' w_), fun w_ => nI (zF s' w_), lv, st, fun w_ => nI (zN s' w_), fun w_ => nI (zO s' w_), fun w_ => nI (zC s' w_), fun w_ => lN (zW s' w_), upd ph t 0, kd, ky, upd an t 0, upd ba t ch, lo, fun w_ => nI (J w_), fun w_ => nI (SG' w_), fun w_ => nI (SP' w_), fun w_ => nI (SL' w_), fun w_ => lN (GW' w_), fun w_ => lN (PW' w_)))
    (k2 : ¬ zt_M (zK s) (gl g) (gn g) (ky t).toInt → ro = 0 → ∀ s' SG' SP' SL' GW' PW', zI (B + 110) s' g → zTr s g s' g → zno s' = zno s → zft s' = zft s → zAg t SG SP SL GW PW SG' SP' SL' GW' PW' →
      post 2 (q0, q1, q2, q3, q4, q5, nI th, nI ce, nI ro, ch, nI (zft s'), nI (zno s'), zky s', fun w_ => nI (zL s' w_), fun w_ => nI (zR s' w_), fun w_ => lN (zU s' w_), fun w_ => nI (zF s' w_), lv, st, fun w_ => nI (zN s' w_), fun w_ => nI (zO s' w_), fun w_ => nI (zC s' w_), fun w_ => lN (zW s' w_), upd ph t 0, kd, ky, upd an t 2, upd ba t ch, lo, fun w_ => nI (J w_), fun w_ => nI (SG' w_), fun w_ => nI (SP' w_), fun w_ => nI (SL' w_), fun w_ => lN (GW' w_), fun w_ => lN (PW' w_)))
    (k1 : ¬ zt_M (zK s) (gl g) (gn g) (ky t).toInt → ro ≠ 0 → ∀ s' g' SG' SP' SL' GW' PW', zI (B + 110) s' g' → zTr s g s' g' → zno s' = zno s + 1 → zft s' = zft s - 3 →
      (∀ y, zt_M (zK s') (gl g') (gn g') y ↔ zt_M (zK s) (gl g) (gn g) y ∨ y = (ky t).toInt) → (gn g').length = (gn g).length + 2 → zAg t SG SP SL GW PW SG' SP' SL' GW' PW' →
      post 1 (q0, q1, q2, q3, q4, q5, nI th, nI ce, nI (ro - 1), ch + 1, nI (zft s'), nI (zno s'), zky s', fun w_ => nI (zL s' w_), fun w_ => nI (zR s' w_), fun w_ => lN (zU s' w_), fun w_ => nI (zF s' w_), lv, st, fun w_ => nI (zN s' w_), fun w_ => nI (zO s' w_), fun w_ => nI (zC s' w_), fun w_ => lN (zW s' w_), upd ph t 4, kd, ky, upd an t 1, upd ba t ch, upd lo t 2, fun w_ => nI (zu J t (zno s) w_), fun w_ => nI (SG' w_), fun w_ => nI (SP' w_), fun w_ => nI (SL' w_), fun w_ => lN (GW' w_), fun w_ => lN (PW' w_))) :
    wpX_act post (q0, q1, q2, q3, q4, q5, nI th, nI ce, nI ro, ch, nI (zft s), nI (zno s), zky s, fun w_ => nI (zL s w_), fun w_ => nI (zR s w_), fun w_ => lN (zU s w_), fun w_ => nI (zF s w_), lv, st, fun w_ => nI (zN s w_), fun w_ => nI (zO s w_), fun w_ => nI (zC s w_), fun w_ => lN (zW s w_), ph, kd, ky, an, ba, lo, fun w_ => nI (J w_), fun w_ => nI (SG w_), fun w_ => nI (SP w_), fun w_ => nI (SL w_), fun w_ => lN (GW w_), fun w_ => lN (PW w_)) (nI t) := by
  unfold wpX_act wpX_decide wX_decide_15 wX_decide_51
  dsimp only
  rw [z_cl (show t < 2147483648 by omega)]
  have h88 : t < 8 := by omega
  have e0 : ¬ kd t = 0 := by rw [hkd]; decide
  refine zw_badF h8 ht (br_t rfl (zw_sgt (by omega) (fun _ => br_f (by decide) ⟨z_in h88, br_f (by rw [hph]; decide) ⟨z_in h88, br_f e0 ⟨z_in h88, br_f (by rw [hkd]; decide) (br_t rfl ?_)⟩⟩⟩) (fun z => absurd (Or.inl hph) z)))
  refine zw_changeI h88 I hB hkd hx hsp hne h3 hro h64 (fun m s' SG' SP' SL' GW' PW' i1 i2 i3 i4 i5 => ?_) (fun m r s' SG' SP' SL' GW' PW' i1 i2 i3 i4 i5 => ?_) (fun m r s' g' SG' SP' SL' GW' PW' i1 i2 i3 i4 i5 i6 i7 => ?_)
  · exact ⟨z_in h88, nm_e (br_f (by decide) ⟨z_in h88, nm_e (k0 m s' SG' SP' SL' GW' PW' i1 i2 i3 i4 i5)⟩)⟩
  · exact ⟨z_in h88, nm_e (br_f (by decide) ⟨z_in h88, nm_e (k2 m r s' SG' SP' SL' GW' PW' i1 i2 i3 i4 i5)⟩)⟩
  · exact ⟨z_in h88, nm_e (br_t rfl ⟨z_in h88, br_f e0 ⟨z_in h88, nm_e ⟨z_in h88, nm_e (k1 m r s' g' SG' SP' SL' GW' PW' i1 i2 i3 i4 i5 i6 i7)⟩⟩⟩)⟩
theorem zx_actD {post : Int32 → SX → Prop} {t : Nat} (h8 : th ≤ 8) (ht : t < th) (I : zI B s g) (hB : B + 110 ≤ 4000000) (hkd : kd t = 2) (hph : ph t = 3) (hx : (ky t).toInt ≤ 2147483645)
    (hM1 : zt_M (zK s) (gl g) (gn g) 2147483646) (hK0 : zK s 0 = 2147483647)
    (hsp : zSP s g (ky t).toInt (SP t) (SL t) (PW t)) (hsg : zSG s g (ky t).toInt (SG t) (SP t) (GW t)) (heq : zK s (SL t) = (ky t).toInt) (h64 : zno s ≤ 64)
    (k0 : ¬ zt_M (zK s) (gl g) (gn g) (ky t).toInt → ∀ s' SG' SP' SL' GW' PW', zI (B + 110) s' g → zTr s g s' g → zno s' = zno s → zft s' = zft s → zAg t SG SP SL GW PW SG' SP' SL' GW' PW' →
      post 0 (q0, q1, q2, q3, q4, q5, nI th, nI ce, nI ro, ch, nI (zft s'), nI (zno s'), zky s', fun w_ => nI (zL s' w_), fun w_ => nI (zR s' w_), fun w_ => lN (zU s' w_), fun w_ => nI (zF s' w_), lv, st, fun w_ => nI (zN s' w_), fun w_ => nI (zO s' w_), fun w_ => nI (zC s' w_), fun w_ => lN (zW s' w_), upd ph t 0, kd, ky, upd an t 0, upd ba t ch, lo, fun w_ => nI (J w_), fun w_ => nI (SG' w_), fun w_ => nI (SP' w_), fun w_ => nI (SL' w_), fun w_ => lN (GW' w_), fun w_ => lN (PW' w_)))
    (k1 : zt_M (zK s) (gl g) (gn g) (ky t).toInt → ∀ s' g' SG' SP' SL' GW' PW', zI (B + 110) s' g' → zTr s g s' g' → zno s' = zno s + 1 → zft s' = zft s →
      (∀ y, zt_M (zK s') (gl g') (gn g') y ↔ zt_M (zK s) (gl g) (gn g) y ∧ y ≠ (ky t).toInt) → (gn g').length + 2 = (gn g).length → zAg t SG SP SL GW PW SG' SP' SL' GW' PW' →
      post 1 (q0, q1, q2, q3, q4, q5, nI th, nI ce, nI ro, ch + 1, nI (zft s'), nI (zno s'), zky s', fun w_ => nI (zL s' w_), fun w_ => nI (zR s' w_), fun w_ => lN (zU s' w_), fun w_ => nI (zF s' w_), lv, st, fun w_ => nI (zN s' w_), fun w_ => nI (zO s' w_), fun w_ => nI (zC s' w_), fun w_ => lN (zW s' w_), upd ph t 4, kd, ky, upd an t 1, upd ba t ch, upd lo t 2, fun w_ => nI (zu J t (zno s) w_), fun w_ => nI (SG' w_), fun w_ => nI (SP' w_), fun w_ => nI (SL' w_), fun w_ => lN (GW' w_), fun w_ => lN (PW' w_))) :
    wpX_act post (q0, q1, q2, q3, q4, q5, nI th, nI ce, nI ro, ch, nI (zft s), nI (zno s), zky s, fun w_ => nI (zL s w_), fun w_ => nI (zR s w_), fun w_ => lN (zU s w_), fun w_ => nI (zF s w_), lv, st, fun w_ => nI (zN s w_), fun w_ => nI (zO s w_), fun w_ => nI (zC s w_), fun w_ => lN (zW s w_), ph, kd, ky, an, ba, lo, fun w_ => nI (J w_), fun w_ => nI (SG w_), fun w_ => nI (SP w_), fun w_ => nI (SL w_), fun w_ => lN (GW w_), fun w_ => lN (PW w_)) (nI t) := by
  unfold wpX_act wpX_decide wX_decide_15 wX_decide_51
  dsimp only
  rw [z_cl (show t < 2147483648 by omega)]
  have h88 : t < 8 := by omega
  have e0 : ¬ kd t = 0 := by rw [hkd]; decide
  refine zw_badF h8 ht (br_t rfl (zw_sgt (by omega) (fun _ => br_f (by decide) ⟨z_in h88, br_t hph ⟨z_in h88, br_f e0 ⟨z_in h88, br_t hkd (br_t rfl ?_)⟩⟩⟩) (fun z => absurd (Or.inr hph) z)))
  refine zw_changeD h88 I hB hkd hx hM1 hK0 hsp hsg heq h64 (fun m s' SG' SP' SL' GW' PW' i1 i2 i3 i4 i5 => ?_) (fun m s' g' SG' SP' SL' GW' PW' i1 i2 i3 i4 i5 i6 i7 => ?_)
  · exact ⟨z_in h88, nm_e (br_f (by decide) ⟨z_in h88, nm_e (k0 m s' SG' SP' SL' GW' PW' i1 i2 i3 i4 i5)⟩)⟩
  · exact ⟨z_in h88, nm_e (br_t rfl ⟨z_in h88, br_f e0 ⟨z_in h88, nm_e ⟨z_in h88, nm_e (k1 m s' g' SG' SP' SL' GW' PW' i1 i2 i3 i4 i5 i6 i7)⟩⟩⟩)⟩
end
theorem i_vc_look {k : Nat} {u : SX} {v : SY} (I : i_Rel k u v) (hk : k + 4 ≤ 2050) (v1 : Int32) : wpX_look (fun r u' => wpY_look (fun r' v' => r' = r ∧ i_Rel (k + 4) u' v') v v1) u v1 := by
  refine I (fun u v => wpX_look (fun r u' => wpY_look (fun r' v' => r' = r ∧ i_Rel (k + 4) u' v') v v1) u v1) ?_
  intro q0 q1 q2 q3 q4 q5 ch th ce ro s g lv st ph kd ky an ba lo sl J SG SP SL GW PW R
  have h8 := R.2.1
  by_cases hb : v1 < 0 ∨ ¬ v1 < nI th
  · unfold wpX_look wpY_look
    dsimp only
    exact zw_badT hb (br_f (by decide) (zy_badT hb (br_f (by decide) ⟨rfl, zR_in (zR_up R)⟩)))
  · obtain ⟨t, ht, rfl⟩ := zget hb h8
    have hy : ∀ (post : Int32 → SY → Prop), (¬ (ph t = 1 ∨ ph t = 2 ∨ ph t = 3) → post (-2) (nI th, nI ce, nI ro, ch, sl, ph, kd, ky, an, ba, lo)) → ((ph t = 1 ∨ ph t = 2 ∨ ph t = 3) → wY_look_35 post (nI t) (nI th) (nI ce) (nI ro) ch sl ph kd ky an ba lo) → wpY_look post (nI th, nI ce, nI ro, ch, sl, ph, kd, ky, an, ba, lo) (nI t) := by
      intro post h1 h2
      unfold wpY_look
      dsimp only
      refine zy_badF h8 ht (br_t rfl ⟨z_in (by omega), ?_⟩)
      rw [z_cl (show t < 2147483648 by omega)]
      refine nm_e (br_c (fun c => h2 (Or.inl c)) (fun c => br_c (fun c2 => h2 (Or.inr (Or.inl c2))) (fun c2 => br_c (fun c3 => h2 (Or.inr (Or.inr c3))) (fun c3 => h1 ?_))))
      rintro (z | z | z)
      · exact c z
      · exact c2 z
      · exact c3 z
    have main : (ph t = 1 ∨ ph t = 2 ∨ ph t = 3) → wX_look_31 (fun r u' => wpY_look (fun r' v' => r' = r ∧ i_Rel (k + 4) u' v') (nI th, nI ce, nI ro, ch, sl, ph, kd, ky, an, ba, lo) (nI t)) (nI t) q0 q1 q2 q3 q4 q5 (nI th) (nI ce) (nI ro) ch (nI (zft s)) (nI (zno s)) (zky s) (fun w_ => nI (zL s w_)) (fun w_ => nI (zR s w_)) (fun w_ => lN (zU s w_)) (fun w_ => nI (zF s w_)) lv st (fun w_ => nI (zN s w_)) (fun w_ => nI (zO s w_)) (fun w_ => nI (zC s w_)) (fun w_ => lN (zW s w_)) ph kd ky an ba lo (fun w_ => nI (J w_)) (fun w_ => nI (SG w_)) (fun w_ => nI (SP w_)) (fun w_ => nI (SL w_)) (fun w_ => lN (GW w_)) (fun w_ => lN (PW w_)) := by
      intro hp
      refine zx_look31 (by omega) R.2.2.1 (by omega) (fun s' q p l gw pw h1 h2 h3 h4 => ?_)
      obtain ⟨r1, r2, r3⟩ := zs_look R ht hp h1 h2 h3 h4
      refine ⟨fun e => hy _ (fun z => absurd hp z) (fun _ => zy_look (by omega) (fun z => absurd (r1.mp e) z) (fun _ => ⟨rfl, zR_in (r2 e)⟩)), fun e => hy _ (fun z => absurd hp z) (fun _ => zy_look (by omega) (fun _ => ⟨rfl, zR_in (r3 e)⟩) (fun z => absurd (r1.mpr z) e))⟩
    unfold wpX_look
    dsimp only
    refine zw_badF h8 ht (br_t rfl ⟨z_in (by omega), ?_⟩)
    rw [z_cl (show t < 2147483648 by omega)]
    refine br_c (fun c => main (Or.inl c)) (fun c => zw_sgt (by omega) (fun c2 => br_f (by decide) (main (Or.inr c2))) (fun c2 => br_t rfl (hy _ (fun _ => ⟨rfl, zR_in (zR_up R)⟩) (fun z => ?_))))
    exact absurd z (fun z => z.elim c c2)
theorem i_vc_act {k : Nat} {u : SX} {v : SY} (I : i_Rel k u v) (hk : k + 4 ≤ 2050) (v1 : Int32) : wpX_act (fun r u' => wpY_act (fun r' v' => r' = r ∧ i_Rel (k + 4) u' v') v v1) u v1 := by
  refine I (fun u v => wpX_act (fun r u' => wpY_act (fun r' v' => r' = r ∧ i_Rel (k + 4) u' v') v v1) u v1) ?_
  intro q0 q1 q2 q3 q4 q5 ch th ce ro s g lv st ph kd ky an ba lo sl J SG SP SL GW PW R
  have h8 := R.2.1
  by_cases hb : v1 < 0 ∨ ¬ v1 < nI th
  · unfold wpX_act wpY_act
    dsimp only
    exact zw_badT hb (br_f (by decide) (zy_badT hb (br_f (by decide) ⟨rfl, zR_in (zR_up R)⟩)))
  · obtain ⟨t, ht, rfl⟩ := zget hb h8
    have hy : ∀ (post : Int32 → SY → Prop), (¬ (ph t = 2 ∨ ph t = 3) → post (-2) (nI th, nI ce, nI ro, ch, sl, ph, kd, ky, an, ba, lo)) → ((ph t = 2 ∨ ph t = 3) → wY_act_30 post (nI t) (ph t) (nI th) (nI ce) (nI ro) ch sl ph kd ky an ba lo) → wpY_act post (nI th, nI ce, nI ro, ch, sl, ph, kd, ky, an, ba, lo) (nI t) := by
      intro post h1 h2
      unfold wpY_act
      dsimp only
      refine zy_badF h8 ht (br_t rfl ⟨z_in (by omega), ?_⟩)
      rw [z_cl (show t < 2147483648 by omega)]
      refine nm_e (br_c (fun c => h2 (Or.inl c)) (fun c => br_c (fun c2 => h2 (Or.inr c2)) (fun c2 => h1 ?_)))
      exact fun z => z.elim c c2
    have R' := R
    obtain ⟨a1, a2, a3, a4, a5, a6, a7⟩ := R'
    have hT := a4.1 t (by omega)
    have h64 : zno s ≤ 64 := by have := a6.2.2.1; omega
    have hro : ro ≤ 32 := by have := a6.2.2.2; omega
    have e4 : nI ro - 1 = nI (ro - 1) ∨ ro = 0 := by
      by_cases c : ro = 0
      · exact Or.inr c
      · exact Or.inl (pk_sub (b := 1) (by omega))
    by_cases hp : ph t = 2 ∨ ph t = 3
    · obtain ⟨hkd, hky⟩ := hT.2.1 (Or.inr hp)
      have hM := zHas_M a5 hky
      have noop := fun (hag : zAg t SG SP SL GW PW SG SP SL GW PW) => zs_act0 R ht hp (zI_B a3 (by omega)) zTr_rf rfl rfl hag
      rcases hkd with e | e | e
      · exact zx_actF h8 ht e hp (fun c => hy _ (fun z => absurd hp z) (fun _ => zy_aF (by omega) e (fun z => absurd (c.symm.trans z) (by decide)) (fun _ => ⟨rfl, zR_in (noop zAg_rf)⟩) hp)) (fun c => hy _ (fun z => absurd hp z) (fun _ => zy_aF (by omega) e (fun _ => ⟨rfl, zR_in (noop zAg_rf)⟩) (fun z => absurd (c.symm.trans z) (by decide)) hp))
      · by_cases h2 : ph t = 2
        · obtain ⟨s1, s2⟩ := hT.2.2.1 h2
          refine zx_actI h8 ht a3 (by omega) e h2 hky s1 s2 a6.2.1 hro h64 (fun m s' SG' SP' SL' GW' PW' i1 i2 i3 i4 i5 => ?_) (fun m r s' SG' SP' SL' GW' PW' i1 i2 i3 i4 i5 => ?_) (fun m r s' g' SG' SP' SL' GW' PW' i1 i2 i3 i4 i5 i6 i7 => ?_)
          · exact hy _ (fun z => absurd hp z) (fun _ => zy_aI (by omega) e h2 (fun _ => ⟨rfl, zR_in (zs_act0 R ht hp i1 i2 i3 i4 i5)⟩) (fun z => absurd (hM.mpr m) z) (fun z => absurd (hM.mpr m) z) (fun z => absurd (hM.mpr m) z))
          · have r0 : nI ro = 0 := by rw [r]; rfl
            exact hy _ (fun z => absurd hp z) (fun _ => zy_aI (by omega) e h2 (fun z => absurd (hM.mp z) m) (fun _ _ => ⟨rfl, zR_in (zs_act0 R ht hp i1 i2 i3 i4 i5)⟩) (fun _ z => absurd r0 z) (fun _ z => absurd r0 z))
          · have r0 : nI ro ≠ 0 := fun z => r ((nI_eq (b := 0) (by omega) (by omega)).mp z)
            have e5 : nI ro - 1 = nI (ro - 1) := pk_sub (b := 1) (by omega)
            refine hy _ (fun z => absurd hp z) (fun _ => zy_aI (by omega) e h2 (fun z => absurd (hM.mp z) m) (fun _ z => absurd z r0) (fun _ _ z => ?_) (fun _ _ i hi hs => ?_))
            · exfalso
              obtain ⟨j, hj, hf⟩ := zcn_ex (p := zfull sl) 32 (by have := a6.2.2.2; omega)
              have := of_decide_eq_false hf
              exact z ⟨j, hj, Classical.not_not.mp this⟩
            · rw [e5]
              exact ⟨rfl, zR_in (zs_ins R ht h2 m r i1 i2 i3 i4 i5 i6 i7 hi hs)⟩
        · have h3 : ph t = 3 := by rcases hp with z | z; exact absurd z h2; exact z
          exact zx_actN h8 ht (Or.inl ⟨e, h3⟩) (hy _ (fun z => absurd hp z) (fun _ => zy_aN (by omega) (Or.inl ⟨e, h3⟩) ⟨rfl, zR_in (noop zAg_rf)⟩))
      · by_cases h2 : ph t = 2
        · exact zx_actN h8 ht (Or.inr ⟨e, h2⟩) (hy _ (fun z => absurd hp z) (fun _ => zy_aN (by omega) (Or.inr ⟨e, h2⟩) ⟨rfl, zR_in (noop zAg_rf)⟩))
        · have h3 : ph t = 3 := by rcases hp with z | z; exact absurd z h2; exact z
          obtain ⟨s1, s2, s3⟩ := hT.2.2.2.1 h3
          refine zx_actD h8 ht a3 (by omega) e h3 hky a5.2.2.2.1 a5.2.2.2.2.2 s1 s2 s3 h64 (fun m s' SG' SP' SL' GW' PW' i1 i2 i3 i4 i5 => ?_) (fun m s' g' SG' SP' SL' GW' PW' i1 i2 i3 i4 i5 i6 i7 => ?_)
          · exact hy _ (fun z => absurd hp z) (fun _ => zy_aD (by omega) e h3 (fun _ => ⟨rfl, zR_in (zs_act0 R ht hp i1 i2 i3 i4 i5)⟩) (fun i hi hs => absurd (hM.mp ⟨i, hi, hs⟩) m))
          · exact hy _ (fun z => absurd hp z) (fun _ => zy_aD (by omega) e h3 (fun z => absurd (hM.mpr m) z) (fun i hi hs => ⟨rfl, zR_in (zs_del R ht h3 i1 i2 i3 i4 i5 i6 i7 hi hs)⟩))
    · exact zx_actW h8 ht hp (hy _ (fun _ => ⟨rfl, zR_in (zR_up R)⟩) (fun z => absurd z hp))
end
section
/-! atLeast and size -/
/-- the least key from x on, by the slots -/
def zAL (sl : Nat → Int32) (x : Int) (r : Int32) : Prop :=
  (r = 2147483647 ∧ ∀ j, j < 32 → x ≤ (sl j).toInt → sl j = 2147483647) ∨
  (r ≠ 2147483647 ∧ x ≤ r.toInt ∧ (∃ j, j < 32 ∧ sl j = r) ∧ ∀ j, j < 32 → x ≤ (sl j).toInt → r.toInt ≤ (sl j).toInt)
theorem zNo : (2147483647 : Int32).toInt = 2147483647 := by decide
theorem zAL_u {sl : Nat → Int32} {x : Int} {r r' : Int32} (h : zAL sl x r) (h' : zAL sl x r') : r = r' := by
  rcases h with ⟨a1, a2⟩ | ⟨a1, a2, ⟨j, hj, ej⟩, a4⟩ <;> rcases h' with ⟨b1, b2⟩ | ⟨b1, b2, ⟨i, hi, ei⟩, b4⟩
  · rw [a1, b1]
  · exact absurd (ei.symm.trans (a2 i hi (by rw [ei]; exact b2))) b1
  · exact absurd (ej.symm.trans (b2 j hj (by rw [ej]; exact a2))) a1
  · have h1 := a4 i hi (by rw [ei]; exact b2)
    have h2 := b4 j hj (by rw [ej]; exact a2)
    rw [ei] at h1; rw [ej] at h2
    exact Int32.toInt_inj.mp (by omega)
section
variable {q0 q1 q2 q3 q4 q5 ch : Int32} {th ce ro : Nat} {s : CS} {lv st ph kd ky an ba lo : Nat → Int32} {J SG SP SL GW PW : Nat → Nat}
variable {k B : Nat} {g : GS} {sl : Nat → Int32}
theorem zAL_M (h : zSl s g sl) {x r0 : Int} {r : Int32} (hl : zLeast (zt_M (zK s) (gl g) (gn g)) x r0) (hr : (r0 ≤ 2147483645 ∧ r.toInt = r0) ∨ (¬ r0 ≤ 2147483645 ∧ r = 2147483647)) : zAL sl x r := by
  obtain ⟨b1, b2, b3, b4, b5, b6⟩ := h
  obtain ⟨l1, l2, l3⟩ := hl
  rcases hr with ⟨h1, h2⟩ | ⟨h1, h2⟩
  · obtain ⟨j, hj, ej⟩ := (b3 r0 h1).mp l1
    refine Or.inr ⟨fun e => ?_, by omega, ⟨j, hj, Int32.toInt_inj.mp (ej.trans h2.symm)⟩, fun i hi hx => ?_⟩
    · rw [e, zNo] at h2; omega
    · rcases b1 i hi with e | e
      · rw [e, zNo]; omega
      · have := l3 _ ((b3 _ e).mpr ⟨i, hi, rfl⟩) hx
        omega
  · refine Or.inl ⟨h2, fun j hj hx => ?_⟩
    rcases b1 j hj with e | e
    · exact e
    · have := l3 _ ((b3 _ e).mpr ⟨j, hj, rfl⟩) hx
      omega
theorem zw_dc19 {post : Int32 → Prop} {n c : Nat} (I : zI B s g) (hB : B ≤ 4000000) (h64 : zno s ≤ 64) (hn : n ∈ gn g) (hl : zL s n ≠ 4294967295) (hc : c < 99)
    (h0 : zU s n % 4 = 0 → post (nI c)) (h1 : ∀ o, o < zno s → zN s o = n → zPd s o → (zO s o = c → post (nI (zC s o))) ∧ (zO s o ≠ c → post (nI c))) :
    wX_decidedChild_19 post (nI n) (nI c) q0 q1 q2 q3 q4 q5 (nI th) (nI ce) (nI ro) ch (nI (zft s)) (nI (zno s)) (zky s) (fun w_ => nI (zL s w_)) (fun w_ => nI (zR s w_)) (fun w_ => lN (zU s w_)) (fun w_ => nI (zF s w_)) lv st (fun w_ => nI (zN s w_)) (fun w_ => nI (zO s w_)) (fun w_ => nI (zC s w_)) (fun w_ => lN (zW s w_)) ph kd ky an ba lo (fun w_ => nI (J w_)) (fun w_ => nI (SG w_)) (fun w_ => nI (SP w_)) (fun w_ => nI (SL w_)) (fun w_ => lN (GW w_)) (fun w_ => lN (PW w_)) := by
  have hg := zI_g I n hn
  have hu := zI_u I hB n
  unfold wX_decidedChild_19
  rw [z_cl (show n < 2147483648 by omega)]
  refine ⟨z_in hg.1, nm_e (zw_st hu (br_c (fun e => h0 ?_) (fun e => zw_op hu ?_)))⟩
  · exact (nI_eq (b := 0) (by omega) (by omega)).mp e
  · have e' : zU s n % 4 ≠ 0 := fun z => e (by rw [z]; rfl)
    obtain ⟨f1, f2, f3⟩ := zI_fl I hn hl e'
    obtain ⟨o1, o2, o3, o4, o5, o6⟩ := zI_op I hB f1
    obtain ⟨g1, g2⟩ := h1 _ f1 f2 f3
    dsimp only
    rw [z_cl (show zU s n / 4 % 128 < 2147483648 by omega), nI_eq (by omega) (by omega), nI_eq (by omega) (by omega)]
    have i128 : vp_in (nI (zU s n / 4 % 128)) 128 := z_in (by omega)
    exact ⟨i128, br_t f2 ⟨i128, br_c (fun c => ⟨i128, g1 c⟩) (fun c => g2 c)⟩⟩
theorem zw_dcL {post : Int32 → Prop} {n : Nat} (I : zI B s g) (hB : B ≤ 4000000) (h64 : zno s ≤ 64) (hn : n ∈ gn g) (hl : zL s n ≠ 4294967295) (hp : post (nI (gl g n))) : wpX_decidedChild post (q0, q1, q2, q3, q4, q5, nI th, nI ce, nI ro, ch, nI (zft s), nI (zno s), zky s, fun w_ => nI (zL s w_), fun w_ => nI (zR s w_), fun w_ => lN (zU s w_), fun w_ => nI (zF s w_), lv, st, fun w_ => nI (zN s w_), fun w_ => nI (zO s w_), fun w_ => nI (zC s w_), fun w_ => lN (zW s w_), ph, kd, ky, an, ba, lo, fun w_ => nI (J w_), fun w_ => nI (SG w_), fun w_ => nI (SP w_), fun w_ => nI (SL w_), fun w_ => lN (GW w_), fun w_ => lN (PW w_)) (nI n) 1 := by
  have hg := zI_g I n hn
  have hA := zI_A I n hg.1 hg.2 hl
  have T := zI_T I
  have hi : gl g n ≠ 4294967295 := fun z => hl ((zI_N I n hn).1.mpr z)
  have hch := zt_ch T hn hi
  unfold wpX_decidedChild
  dsimp only
  rw [z_cl (show n < 2147483648 by omega)]
  refine br_f (by decide) ⟨z_in hg.1, zw_dc19 I hB h64 hn hl hA.1 (fun e => ?_) (fun o ho e pd => ?_)⟩
  · rw [(zI_cl I hn hl e).2.1]; exact hp
  · obtain ⟨r1, r2, r3, r4⟩ := ((zI_O I) o ho).2.2.2.1 pd
    have r5 := ((zI_O I) o ho).2.2.2.2.1
    rw [e] at r3 r4
    by_cases c : zK s n ≤ zK s (zC s o)
    · obtain ⟨q1, q2, q3⟩ := r3 c
      refine ⟨fun z => ?_, fun _ => by rw [q3]; exact hp⟩
      rw [z, q3] at r5; exact absurd hch.1 r5
    · obtain ⟨q1, q2, q3⟩ := r4 c
      refine ⟨fun z => by rw [← q1]; exact hp, fun z => ?_⟩
      rcases q2 with q2 | q2
      · exact absurd q2.symm z
      · rw [q2, ← q1]; exact hp
theorem zw_dcR {post : Int32 → Prop} {n : Nat} (I : zI B s g) (hB : B ≤ 4000000) (h64 : zno s ≤ 64) (hn : n ∈ gn g) (hl : zL s n ≠ 4294967295) (hp : post (nI (gr g n))) : wpX_decidedChild post (q0, q1, q2, q3, q4, q5, nI th, nI ce, nI ro, ch, nI (zft s), nI (zno s), zky s, fun w_ => nI (zL s w_), fun w_ => nI (zR s w_), fun w_ => lN (zU s w_), fun w_ => nI (zF s w_), lv, st, fun w_ => nI (zN s w_), fun w_ => nI (zO s w_), fun w_ => nI (zC s w_), fun w_ => lN (zW s w_), ph, kd, ky, an, ba, lo, fun w_ => nI (J w_), fun w_ => nI (SG w_), fun w_ => nI (SP w_), fun w_ => nI (SL w_), fun w_ => lN (GW w_), fun w_ => lN (PW w_)) (nI n) 0 := by
  have hg := zI_g I n hn
  have hA := zI_A I n hg.1 hg.2 hl
  have T := zI_T I
  have hi : gl g n ≠ 4294967295 := fun z => hl ((zI_N I n hn).1.mpr z)
  have hch := zt_ch T hn hi
  unfold wpX_decidedChild
  dsimp only
  rw [z_cl (show n < 2147483648 by omega)]
  refine br_t rfl ⟨z_in hg.1, zw_dc19 I hB h64 hn hl hA.2.1 (fun e => ?_) (fun o ho e pd => ?_)⟩
  · rw [(zI_cl I hn hl e).2.2]; exact hp
  · obtain ⟨r1, r2, r3, r4⟩ := ((zI_O I) o ho).2.2.2.1 pd
    have r5 := ((zI_O I) o ho).2.2.2.2.1
    rw [e] at r3 r4
    by_cases c : zK s n ≤ zK s (zC s o)
    · obtain ⟨q1, q2, q3⟩ := r3 c
      refine ⟨fun z => by rw [← q1]; exact hp, fun z => ?_⟩
      rcases q2 with q2 | q2
      · exact absurd q2.symm z
      · rw [q2, ← q1]; exact hp
    · obtain ⟨q1, q2, q3⟩ := r4 c
      refine ⟨fun z => ?_, fun _ => by rw [q3]; exact hp⟩
      rw [z, q3] at r5; exact absurd hch.2.1 r5
theorem zw_108 {post : Int32 → Prop} {n : Nat} {x : Int} (hS : zSl s g sl) (hn : n < 99) (hl : zLeast (zt_M (zK s) (gl g) (gn g)) x (zK s n)) (hp : ∀ r, zAL sl x r → post r) : wX_atLeast_108 post (nI n) q0 q1 q2 q3 q4 q5 (nI th) (nI ce) (nI ro) ch (nI (zft s)) (nI (zno s)) (zky s) (fun w_ => nI (zL s w_)) (fun w_ => nI (zR s w_)) (fun w_ => lN (zU s w_)) (fun w_ => nI (zF s w_)) lv st (fun w_ => nI (zN s w_)) (fun w_ => nI (zO s w_)) (fun w_ => nI (zC s w_)) (fun w_ => lN (zW s w_)) ph kd ky an ba lo (fun w_ => nI (J w_)) (fun w_ => nI (SG w_)) (fun w_ => nI (SP w_)) (fun w_ => nI (SL w_)) (fun w_ => lN (GW w_)) (fun w_ => lN (PW w_)) := by
  unfold wX_atLeast_108
  rw [z_cl (show n < 2147483648 by omega)]
  have e : ∀ r : Int32, r ≤ 2147483645 ↔ r.toInt ≤ 2147483645 := fun r => Int32.le_iff_toInt_le
  refine ⟨z_in hn, br_c (fun c => ⟨z_in hn, hp _ (zAL_M hS hl (Or.inl ⟨(e _).mp c, rfl⟩))⟩) (fun c => hp _ (zAL_M hS hl (Or.inr ⟨fun z => c ((e _).mpr z), rfl⟩)))⟩
theorem zK_b (s : CS) (n : Nat) : zK s n < 2147483648 := by
  have := (zky s n).toInt_lt
  unfold zK; omega
theorem zw_80 {post : Int32 → Prop} {x z : Int} (I : zI B s g) (hB : B ≤ 4000000) (h64 : zno s ≤ 64) (hS : zSl s g sl) (hxz : x < z) (hm : ∀ y, zt_M (zK s) (gl g) (gn g) y → x ≤ y → z ≤ y) (hp : ∀ r, zAL sl x r → post r) :
    ∀ d i h m n : Nat, i + d = 99 → h ≤ i → d < m → zA2 (zK s) (gl g) (gr g) z n → zt_it (zK s) (gl g) (gr g) z i = n → (∀ j, j < i → gl g (zt_it (zK s) (gl g) (gr g) z j) ≠ 4294967295) →
      wX_atLeast_80 post q0 q1 q2 q3 q4 q5 (nI th) (nI ce) (nI ro) ch (nI (zft s)) (nI (zno s)) (zky s) (fun w_ => nI (zL s w_)) (fun w_ => nI (zR s w_)) (fun w_ => lN (zU s w_)) (fun w_ => nI (zF s w_)) lv st (fun w_ => nI (zN s w_)) (fun w_ => nI (zO s w_)) (fun w_ => nI (zC s w_)) (fun w_ => lN (zW s w_)) ph kd ky an ba lo (fun w_ => nI (J w_)) (fun w_ => nI (SG w_)) (fun w_ => nI (SP w_)) (fun w_ => nI (SL w_)) (fun w_ => lN (GW w_)) (fun w_ => lN (PW w_)) m (nI n) (nI h) := by
  have T := zI_T I
  intro d
  induction d with
  | zero =>
    intro i h m n hd hh hm' hA hn hj
    have := zt_98 T z hj
    omega
  | succ d ih =>
    intro i h m n hd hh hm' hA hn hj
    have h98 := zt_98 T z hj
    obtain ⟨m, rfl⟩ : ∃ k, m = k + 1 := ⟨m - 1, by omega⟩
    have hnm := zt_Om T (zA2_on hA)
    have hng := zI_g I n hnm
    have hN := zI_N I n hnm
    refine br_f (nI_ge (b := 99) (by omega) (by decide)) (zw_inner hng.1 (zI_Lb I hng.1 hng.2) (fun e => br_t rfl ?_) (fun e => br_f (by decide) (zw_dcL I hB h64 hnm e (nm_r (nI_1 h) ?_))))
    · exact zw_108 hS hng.1 (zA2_e T (zK_b s) hA (hN.1.mp e) hxz hm) hp
    · have hi : gl g n ≠ 4294967295 := fun w => e (hN.1.mpr w)
      obtain ⟨c1, c2⟩ := zA2_l T (zK_b s) hA hi
      refine ih (i + 1) (h + 1) m _ (by omega) (by omega) (by omega) c2 ?_ ?_
      · show zt_nx _ _ _ z (zt_it _ _ _ z i) = _
        rw [hn, zt_nx_l hi c1]
      · intro j hj2
        rcases Nat.lt_or_ge j i with c | c
        · exact hj j c
        · rw [show j = i by omega, hn]; exact hi
theorem zw_60 {post : Int32 → Prop} {v : Int32} {tn n : Nat} (I : zI B s g) (hB : B ≤ 4000000) (h64 : zno s ≤ 64) (hS : zSl s g sl) (hA : zA1 (zK s) (gl g) (gr g) (gn g) v.toInt tn n) (hl : gl g n = 4294967295) (hp : ∀ r, zAL sl v.toInt r → post r) :
    wX_atLeast_60 post v (nI tn) (nI n) q0 q1 q2 q3 q4 q5 (nI th) (nI ce) (nI ro) ch (nI (zft s)) (nI (zno s)) (zky s) (fun w_ => nI (zL s w_)) (fun w_ => nI (zR s w_)) (fun w_ => lN (zU s w_)) (fun w_ => nI (zF s w_)) lv st (fun w_ => nI (zN s w_)) (fun w_ => nI (zO s w_)) (fun w_ => nI (zC s w_)) (fun w_ => lN (zW s w_)) ph kd ky an ba lo (fun w_ => nI (J w_)) (fun w_ => nI (SG w_)) (fun w_ => nI (SP w_)) (fun w_ => nI (SL w_)) (fun w_ => lN (GW w_)) (fun w_ => lN (PW w_)) := by
  have T := zI_T I
  have hnm := zt_Om T (zA1_on hA)
  have hng := zI_g I n hnm
  have hv : v.toInt ≤ 2147483647 := by have := v.toInt_lt; omega
  unfold wX_atLeast_60
  rw [z_cl (show n < 2147483648 by omega), Int32.le_iff_toInt_le]
  refine ⟨z_in hng.1, br_c (fun c => zw_108 hS hng.1 (zA1_e T (zK_b s) hA hl c) hp) (fun c => ?_)⟩
  have c' : zK s n < v.toInt := by
    have : ¬ v.toInt ≤ zK s n := c
    omega
  obtain ⟨d1, d2, d3, d4, d5⟩ := zA1_t T hA hl c' hS.2.2.2.2.1 hv
  have hLt : zL s tn ≠ 4294967295 := fun z => d2 ((zI_N I tn d1).1.mp z)
  refine zw_dcR I hB h64 d1 hLt ⟨100, ?_⟩
  obtain ⟨i, hi, hpre⟩ := zt_pre (zA2_on d4)
  have h98 := zt_98 T _ hpre
  exact zw_80 I hB h64 hS d3 d5 hp (99 - i) i 0 100 _ (by omega) (by omega) (by omega) d4 hi hpre
theorem zw_7 {post : Int32 → Prop} {v : Int32} (I : zI B s g) (hB : B ≤ 4000000) (h64 : zno s ≤ 64) (hS : zSl s g sl) (hp : ∀ r, zAL sl v.toInt r → post r) :
    ∀ d h m tn n : Nat, h + d = 99 → d < m → zA1 (zK s) (gl g) (gr g) (gn g) v.toInt tn n → zt_it (zK s) (gl g) (gr g) v.toInt h = n → (∀ j, j < h → gl g (zt_it (zK s) (gl g) (gr g) v.toInt j) ≠ 4294967295) →
      wX_atLeast_7 post v q0 q1 q2 q3 q4 q5 (nI th) (nI ce) (nI ro) ch (nI (zft s)) (nI (zno s)) (zky s) (fun w_ => nI (zL s w_)) (fun w_ => nI (zR s w_)) (fun w_ => lN (zU s w_)) (fun w_ => nI (zF s w_)) lv st (fun w_ => nI (zN s w_)) (fun w_ => nI (zO s w_)) (fun w_ => nI (zC s w_)) (fun w_ => lN (zW s w_)) ph kd ky an ba lo (fun w_ => nI (J w_)) (fun w_ => nI (SG w_)) (fun w_ => nI (SP w_)) (fun w_ => nI (SL w_)) (fun w_ => lN (GW w_)) (fun w_ => lN (PW w_)) m (nI tn) (nI n) (nI h) := by
  have T := zI_T I
  intro d
  induction d with
  | zero =>
    intro h m tn n hd hm' hA hn hj
    have := zt_98 T _ hj
    omega
  | succ d ih =>
    intro h m tn n hd hm' hA hn hj
    have h98 := zt_98 T _ hj
    obtain ⟨m, rfl⟩ : ∃ k, m = k + 1 := ⟨m - 1, by omega⟩
    have hnm := zt_Om T (zA1_on hA)
    have hng := zI_g I n hnm
    have hN := zI_N I n hnm
    refine br_f (nI_ge (b := 99) (by omega) (by decide)) (zw_inner hng.1 (zI_Lb I hng.1 hng.2) (fun e => br_t rfl ?_) (fun e => br_f (by decide) ⟨z_in hng.1, ?_⟩))
    · exact zw_60 I hB h64 hS hA (hN.1.mp e) hp
    · have hi : gl g n ≠ 4294967295 := fun w => e (hN.1.mpr w)
      have hj' : ∀ j, j < h + 1 → gl g (zt_it (zK s) (gl g) (gr g) v.toInt j) ≠ 4294967295 := by
        intro j hj2
        rcases Nat.lt_or_ge j h with c | c
        · exact hj j c
        · rw [show j = h by omega, hn]; exact hi
      rw [z_cl (show n < 2147483648 by omega), Int32.le_iff_toInt_le]
      refine br_c (fun c => br_t rfl (zw_dcR I hB h64 hnm e (nm_r (nI_1 h) ?_))) (fun c => br_f (by decide) (zw_dcL I hB h64 hnm e (nm_r (nI_1 h) ?_)))
      · have c' : zK s n ≤ v.toInt := c
        refine ih (h + 1) m tn _ (by omega) (by omega) (zA1_r T hA hi (by omega)) ?_ hj'
        show zt_nx _ _ _ _ (zt_it _ _ _ _ h) = _
        rw [hn, zt_nx_r hi (by omega)]
      · have c' : ¬ zK s n ≤ v.toInt := c
        refine ih (h + 1) m n _ (by omega) (by omega) (zA1_l T (zK_b s) hA hi (by omega)) ?_ hj'
        show zt_nx _ _ _ _ (zt_it _ _ _ _ h) = _
        rw [hn, zt_nx_l hi (by omega)]
theorem zw_least {post : Int32 → Prop} {v : Int32} (I : zI B s g) (hB : B ≤ 4000000) (h64 : zno s ≤ 64) (hS : zSl s g sl) (hp : ∀ r, zAL sl v.toInt r → post r) : wpX_atLeast post (q0, q1, q2, q3, q4, q5, nI th, nI ce, nI ro, ch, nI (zft s), nI (zno s), zky s, fun w_ => nI (zL s w_), fun w_ => nI (zR s w_), fun w_ => lN (zU s w_), fun w_ => nI (zF s w_), lv, st, fun w_ => nI (zN s w_), fun w_ => nI (zO s w_), fun w_ => nI (zC s w_), fun w_ => lN (zW s w_), ph, kd, ky, an, ba, lo, fun w_ => nI (J w_), fun w_ => nI (SG w_), fun w_ => nI (SP w_), fun w_ => nI (SL w_), fun w_ => lN (GW w_), fun w_ => lN (PW w_)) v := by
  refine ⟨100, ?_⟩
  exact zw_7 I hB h64 hS hp 99 0 100 0 0 rfl (by omega) (zA1_0 (by have := v.toInt_lt; omega) 0) rfl (fun j hj => absurd hj (Nat.not_lt_zero j))
end
end
section
/-! size, and the reference's atLeast and size -/
def zfrom (sl : Nat → Int32) (y : Int) (i : Nat) : Bool := zfull sl i && decide (y ≤ (sl i).toInt)
/-- c keys seen, r the next one -/
def zSz (sl : Nat → Int32) (c : Nat) (r : Int32) : Prop :=
  (r = 2147483647 ∧ c = zcn (zfull sl) 32) ∨ (r ≠ 2147483647 ∧ (∃ j, j < 32 ∧ sl j = r) ∧ c + zcn (zfrom sl r.toInt) 32 = zcn (zfull sl) 32)
theorem zfull_t {sl : Nat → Int32} {i : Nat} : zfull sl i = true ↔ sl i ≠ 2147483647 := by unfold zfull; exact decide_eq_true_iff
theorem zfrom_c {sl : Nat → Int32} {x : Int} {r : Int32} (h : zAL sl x r) (hr : r ≠ 2147483647) : zcn (zfrom sl x) 32 = zcn (zfrom sl r.toInt) 32 := by
  rcases h with ⟨a1, a2⟩ | ⟨a1, a2, a3, a4⟩
  · exact absurd a1 hr
  · refine zcn_c 32 (fun i hi => ?_)
    unfold zfrom
    by_cases c : x ≤ (sl i).toInt
    · rw [decide_eq_true c, decide_eq_true (a4 i hi c)]
    · rw [decide_eq_false c, decide_eq_false (by omega)]
theorem zfrom_0 {sl : Nat → Int32} {x : Int} (h : zAL sl x 2147483647) : zcn (zfrom sl x) 32 = 0 := by
  rcases h with ⟨a1, a2⟩ | ⟨a1, a2, a3, a4⟩
  · refine zcn_0 32 (fun i hi => ?_)
    unfold zfrom
    by_cases c : x ≤ (sl i).toInt
    · have := a2 i hi c
      unfold zfull
      rw [this]; rfl
    · rw [decide_eq_false c, Bool.and_false]
  · exact absurd rfl a1
theorem zSz_0 {sl : Nat → Int32} {r : Int32} (h : zAL sl (-2147483648) r) : zSz sl 0 r := by
  have e : zcn (zfrom sl (-2147483648)) 32 = zcn (zfull sl) 32 := by
    refine zcn_c 32 (fun i hi => ?_)
    unfold zfrom
    have := (sl i).le_toInt
    rw [decide_eq_true (by omega), Bool.and_true]
  by_cases c : r = 2147483647
  · subst c
    rw [zfrom_0 h] at e
    exact Or.inl ⟨rfl, e⟩
  · rw [zfrom_c h c] at e
    rcases h with ⟨a1, a2⟩ | ⟨a1, a2, a3, a4⟩
    · exact absurd a1 c
    · exact Or.inr ⟨c, a3, by omega⟩
theorem zSz_s {sl : Nat → Int32} {c : Nat} {r r' : Int32} (hd : ∀ i j, i < 32 → j < 32 → sl i = sl j → sl i ≠ 2147483647 → i = j) (hr : r ≠ 2147483647) (h : zSz sl c r) (h' : zAL sl (r.toInt + 1) r') : zSz sl (c + 1) r' := by
  rcases h with ⟨a1, _⟩ | ⟨a1, ⟨j, hj, ej⟩, a3⟩
  · exact absurd a1 hr
  · have e : zcn (zfrom sl r.toInt) 32 = zcn (zfrom sl (r.toInt + 1)) 32 + 1 := by
      refine zcn_1 (k := j) ?_ ?_ 32 hj (fun i hi hne => ?_)
      · unfold zfrom
        rw [zfull_t.mpr (by rw [ej]; exact hr), ej, decide_eq_true (Int.le_refl _)]; rfl
      · unfold zfrom
        rw [ej, decide_eq_false (by omega), Bool.and_false]
      · unfold zfrom
        by_cases f : zfull sl i = true
        · have hne2 : (sl i).toInt ≠ r.toInt := by
            intro z
            have z' := Int32.toInt_inj.mp z
            exact hne (hd i j hi hj (z'.trans ej.symm) (zfull_t.mp f))
          by_cases c : r.toInt ≤ (sl i).toInt
          · rw [decide_eq_true c, decide_eq_true (by omega)]
          · rw [decide_eq_false c, decide_eq_false (by omega)]
        · have f' : zfull sl i = false := by revert f; cases zfull sl i <;> simp
          rw [f', Bool.false_and, Bool.false_and]
    by_cases c2 : r' = 2147483647
    · subst c2
      rw [zfrom_0 h'] at e
      exact Or.inl ⟨rfl, by omega⟩
    · rw [zfrom_c h' c2] at e
      rcases h' with ⟨b1, _⟩ | ⟨b1, b2, b3, b4⟩
      · exact absurd b1 c2
      · exact Or.inr ⟨c2, b3, by omega⟩
theorem zSz_p {sl : Nat → Int32} {c : Nat} {r : Int32} (hr : r ≠ 2147483647) (h : zSz sl c r) : c < zcn (zfull sl) 32 := by
  rcases h with ⟨a1, _⟩ | ⟨a1, ⟨j, hj, ej⟩, a3⟩
  · exact absurd a1 hr
  · by_cases z : zcn (zfrom sl r.toInt) 32 = 0
    · exfalso
      have e : zfrom sl r.toInt j = true := by
        unfold zfrom
        rw [zfull_t.mpr (by rw [ej]; exact hr), ej, decide_eq_true (Int.le_refl _)]; rfl
      have := zcn_1 (p := zfrom sl r.toInt) (q := fun i => if i = j then false else zfrom sl r.toInt i) (k := j) e (if_pos rfl) 32 hj (fun i hi hne => (if_neg hne).symm)
      omega
    · omega
section
variable {q0 q1 q2 q3 q4 q5 ch : Int32} {th ce ro : Nat} {s : CS} {lv st ph kd ky an ba lo : Nat → Int32} {J SG SP SL GW PW : Nat → Nat}
variable {k B : Nat} {g : GS} {sl : Nat → Int32}
theorem zw_size9 {post : Int32 → Prop} (I : zI B s g) (hB : B ≤ 4000000) (h64 : zno s ≤ 64) (hS : zSl s g sl) (hp : post (nI (zcn (zfull sl) 32))) :
    ∀ d c m : Nat, ∀ r : Int32, c + d = 32 → d < m → zSz sl c r → wX_size_9 post q0 q1 q2 q3 q4 q5 (nI th) (nI ce) (nI ro) ch (nI (zft s)) (nI (zno s)) (zky s) (fun w_ => nI (zL s w_)) (fun w_ => nI (zR s w_)) (fun w_ => lN (zU s w_)) (fun w_ => nI (zF s w_)) lv st (fun w_ => nI (zN s w_)) (fun w_ => nI (zO s w_)) (fun w_ => nI (zC s w_)) (fun w_ => lN (zW s w_)) ph kd ky an ba lo (fun w_ => nI (J w_)) (fun w_ => nI (SG w_)) (fun w_ => nI (SP w_)) (fun w_ => nI (SL w_)) (fun w_ => lN (GW w_)) (fun w_ => lN (PW w_)) m (nI c) r := by
  have h32 := zcn_le (zfull sl) 32
  intro d
  induction d with
  | zero =>
    intro c m r hd hm h
    obtain ⟨m, rfl⟩ : ∃ k, m = k + 1 := ⟨m - 1, by omega⟩
    refine br_t (nI_le (a := 32) (by omega) (by omega)) ?_
    by_cases e : r = 2147483647
    · rcases h with ⟨_, a⟩ | ⟨a, _⟩
      · rw [a]; exact hp
      · exact absurd e a
    · have := zSz_p e h
      omega
  | succ d ih =>
    intro c m r hd hm h
    obtain ⟨m, rfl⟩ : ∃ k, m = k + 1 := ⟨m - 1, by omega⟩
    refine br_f (nI_ge (b := 32) (by omega) (by decide)) (br_c (fun e => ?_) (fun e => ?_))
    · rcases h with ⟨_, a⟩ | ⟨a, _⟩
      · rw [a]; exact hp
      · exact absurd e a
    · have hr : (r + 1).toInt = r.toInt + 1 := by
        have hle : r.toInt ≤ 2147483645 := by
          rcases h with ⟨a, _⟩ | ⟨a, ⟨j, hj, ej⟩, _⟩
          · exact absurd a e
          · rcases hS.1 j hj with z | z
            · exact absurd (ej.symm.trans z) e
            · rw [← ej]; exact z
        have h1 := r.le_toInt
        rw [Int32.toInt_add]
        exact Int.bmod_eq_of_le (by show _ ≤ r.toInt + 1; omega) (by show r.toInt + 1 < _; omega)
      refine zw_least I hB h64 hS (fun r' h' => nm_r (nI_1 c) (ih (c + 1) m r' (by omega) (by omega) ?_))
      rw [hr] at h'
      exact zSz_s hS.2.1 e h h'
theorem zw_size {post : Int32 → Prop} (I : zI B s g) (hB : B ≤ 4000000) (h64 : zno s ≤ 64) (hS : zSl s g sl) (hp : post (nI (zcn (zfull sl) 32))) : wpX_size post (q0, q1, q2, q3, q4, q5, nI th, nI ce, nI ro, ch, nI (zft s), nI (zno s), zky s, fun w_ => nI (zL s w_), fun w_ => nI (zR s w_), fun w_ => lN (zU s w_), fun w_ => nI (zF s w_), lv, st, fun w_ => nI (zN s w_), fun w_ => nI (zO s w_), fun w_ => nI (zC s w_), fun w_ => lN (zW s w_), ph, kd, ky, an, ba, lo, fun w_ => nI (J w_), fun w_ => nI (SG w_), fun w_ => nI (SP w_), fun w_ => nI (SL w_), fun w_ => lN (GW w_), fun w_ => lN (PW w_)) := by
  unfold wpX_size
  dsimp only
  refine zw_least I hB h64 hS (fun r h => ⟨33, ?_⟩)
  exact zw_size9 I hB h64 hS hp 32 0 33 r rfl (by omega) (zSz_0 (by
    have e : (-2147483648 : Int32).toInt = -2147483648 := by decide
    rw [e] at h; exact h))
end
section
variable {th ce ro ch : Int32} {sl ph kd ky an ba lo : Nat → Int32}
theorem zy_al5 {post : Int32 → Prop} {v : Int32} (hp : ∀ r, zAL sl v.toInt r → post r) :
    ∀ d i m : Nat, ∀ b : Int32, i + d = 32 → d < m →
      (b = 2147483647 ∨ (b ≠ 2147483647 ∧ v.toInt ≤ b.toInt ∧ ∃ j, j < i ∧ sl j = b)) → (∀ j, j < i → v.toInt ≤ (sl j).toInt → b.toInt ≤ (sl j).toInt) →
      wY_atLeast_5 post v th ce ro ch sl ph kd ky an ba lo m b (nI i) := by
  intro d
  induction d with
  | zero =>
    intro i m b hd hm h1 h2
    obtain ⟨m, rfl⟩ : ∃ k, m = k + 1 := ⟨m - 1, by omega⟩
    have hi : i = 32 := by omega
    subst hi
    refine br_t (nI_le (a := 32) (by omega) (by omega)) (hp b ?_)
    rcases h1 with e | ⟨a1, a2, a3⟩
    · refine Or.inl ⟨e, fun j hj hx => ?_⟩
      have := h2 j hj hx
      rw [e, zNo] at this
      have l := (sl j).toInt_lt
      exact Int32.toInt_inj.mp (by rw [zNo]; omega)
    · exact Or.inr ⟨a1, a2, a3, h2⟩
  | succ d ih =>
    intro i m b hd hm h1 h2
    obtain ⟨m, rfl⟩ : ∃ k, m = k + 1 := ⟨m - 1, by omega⟩
    refine br_f (nI_ge (b := 32) (by omega) (by decide)) ⟨z_in (by omega), ?_⟩
    rw [z_cl (show i < 2147483648 by omega), Int32.lt_iff_toInt_lt, Int32.le_iff_toInt_le]
    have up : (b = 2147483647 ∨ (b ≠ 2147483647 ∧ v.toInt ≤ b.toInt ∧ ∃ j, j < i ∧ sl j = b)) → (b = 2147483647 ∨ (b ≠ 2147483647 ∧ v.toInt ≤ b.toInt ∧ ∃ j, j < i + 1 ∧ sl j = b)) := by
      rintro (e | ⟨a1, a2, j, hj, ej⟩)
      · exact Or.inl e
      · exact Or.inr ⟨a1, a2, j, by omega, ej⟩
    refine br_c (fun c => nm_r (nI_1 i) (ih (i + 1) m b (by omega) (by omega) (up h1) (fun j hj hx => ?_))) (fun c => ⟨z_in (by omega), br_c (fun c2 => nm_r (nI_1 i) (ih (i + 1) m b (by omega) (by omega) (up h1) (fun j hj hx => ?_))) (fun c2 => ⟨z_in (by omega), nm_e (nm_r (nI_1 i) (ih (i + 1) m (sl i) (by omega) (by omega) ?_ (fun j hj hx => ?_)))⟩)⟩)
    · rcases Nat.lt_or_ge j i with q | q
      · exact h2 j q hx
      · have e : j = i := by omega
        subst e; omega
    · rcases Nat.lt_or_ge j i with q | q
      · exact h2 j q hx
      · have e : j = i := by omega
        subst e; exact c2
    · refine Or.inr ⟨fun e => ?_, by omega, i, by omega, rfl⟩
      rw [e, zNo] at c2
      have l := b.toInt_lt
      omega
    · rcases Nat.lt_or_ge j i with q | q
      · have := h2 j q hx
        omega
      · have e : j = i := by omega
        subst e; exact Int.le_refl _
theorem zy_least {post : Int32 → Prop} {v : Int32} (hp : ∀ r, zAL sl v.toInt r → post r) : wpY_atLeast post (th, ce, ro, ch, sl, ph, kd, ky, an, ba, lo) v :=
  ⟨33, zy_al5 hp 32 0 33 2147483647 rfl (by omega) (Or.inl rfl) (fun j hj => absurd hj (Nat.not_lt_zero j))⟩
theorem zy_size4 {post : Int32 → Prop} (hp : post (nI (zcn (zfull sl) 32))) : ∀ d i m : Nat, i + d = 32 → d < m → wY_size_4 post th ce ro ch sl ph kd ky an ba lo m (nI (zcn (zfull sl) i)) (nI i) := by
  intro d
  induction d with
  | zero =>
    intro i m hd hm
    obtain ⟨m, rfl⟩ : ∃ k, m = k + 1 := ⟨m - 1, by omega⟩
    have hi : i = 32 := by omega
    subst hi
    exact br_t (nI_le (a := 32) (by omega) (by omega)) hp
  | succ d ih =>
    intro i m hd hm
    obtain ⟨m, rfl⟩ : ∃ k, m = k + 1 := ⟨m - 1, by omega⟩
    refine br_f (nI_ge (b := 32) (by omega) (by decide)) ⟨z_in (by omega), ?_⟩
    rw [z_cl (show i < 2147483648 by omega)]
    have e : zcn (zfull sl) (i + 1) = zcn (zfull sl) i + (zfull sl i).toNat := rfl
    have h := ih (i + 1) m (by omega) (by omega)
    rw [e] at h
    refine br_c (fun c => nm_r (nI_1 i) ?_) (fun c => nm_r (nI_1 _) (nm_r (nI_1 i) ?_))
    · have f : zfull sl i = false := by unfold zfull; exact decide_eq_false (fun z => z c)
      rw [f] at h; exact h
    · have f : zfull sl i = true := zfull_t.mpr c
      rw [f] at h; exact h
theorem zy_size {post : Int32 → Prop} (hp : post (nI (zcn (zfull sl) 32))) : wpY_size post (th, ce, ro, ch, sl, ph, kd, ky, an, ba, lo) :=
  ⟨33, zy_size4 hp 32 0 33 rfl (by omega)⟩
end
theorem i_vc_size {k : Nat} {u : SX} {v : SY} (I : i_Rel k u v) (hk : k + 4 ≤ 2050) : wpX_size (fun r => wpY_size (fun r' => r' = r ∧ i_Rel (k + 4) u v) v) u := by
  refine I (fun u v => wpX_size (fun r => wpY_size (fun r' => r' = r ∧ i_Rel (k + 4) u v) v) u) ?_
  intro q0 q1 q2 q3 q4 q5 ch th ce ro s g lv st ph kd ky an ba lo sl J SG SP SL GW PW R
  have R' := R
  obtain ⟨a1, a2, a3, a4, a5, a6, a7⟩ := R'
  exact zw_size a3 (by omega) (by have := a6.2.2.1; omega) a5 (zy_size ⟨rfl, zR_in (zR_up R)⟩)
theorem i_vc_atLeast {k : Nat} {u : SX} {v : SY} (I : i_Rel k u v) (hk : k + 4 ≤ 2050) (v1 : Int32) : wpX_atLeast (fun r => wpY_atLeast (fun r' => r' = r ∧ i_Rel (k + 4) u v) v v1) u v1 := by
  refine I (fun u v => wpX_atLeast (fun r => wpY_atLeast (fun r' => r' = r ∧ i_Rel (k + 4) u v) v v1) u v1) ?_
  intro q0 q1 q2 q3 q4 q5 ch th ce ro s g lv st ph kd ky an ba lo sl J SG SP SL GW PW R
  have R' := R
  obtain ⟨a1, a2, a3, a4, a5, a6, a7⟩ := R'
  exact zw_least a3 (by omega) (by have := a6.2.2.1; omega) a5 (fun r h => zy_least (fun r' h' => ⟨zAL_u h' h, zR_in (zR_up R)⟩))
end
section
/-! the live nodes and the free stack -/
/-- the descent: V visited, Sf 0 .. Sf (tp - 1) on the stack -/
def zDF (dl dr : Nat → Nat) (ns : List Nat) (V : List Nat) (tp : Nat) (Sf : Nat → Nat) : Prop :=
  V.Nodup ∧ (∀ n, n ∈ V → n ∈ ns) ∧ (∀ i, i < tp → Sf i ∈ ns ∧ Sf i ∉ V) ∧ (∀ i j, i < j → j < tp → Sf i ≠ Sf j) ∧
  (∀ n, n ∈ V → dl n ≠ 4294967295 → (dl n ∈ V ∨ ∃ i, i < tp ∧ Sf i = dl n) ∧ (dr n ∈ V ∨ ∃ i, i < tp ∧ Sf i = dr n)) ∧
  (0 ∈ V ∨ ∃ i, i < tp ∧ Sf i = 0) ∧
  (∀ c, (c ∈ V ∨ ∃ i, i < tp ∧ Sf i = c) → c ≠ 0 → ∃ p, p ∈ V ∧ dl p ≠ 4294967295 ∧ (dl p = c ∨ dr p = c))
section
variable {K : Nat → Int} {dl dr : Nat → Nat} {ns V : List Nat} {Sf : Nat → Nat}
theorem zDF_len (T : zt_T K dl dr ns) {tp : Nat} (h : zDF dl dr ns V tp Sf) : V.length + tp ≤ 99 := by
  obtain ⟨h1, h2, h3, h4, _⟩ := h
  have nd : (V ++ (List.range tp).map Sf).Nodup := by
    rw [List.nodup_append]
    refine ⟨h1, ?_, ?_⟩
    · rw [List.nodup_iff_pairwise_ne, List.pairwise_map]
      refine List.Pairwise.imp_of_mem (R := fun a b => a < b) ?_ List.pairwise_lt_range
      intro a b ha hb hab
      exact h4 a b hab (List.mem_range.mp hb)
    · intro a ha b hb e
      obtain ⟨i, hi, rfl⟩ := List.mem_map.mp hb
      rw [e] at ha
      exact (h3 i (List.mem_range.mp hi)).2 ha
  have := z_pig nd (n := 99) (by
    intro x hx
    rcases List.mem_append.mp hx with hx | hx
    · exact zt_lt T (h2 x hx)
    · obtain ⟨i, hi, rfl⟩ := List.mem_map.mp hx
      exact zt_lt T (h3 i (List.mem_range.mp hi)).1)
  rw [List.length_append, List.length_map, List.length_range] at this
  exact this
theorem zDF_0 (T : zt_T K dl dr ns) (h0 : Sf 0 = 0) : zDF dl dr ns [] 1 Sf := by
  refine ⟨List.nodup_nil, fun n hn => absurd hn List.not_mem_nil, fun i hi => ?_, fun i j h1 h2 => by omega, fun n hn => absurd hn List.not_mem_nil, Or.inr ⟨0, by omega, h0⟩, fun c hc hc0 => ?_⟩
  · rw [show i = 0 by omega, h0]; exact ⟨zt_0 T, List.not_mem_nil⟩
  · rcases hc with hc | ⟨i, hi, e⟩
    · exact absurd hc List.not_mem_nil
    · rw [show i = 0 by omega, h0] at e; exact absurd e.symm hc0
theorem zDF_leaf (T : zt_T K dl dr ns) {q : Nat} (h : zDF dl dr ns V (q + 1) Sf) (hl : dl (Sf q) = 4294967295) : zDF dl dr ns (Sf q :: V) q Sf := by
  obtain ⟨h1, h2, h3, h4, h5, h6, h7⟩ := h
  have hq := h3 q (by omega)
  have tr : ∀ c, (c ∈ V ∨ ∃ i, i < q + 1 ∧ Sf i = c) ↔ (c ∈ Sf q :: V ∨ ∃ i, i < q ∧ Sf i = c) := by
    intro c
    rw [List.mem_cons]
    constructor
    · rintro (z | ⟨i, hi, e⟩)
      · exact Or.inl (Or.inr z)
      · by_cases hiq : i = q
        · rw [hiq] at e; exact Or.inl (Or.inl e.symm)
        · exact Or.inr ⟨i, by omega, e⟩
    · rintro ((z | z) | ⟨i, hi, e⟩)
      · exact Or.inr ⟨q, by omega, z.symm⟩
      · exact Or.inl z
      · exact Or.inr ⟨i, by omega, e⟩
  refine ⟨List.nodup_cons.mpr ⟨hq.2, h1⟩, ?_, ?_, fun i j a b => h4 i j a (by omega), ?_, (tr 0).mp h6, ?_⟩
  · intro n hn
    rcases List.mem_cons.mp hn with e | e
    · rw [e]; exact hq.1
    · exact h2 n e
  · intro i hi
    refine ⟨(h3 i (by omega)).1, fun z => ?_⟩
    rcases List.mem_cons.mp z with e | e
    · exact h4 i q hi (by omega) e
    · exact (h3 i (by omega)).2 e
  · intro n hn hi
    rcases List.mem_cons.mp hn with e | e
    · rw [e] at hi; exact absurd hl hi
    · have := h5 n e hi
      exact ⟨(tr _).mp this.1, (tr _).mp this.2⟩
  · intro c hc h0
    obtain ⟨p, p1, p2, p3⟩ := h7 c ((tr c).mpr hc) h0
    exact ⟨p, List.mem_cons_of_mem _ p1, p2, p3⟩
theorem zDF_in (T : zt_T K dl dr ns) {q : Nat} (h : zDF dl dr ns V (q + 1) Sf) (hl : dl (Sf q) ≠ 4294967295) : zDF dl dr ns (Sf q :: V) (q + 2) (zu (zu Sf q (dl (Sf q))) (q + 1) (dr (Sf q))) := by
  obtain ⟨h1, h2, h3, h4, h5, h6, h7⟩ := h
  have hq := h3 q (by omega)
  have ch := zt_ch T hq.1 hl
  have cn := zt_cne T hq.1 hl
  have un := zt_un T hq.1 hq.1 hl hl
  have e1 : zu (zu Sf q (dl (Sf q))) (q + 1) (dr (Sf q)) (q + 1) = dr (Sf q) := zu_s
  have e2 : zu (zu Sf q (dl (Sf q))) (q + 1) (dr (Sf q)) q = dl (Sf q) := by rw [zu_n (by omega), zu_s]
  have e3 : ∀ i, i < q → zu (zu Sf q (dl (Sf q))) (q + 1) (dr (Sf q)) i = Sf i := fun i hi => by rw [zu_n (by omega), zu_n (by omega)]
  -- a child of Sf q is new
  have new : ∀ c, (dl (Sf q) = c ∨ dr (Sf q) = c) → c ∉ V ∧ ∀ i, i < q + 1 → Sf i ≠ c := by
    intro c hc
    have c0 : c ≠ 0 := by
      rcases hc with e | e <;> rw [← e]
      · exact ch.2.2.1
      · exact ch.2.2.2
    have key : ¬ (c ∈ V ∨ ∃ i, i < q + 1 ∧ Sf i = c) := by
      intro z
      obtain ⟨p, p1, p2, p3⟩ := h7 c z c0
      have u := zt_un T (h2 p p1) hq.1 p2 hl
      have u' := zt_un T hq.1 (h2 p p1) hl p2
      have : p = Sf q := by
        rcases p3 with p3 | p3 <;> rcases hc with hc | hc
        · exact u.1 (p3.trans hc.symm)
        · exact absurd (p3.trans hc.symm) u.2.2
        · exact absurd (hc.trans p3.symm) u'.2.2
        · exact u.2.1 (p3.trans hc.symm)
      rw [this] at p1
      exact hq.2 p1
    exact ⟨fun z => key (Or.inl z), fun i hi e => key (Or.inr ⟨i, hi, e⟩)⟩
  have nl := new _ (Or.inl rfl)
  have nr := new _ (Or.inr rfl)
  have tr : ∀ c, (c ∈ V ∨ ∃ i, i < q + 1 ∧ Sf i = c) → (c ∈ Sf q :: V ∨ ∃ i, i < q + 2 ∧ zu (zu Sf q (dl (Sf q))) (q + 1) (dr (Sf q)) i = c) := by
    intro c
    rw [List.mem_cons]
    rintro (z | ⟨i, hi, e⟩)
    · exact Or.inl (Or.inr z)
    · by_cases hiq : i = q
      · rw [hiq] at e; exact Or.inl (Or.inl e.symm)
      · exact Or.inr ⟨i, by omega, by rw [e3 i (by omega)]; exact e⟩
  refine ⟨List.nodup_cons.mpr ⟨hq.2, h1⟩, ?_, ?_, ?_, ?_, tr 0 h6, ?_⟩
  · intro n hn
    rcases List.mem_cons.mp hn with e | e
    · rw [e]; exact hq.1
    · exact h2 n e
  · intro i hi
    rw [List.mem_cons]
    by_cases c1 : i = q + 1
    · rw [c1, e1]
      exact ⟨ch.2.1, fun z => z.elim (fun z => cn.2 z.symm) nr.1⟩
    · by_cases c2 : i = q
      · rw [c2, e2]
        exact ⟨ch.1, fun z => z.elim (fun z => cn.1 z.symm) nl.1⟩
      · rw [e3 i (by omega)]
        exact ⟨(h3 i (by omega)).1, fun z => z.elim (fun z => h4 i q (by omega) (by omega) z) (h3 i (by omega)).2⟩
  · intro i j hij hj
    by_cases c1 : j = q + 1
    · rw [c1, e1]
      by_cases c2 : i = q
      · rw [c2, e2]; exact un.2.2
      · rw [e3 i (by omega)]; exact nr.2 i (by omega)
    · by_cases c2 : j = q
      · rw [c2, e2, e3 i (by omega)]; exact nl.2 i (by omega)
      · rw [e3 i (by omega), e3 j (by omega)]; exact h4 i j hij (by omega)
  · intro n hn hi
    rcases List.mem_cons.mp hn with e | e
    · rw [e]
      exact ⟨Or.inr ⟨q, by omega, e2⟩, Or.inr ⟨q + 1, by omega, e1⟩⟩
    · have := h5 n e hi
      exact ⟨tr _ this.1, tr _ this.2⟩
  · intro c hc h0
    have old : (c ∈ V ∨ ∃ i, i < q + 1 ∧ Sf i = c) → ∃ p, p ∈ Sf q :: V ∧ dl p ≠ 4294967295 ∧ (dl p = c ∨ dr p = c) := by
      intro z
      obtain ⟨p, p1, p2, p3⟩ := h7 c z h0
      exact ⟨p, List.mem_cons_of_mem _ p1, p2, p3⟩
    rcases hc with hc | ⟨i, hi, e⟩
    · rcases List.mem_cons.mp hc with z | z
      · exact old (Or.inr ⟨q, by omega, z.symm⟩)
      · exact old (Or.inl z)
    · by_cases c1 : i = q + 1
      · rw [c1, e1] at e
        exact ⟨Sf q, List.mem_cons_self, hl, Or.inr e⟩
      · by_cases c2 : i = q
        · rw [c2, e2] at e
          exact ⟨Sf q, List.mem_cons_self, hl, Or.inl e⟩
        · rw [e3 i (by omega)] at e
          exact old (Or.inr ⟨i, by omega, e⟩)
theorem zDF_end (T : zt_T K dl dr ns) (h : zDF dl dr ns V 0 Sf) (n : Nat) : n ∈ V ↔ n ∈ ns := by
  obtain ⟨h1, h2, h3, h4, h5, h6, h7⟩ := h
  have no : ∀ c, (c ∈ V ∨ ∃ i, i < 0 ∧ Sf i = c) → c ∈ V := by
    rintro c (z | ⟨i, hi, _⟩)
    · exact z
    · omega
  refine ⟨h2 n, fun hn => ?_⟩
  have all : ∀ x i, zt_it K dl dr x i ∈ V := by
    intro x i
    induction i with
    | zero => exact no 0 h6
    | succ i ih =>
      show zt_nx K dl dr x (zt_it K dl dr x i) ∈ V
      by_cases hi : dl (zt_it K dl dr x i) = 4294967295
      · rw [zt_nx_s hi]; exact ih
      · have := h5 _ ih hi
        rcases zt_nx_c (dr := dr) (K := K) (x := x) hi with ⟨_, e⟩ | ⟨_, e⟩ <;> rw [e]
        · exact no _ this.1
        · exact no _ this.2
  obtain ⟨i, e⟩ := zt_k T hn
  rw [← e]; exact all _ i
end
/-- the free stack after a renewal -/
def zRc (ns : List Nat) (i ft : Nat) (F : Nat → Nat) : Prop :=
  ft ≤ i ∧ (∀ k, k < ft → F k < i ∧ F k ∉ ns) ∧ (∀ k l, k < l → l < ft → F k ≠ F l) ∧ (∀ j, j < i → j ∉ ns → ∃ k, k < ft ∧ F k = j)
theorem zRc_len {ns : List Nat} {ft : Nat} {F : Nat → Nat} (h : zRc ns 99 ft F) : 99 ≤ ft + ns.length := by
  have := (List.nodup_range (n := 99)).length_le_of_subset (l₂ := (List.range ft).map F ++ ns) (by
    intro j hj
    by_cases c : j ∈ ns
    · exact List.mem_append.mpr (Or.inr c)
    · obtain ⟨k, hk, e⟩ := h.2.2.2 j (List.mem_range.mp hj) c
      exact List.mem_append.mpr (Or.inl (List.mem_map.mpr ⟨k, List.mem_range.mpr hk, e⟩)))
  rw [List.length_range, List.length_append, List.length_map, List.length_range] at this
  exact this
theorem zn0 : vp_nar .boolean 0 = 0 := rfl
theorem zn1 : vp_nar .boolean 1 = 1 := rfl
def zLk (s : CS) (g : GS) : Prop := ∀ n, n ∈ gn g → (zL s n = 4294967295 ↔ gl g n = 4294967295) ∧ (zL s n ≠ 4294967295 → zL s n = gl g n ∧ zR s n = gr g n)
section
variable {q0 q1 q2 q3 q4 q5 th ce ro ch : Int32} {s : CS} {lv st ph kd ky an ba lo J SG SP SL : Nat → Int32} {GW PW : Nat → Int64}
variable {g : GS}
theorem zw_ml2 {post : SX → Prop} (hp : ∀ lv : Nat → Int32, (∀ j, j < 99 → lv j = 0) → ∃ n32, wX_markLive_32 post q0 q1 q2 q3 q4 q5 th ce ro ch (nI (zft s)) (nI (zno s)) n32 1 0 (zky s) (fun w_ => nI (zL s w_)) (fun w_ => nI (zR s w_)) (fun w_ => lN (zU s w_)) (fun w_ => nI (zF s w_)) lv (upd st 0 0) (fun w_ => nI (zN s w_)) (fun w_ => nI (zO s w_)) (fun w_ => nI (zC s w_)) (fun w_ => lN (zW s w_)) ph kd ky an ba lo J SG SP SL GW PW) :
    ∀ d i m : Nat, ∀ lv : Nat → Int32, i + d = 99 → d < m → (∀ j, j < i → lv j = 0) → wX_markLive_2 post q0 q1 q2 q3 q4 q5 th ce ro ch (nI (zft s)) (nI (zno s)) m (nI i) (zky s) (fun w_ => nI (zL s w_)) (fun w_ => nI (zR s w_)) (fun w_ => lN (zU s w_)) (fun w_ => nI (zF s w_)) lv st (fun w_ => nI (zN s w_)) (fun w_ => nI (zO s w_)) (fun w_ => nI (zC s w_)) (fun w_ => lN (zW s w_)) ph kd ky an ba lo J SG SP SL GW PW := by
  intro d
  induction d with
  | zero =>
    intro i m lv hd hm hj
    obtain ⟨m, rfl⟩ : ∃ k, m = k + 1 := ⟨m - 1, by omega⟩
    exact br_t (nI_le (a := 99) (by omega) (by omega)) (nm_e (hp lv (fun j hj' => hj j (by omega))))
  | succ d ih =>
    intro i m lv hd hm hj
    obtain ⟨m, rfl⟩ : ∃ k, m = k + 1 := ⟨m - 1, by omega⟩
    refine br_f (nI_ge (b := 99) (by omega) (by decide)) ⟨z_in (by omega), ?_⟩
    rw [z_cl (show i < 2147483648 by omega), zn0]
    refine nm_e (nm_r (nI_1 i) (ih (i + 1) m _ (by omega) (by omega) (fun j hj' => ?_)))
    by_cases e : j = i
    · rw [e, pk_us]
    · rw [pk_un e]; exact hj j (by omega)
theorem zw_ml32 {post : SX → Prop} (T : zt_T (zK s) (gl g) (gr g) (gn g)) (Lk : zLk s g) (hp : ∀ lv st : Nat → Int32, (∀ n, n < 99 → (lv n = 0 ↔ n ∉ gn g)) → post (q0, q1, q2, q3, q4, q5, th, ce, ro, ch, nI (zft s), nI (zno s), zky s, fun w_ => nI (zL s w_), fun w_ => nI (zR s w_), fun w_ => lN (zU s w_), fun w_ => nI (zF s w_), lv, st, fun w_ => nI (zN s w_), fun w_ => nI (zO s w_), fun w_ => nI (zC s w_), fun w_ => lN (zW s w_), ph, kd, ky, an, ba, lo, J, SG, SP, SL, GW, PW)) :
    ∀ d m tp vs : Nat, ∀ (V : List Nat) (Sf : Nat → Nat) (lv st : Nat → Int32), vs + d = 99 → d < m → V.length = vs → zDF (gl g) (gr g) (gn g) V tp Sf → (∀ i, i < tp → st i = nI (Sf i)) → (∀ n, n < 99 → (lv n = 0 ↔ n ∉ V)) →
      wX_markLive_32 post q0 q1 q2 q3 q4 q5 th ce ro ch (nI (zft s)) (nI (zno s)) m (nI tp) (nI vs) (zky s) (fun w_ => nI (zL s w_)) (fun w_ => nI (zR s w_)) (fun w_ => lN (zU s w_)) (fun w_ => nI (zF s w_)) lv st (fun w_ => nI (zN s w_)) (fun w_ => nI (zO s w_)) (fun w_ => nI (zC s w_)) (fun w_ => lN (zW s w_)) ph kd ky an ba lo J SG SP SL GW PW := by
  intro d
  induction d with
  | zero =>
    intro m tp vs V Sf lv st hd hm hV hD hst hlv
    obtain ⟨m, rfl⟩ : ∃ k, m = k + 1 := ⟨m - 1, by omega⟩
    have hlen := zDF_len T hD
    have e0 : tp = 0 := by omega
    subst e0
    refine br_t (nI_le (a := 99) (by omega) (by omega)) (hp lv st (fun n hn => ?_))
    rw [hlv n hn, zDF_end T hD n]
  | succ d ih =>
    intro m tp vs V Sf lv st hd hm hV hD hst hlv
    obtain ⟨m, rfl⟩ : ∃ k, m = k + 1 := ⟨m - 1, by omega⟩
    refine br_f (nI_ge (b := 99) (by omega) (by decide)) ?_
    rcases Nat.eq_zero_or_pos tp with e0 | e0
    · subst e0
      refine br_t (by decide) (hp lv st (fun n hn => ?_))
      rw [hlv n hn, zDF_end T hD n]
    · obtain ⟨q, rfl⟩ : ∃ k, tp = k + 1 := ⟨tp - 1, by omega⟩
      have hlen := zDF_len T hD
      have hq := hD.2.2.1 q (by omega)
      have hq9 := zt_lt T hq.1
      have hLk := Lk _ hq.1
      have lv' : ∀ n, n < 99 → (upd lv (Sf q) 1 n = 0 ↔ n ∉ Sf q :: V) := by
        intro n hn
        rw [List.mem_cons]
        by_cases e : n = Sf q
        · rw [e, pk_us]
          exact ⟨fun z => absurd z (by decide), fun z => absurd (Or.inl rfl) z⟩
        · rw [pk_un e, hlv n hn]
          exact ⟨fun z w => w.elim e z, fun z w => z (Or.inr w)⟩
      refine br_f (nI_nle (by omega) (by omega)) (nm_r (pk_m1 q) ⟨z_in (by omega), ?_⟩)
      rw [z_cl (show q < 2147483648 by omega), hst q (by omega), zn1]
      refine nm_e ⟨z_in hq9, ?_⟩
      rw [z_cl (show Sf q < 2147483648 by omega)]
      refine nm_e (zw_inner hq9 ?_ (fun e => br_t rfl (nm_r (nI_1 vs) ?_)) (fun e => br_f (by decide) ?_))
      · by_cases e : zL s (Sf q) = 4294967295
        · omega
        · rw [(hLk.2 e).1]
          have := zt_lt T (zt_ch T hq.1 (fun z => e (hLk.1.mpr z))).1
          omega
      · exact ih m q (vs + 1) (Sf q :: V) Sf _ st (by omega) (by omega) (by rw [List.length_cons, hV]) (zDF_leaf T hD (hLk.1.mp e)) (fun i hi => hst i (by omega)) lv'
      · have hi : gl g (Sf q) ≠ 4294967295 := fun z => e (hLk.1.mpr z)
        have hD' := zDF_in T hD hi
        have hlen' := zDF_len T hD'
        rw [List.length_cons] at hlen'
        have e2 : nI q + 2 = nI (q + 2) := nI_add q 2
        rw [nI_1 q, z_cl (show q + 1 < 2147483648 by omega)]
        dsimp only
        rw [(hLk.2 e).1, (hLk.2 e).2]
        refine ⟨z_in hq9, z_in (by omega), nm_e ⟨z_in hq9, z_in (by omega), nm_e (nm_r e2 (nm_r (nI_1 vs) ?_))⟩⟩
        refine ih m (q + 2) (vs + 1) (Sf q :: V) _ _ _ (by omega) (by omega) (by rw [List.length_cons, hV]) hD' (fun i hi => ?_) lv'
        by_cases c1 : i = q + 1
        · rw [c1, pk_us, zu_s]
        · rw [pk_un c1, zu_n c1]
          by_cases c2 : i = q
          · rw [c2, pk_us, zu_s]
          · rw [pk_un c2, zu_n c2]; exact hst i (by omega)
theorem zw_mark {post : SX → Prop} (T : zt_T (zK s) (gl g) (gr g) (gn g)) (Lk : zLk s g) (hp : ∀ lv st : Nat → Int32, (∀ n, n < 99 → (lv n = 0 ↔ n ∉ gn g)) → post (q0, q1, q2, q3, q4, q5, th, ce, ro, ch, nI (zft s), nI (zno s), zky s, fun w_ => nI (zL s w_), fun w_ => nI (zR s w_), fun w_ => lN (zU s w_), fun w_ => nI (zF s w_), lv, st, fun w_ => nI (zN s w_), fun w_ => nI (zO s w_), fun w_ => nI (zC s w_), fun w_ => lN (zW s w_), ph, kd, ky, an, ba, lo, J, SG, SP, SL, GW, PW)) : wpX_markLive post (q0, q1, q2, q3, q4, q5, th, ce, ro, ch, nI (zft s), nI (zno s), zky s, fun w_ => nI (zL s w_), fun w_ => nI (zR s w_), fun w_ => lN (zU s w_), fun w_ => nI (zF s w_), lv, st, fun w_ => nI (zN s w_), fun w_ => nI (zO s w_), fun w_ => nI (zC s w_), fun w_ => lN (zW s w_), ph, kd, ky, an, ba, lo, J, SG, SP, SL, GW, PW) := by
  refine ⟨100, zw_ml2 (fun lv hlv => ⟨100, ?_⟩) 99 0 100 lv rfl (by omega) (fun j hj => absurd hj (Nat.not_lt_zero j))⟩
  refine zw_ml32 T Lk hp 99 100 1 0 [] (fun _ => 0) lv _ rfl (by omega) rfl (zDF_0 T rfl) (fun i hi => ?_) (fun n hn => ⟨fun _ => List.not_mem_nil, fun _ => hlv n hn⟩)
  rw [show i = 0 by omega, pk_us]; rfl
theorem zw_rc11 {post : SX → Prop} (hlv : ∀ n, n < 99 → (lv n = 0 ↔ n ∉ gn g)) (hp : ∀ (ft : Nat) (F : Nat → Nat), zRc (gn g) 99 ft F → post (q0, q1, q2, q3, q4, q5, th, ce, ro, ch, nI ft, nI (zno s), zky s, fun w_ => nI (zL s w_), fun w_ => nI (zR s w_), fun w_ => lN (zU s w_), fun w_ => nI (F w_), lv, st, fun w_ => nI (zN s w_), fun w_ => nI (zO s w_), fun w_ => nI (zC s w_), fun w_ => lN (zW s w_), ph, kd, ky, an, ba, lo, J, SG, SP, SL, GW, PW)) :
    ∀ d i m ft : Nat, ∀ F : Nat → Nat, i + d = 99 → d < m → zRc (gn g) i ft F → wX_reclaimNodes_11 post q0 q1 q2 q3 q4 q5 th ce ro ch (nI (zno s)) m (nI i) (nI ft) (zky s) (fun w_ => nI (zL s w_)) (fun w_ => nI (zR s w_)) (fun w_ => lN (zU s w_)) (fun w_ => nI (F w_)) lv st (fun w_ => nI (zN s w_)) (fun w_ => nI (zO s w_)) (fun w_ => nI (zC s w_)) (fun w_ => lN (zW s w_)) ph kd ky an ba lo J SG SP SL GW PW := by
  intro d
  induction d with
  | zero =>
    intro i m ft F hd hm h
    obtain ⟨m, rfl⟩ : ∃ k, m = k + 1 := ⟨m - 1, by omega⟩
    have e : i = 99 := by omega
    subst e
    exact br_t (nI_le (a := 99) (by omega) (by omega)) (hp ft F h)
  | succ d ih =>
    intro i m ft F hd hm h
    obtain ⟨m, rfl⟩ : ∃ k, m = k + 1 := ⟨m - 1, by omega⟩
    obtain ⟨h1, h2, h3, h4⟩ := h
    refine br_f (nI_ge (b := 99) (by omega) (by decide)) ⟨z_in (by omega), ?_⟩
    rw [z_cl (show i < 2147483648 by omega), hlv i (by omega)]
    refine br_c (fun c => ⟨z_in (by omega), ?_⟩) (fun c => nm_r (nI_1 i) (ih (i + 1) m ft F (by omega) (by omega) ⟨by omega, fun k hk => ⟨by have := (h2 k hk).1; omega, (h2 k hk).2⟩, h3, fun j hj hn => ?_⟩))
    · rw [z_cl (show ft < 2147483648 by omega)]
      refine nm_r (zu_I F ft i) (nm_r (nI_1 ft) (nm_r (nI_1 i) (ih (i + 1) m (ft + 1) _ (by omega) (by omega) ⟨by omega, fun k hk => ?_, fun k l hkl hl => ?_, fun j hj hn => ?_⟩)))
      · by_cases e : k = ft
        · rw [e, zu_s]; exact ⟨by omega, c⟩
        · rw [zu_n e]; exact ⟨by have := (h2 k (by omega)).1; omega, (h2 k (by omega)).2⟩
      · by_cases e : l = ft
        · rw [e, zu_s, zu_n (by omega)]
          have := (h2 k (by omega)).1
          omega
        · rw [zu_n e, zu_n (by omega)]; exact h3 k l hkl (by omega)
      · by_cases e : j = i
        · exact ⟨ft, by omega, by rw [zu_s, e]⟩
        · obtain ⟨k, hk, ek⟩ := h4 j (by omega) hn
          exact ⟨k, by omega, by rw [zu_n (by omega)]; exact ek⟩
    · by_cases e : j = i
      · rw [e] at hn; exact absurd hn c
      · exact h4 j (by omega) hn
theorem zw_reclaim {post : SX → Prop} (T : zt_T (zK s) (gl g) (gr g) (gn g)) (Lk : zLk s g) (hp : ∀ (lv st : Nat → Int32) (ft : Nat) (F : Nat → Nat), zRc (gn g) 99 ft F → post (q0, q1, q2, q3, q4, q5, th, ce, ro, ch, nI ft, nI (zno s), zky s, fun w_ => nI (zL s w_), fun w_ => nI (zR s w_), fun w_ => lN (zU s w_), fun w_ => nI (F w_), lv, st, fun w_ => nI (zN s w_), fun w_ => nI (zO s w_), fun w_ => nI (zC s w_), fun w_ => lN (zW s w_), ph, kd, ky, an, ba, lo, J, SG, SP, SL, GW, PW)) : wpX_reclaimNodes post (q0, q1, q2, q3, q4, q5, th, ce, ro, ch, nI (zft s), nI (zno s), zky s, fun w_ => nI (zL s w_), fun w_ => nI (zR s w_), fun w_ => lN (zU s w_), fun w_ => nI (zF s w_), lv, st, fun w_ => nI (zN s w_), fun w_ => nI (zO s w_), fun w_ => nI (zC s w_), fun w_ => lN (zW s w_), ph, kd, ky, an, ba, lo, J, SG, SP, SL, GW, PW) := by
  unfold wpX_reclaimNodes
  dsimp only
  refine zw_mark T Lk (fun lv st hlv => ⟨100, ?_⟩)
  exact zw_rc11 hlv (fun ft F h => hp lv st ft F h) 99 0 100 0 (zF s) rfl (by omega) ⟨by omega, fun k hk => absurd hk (Nat.not_lt_zero k), fun k l _ hl => absurd hl (Nat.not_lt_zero l), fun j hj => absurd hj (Nat.not_lt_zero j)⟩
end
end
section
/-! renew -/
section
variable {q0 q1 q2 q3 q4 q5 ch : Int32} {th ce ro : Nat} {s : CS} {lv st ph kd ky an ba lo : Nat → Int32} {J SG SP SL GW PW : Nat → Nat}
variable {k B : Nat} {g : GS} {sl : Nat → Int32}
theorem zidle (I : zI B s g) (hO : zOwn s ph J) (h : ∀ t, t < 8 → ph t = 0) : (∀ n, n ∈ gn g → zL s n ≠ 4294967295 → zU s n % 512 = 0 ∧ zL s n = gl g n ∧ zR s n = gr g n) ∧ zLk s g := by
  have cl : ∀ n, n ∈ gn g → zL s n ≠ 4294967295 → zU s n % 512 = 0 ∧ zL s n = gl g n ∧ zR s n = gr g n := by
    intro n hn hl
    rcases (zI_N I n hn).2.2 hl with h1 | ⟨o, ho, e1, e2⟩
    · exact h1
    · obtain ⟨t, ht, e3, _⟩ := hO o ho (by unfold zPd; rw [e1]; exact e2)
      rw [h t ht] at e3
      exact absurd e3 (by decide)
  exact ⟨cl, fun n hn => ⟨(zI_N I n hn).1, fun hl => (cl n hn hl).2⟩⟩
theorem zs_core {ft : Nat} {F N O C W : Nat → Nat} (T : zt_T (zK s) (gl g) (gr g) (gn g)) (Lk : zLk s g) (cl : ∀ n, n ∈ gn g → zL s n ≠ 4294967295 → zU s n % 512 = 0) (hU : ∀ n, zU s n < 512 * B) (hF : zRc (gn g) 99 ft F) :
    zI B (ft, 0, zky s, zL s, zR s, zU s, F, N, O, C, W) g := by
  obtain ⟨f1, f2, f3, f4⟩ := hF
  have nf : ∀ n, n ∈ gn g → ¬ zFr (ft, 0, zky s, zL s, zR s, zU s, F, N, O, C, W) n := by
    rintro n hn ⟨i, hi, e⟩
    have hi : i < ft := hi
    have e : F i = n := e
    rw [← e] at hn
    exact (f2 i hi).2 hn
  have inn : ∀ n, n < 99 → ¬ zFr (ft, 0, zky s, zL s, zR s, zU s, F, N, O, C, W) n → n ∈ gn g := by
    intro n hn hf
    by_cases c : n ∈ gn g
    · exact c
    · obtain ⟨i, hi, e⟩ := f4 n hn c
      exact absurd ⟨i, hi, e⟩ hf
  refine ⟨T, ?_, ?_, ?_, ⟨f1, fun i hi => (f2 i hi).1, f3⟩, hU⟩
  · intro n hn hf hl
    have hl : zL s n ≠ 4294967295 := hl
    have hm := inn n hn hf
    have c := (Lk n hm).2 hl
    have ch := zt_ch T hm (fun z => hl ((Lk n hm).1.mpr z))
    have cu := cl n hm hl
    show zL s n < 99 ∧ zR s n < 99 ∧ (zU s n % 4 ≠ 0 → zU s n / 4 % 128 < 0)
    rw [c.1, c.2]
    exact ⟨zt_lt T ch.1, zt_lt T ch.2.1, fun z => by omega⟩
  · intro n hn
    refine ⟨(Lk n hn).1, nf n hn, fun hl => Or.inl ⟨cl n hn hl, (Lk n hn).2 hl⟩⟩
  · intro o ho
    exact absurd ho (Nat.not_lt_zero o)
theorem zs_renew {ft : Nat} {F : Nat → Nat} (R : zRel k th ce ro s g ph kd ky lo J SG SP SL GW PW sl) (h : ∀ t, t < 8 → ph t = 0) (hF : zRc (gn g) 99 ft F) :
    zRel (k + 4) th ce (ce - zcn (zfull sl) 32) (ft, 0, zky s, zL s, zR s, zU s, F, zN s, zO s, zC s, zW s) g ph kd ky lo J SG SP SL GW PW sl := by
  obtain ⟨a1, a2, a3, a4, a5, a6, a7⟩ := R
  obtain ⟨cl, Lk⟩ := zidle a3 a4.2.1 h
  obtain ⟨c1, c2, c3, c4, c5⟩ := a6
  have hlen := zRc_len hF
  have hI := zs_core (N := zN s) (O := zO s) (C := zC s) (W := zW s) (zI_T a3) Lk (fun n hn hl => (cl n hn hl).1) (zI_U a3) hF
  refine ⟨a1, a2, zI_B hI (by omega), ⟨fun t ht => by rw [h t ht]; exact zT1_0, fun o ho => absurd ho (Nat.not_lt_zero o), a4.2.2⟩, a5, ⟨c1, ?_, ?_, ?_, c5⟩, a7⟩
  · show 3 * (ce - zcn (zfull sl) 32) ≤ ft
    omega
  · show 0 + 2 * (ce - zcn (zfull sl) 32) + zcn (zfull sl) 32 ≤ 64
    omega
  · omega
theorem zw_ren2 {post : Int32 → SX → Prop} (R : zRel k th ce ro s g ph kd ky lo J SG SP SL GW PW sl) (hk : k ≤ 2050) (hw : ∀ t, t < th → ph t ≠ 0 → post (-2) (q0, q1, q2, q3, q4, q5, nI th, nI ce, nI ro, ch, nI (zft s), nI (zno s), zky s, fun w_ => nI (zL s w_), fun w_ => nI (zR s w_), fun w_ => lN (zU s w_), fun w_ => nI (zF s w_), lv, st, fun w_ => nI (zN s w_), fun w_ => nI (zO s w_), fun w_ => nI (zC s w_), fun w_ => lN (zW s w_), ph, kd, ky, an, ba, lo, fun w_ => nI (J w_), fun w_ => nI (SG w_), fun w_ => nI (SP w_), fun w_ => nI (SL w_), fun w_ => lN (GW w_), fun w_ => lN (PW w_)))
    (h4 : (∀ t, t < 8 → ph t = 0) → ∀ (lv st : Nat → Int32) (ft : Nat) (F : Nat → Nat), zRc (gn g) 99 ft F → post 4 (q0, q1, q2, q3, q4, q5, nI th, nI ce, nI (ce - zcn (zfull sl) 32), ch, nI (zft ((ft, 0, zky s, zL s, zR s, zU s, F, zN s, zO s, zC s, zW s))), nI (zno ((ft, 0, zky s, zL s, zR s, zU s, F, zN s, zO s, zC s, zW s))), zky ((ft, 0, zky s, zL s, zR s, zU s, F, zN s, zO s, zC s, zW s)), fun w_ => nI (zL ((ft, 0, zky s, zL s, zR s, zU s, F, zN s, zO s, zC s, zW s)) w_), fun w_ => nI (zR ((ft, 0, zky s, zL s, zR s, zU s, F, zN s, zO s, zC s, zW s)) w_), fun w_ => lN (zU ((ft, 0, zky s, zL s, zR s, zU s, F, zN s, zO s, zC s, zW s)) w_), fun w_ => nI (zF ((ft, 0, zky s, zL s, zR s, zU s, F, zN s, zO s, zC s, zW s)) w_), lv, st, fun w_ => nI (zN ((ft, 0, zky s, zL s, zR s, zU s, F, zN s, zO s, zC s, zW s)) w_), fun w_ => nI (zO ((ft, 0, zky s, zL s, zR s, zU s, F, zN s, zO s, zC s, zW s)) w_), fun w_ => nI (zC ((ft, 0, zky s, zL s, zR s, zU s, F, zN s, zO s, zC s, zW s)) w_), fun w_ => lN (zW ((ft, 0, zky s, zL s, zR s, zU s, F, zN s, zO s, zC s, zW s)) w_), ph, kd, ky, an, ba, lo, fun w_ => nI (J w_), fun w_ => nI (SG w_), fun w_ => nI (SP w_), fun w_ => nI (SL w_), fun w_ => lN (GW w_), fun w_ => lN (PW w_))) :
    ∀ d i m : Nat, i + d = th → d < m → (∀ j, j < i → ph j = 0) → wX_renew_2 post q0 q1 q2 q3 q4 q5 (nI th) (nI ce) (nI ro) ch (nI (zft s)) (nI (zno s)) (zky s) (fun w_ => nI (zL s w_)) (fun w_ => nI (zR s w_)) (fun w_ => lN (zU s w_)) (fun w_ => nI (zF s w_)) lv st (fun w_ => nI (zN s w_)) (fun w_ => nI (zO s w_)) (fun w_ => nI (zC s w_)) (fun w_ => lN (zW s w_)) ph kd ky an ba lo (fun w_ => nI (J w_)) (fun w_ => nI (SG w_)) (fun w_ => nI (SP w_)) (fun w_ => nI (SL w_)) (fun w_ => lN (GW w_)) (fun w_ => lN (PW w_)) m (nI i) := by
  have R' := R
  obtain ⟨a1, a2, a3, a4, a5, a6, a7⟩ := R'
  intro d
  induction d with
  | zero =>
    intro i m hd hm hj
    obtain ⟨m, rfl⟩ : ∃ k, m = k + 1 := ⟨m - 1, by omega⟩
    have hall : ∀ t, t < 8 → ph t = 0 := by
      intro t ht
      rcases Nat.lt_or_ge t th with c | c
      · exact hj t (by omega)
      · exact a4.2.2 t c ht
    obtain ⟨cl, Lk⟩ := zidle a3 a4.2.1 hall
    have e : nI ce - nI (zcn (zfull sl) 32) = nI (ce - zcn (zfull sl) 32) := pk_sub (by have := a6.2.2.2; omega)
    refine br_t (nI_le (by omega) (by omega)) (zw_reclaim (zI_T a3) Lk (fun lv st ft F hF => ?_))
    have hI := zs_core (N := zN s) (O := zO s) (C := zC s) (W := zW s) (zI_T a3) Lk (fun n hn hl => (cl n hn hl).1) (zI_U a3) hF
    exact zw_size (s := (ft, 0, zky s, zL s, zR s, zU s, F, zN s, zO s, zC s, zW s)) hI (by omega) (Nat.zero_le 64) a5 (nm_r e (h4 hall lv st ft F hF))
  | succ d ih =>
    intro i m hd hm hj
    obtain ⟨m, rfl⟩ : ∃ k, m = k + 1 := ⟨m - 1, by omega⟩
    refine br_f (nI_ge (by omega) (by omega)) ⟨z_in (by omega), ?_⟩
    rw [z_cl (show i < 2147483648 by omega)]
    refine br_c (fun c => nm_r (nI_1 i) (ih (i + 1) m (by omega) (by omega) (fun j hj' => ?_))) (fun c => hw i (by omega) c)
    rcases Nat.lt_or_ge j i with q | q
    · exact hj j q
    · rw [show j = i by omega]; exact c
theorem zy_ren2 {post : Int32 → SY → Prop} (hce : zcn (zfull sl) 32 ≤ ce) (hw : ∀ t, t < 8 → ph t ≠ 0 → post (-2) (nI th, nI ce, nI ro, ch, sl, ph, kd, ky, an, ba, lo)) (h4 : (∀ t, t < 8 → ph t = 0) → post 4 (nI th, nI ce, nI (ce - zcn (zfull sl) 32), ch, sl, ph, kd, ky, an, ba, lo)) :
    ∀ d i m : Nat, i + d = 8 → d < m → (∀ j, j < i → ph j = 0) → wY_renew_2 post (nI th) (nI ce) (nI ro) ch sl ph kd ky an ba lo m (nI i) := by
  intro d
  induction d with
  | zero =>
    intro i m hd hm hj
    obtain ⟨m, rfl⟩ : ∃ k, m = k + 1 := ⟨m - 1, by omega⟩
    have e : nI ce - nI (zcn (zfull sl) 32) = nI (ce - zcn (zfull sl) 32) := pk_sub hce
    exact br_t (nI_le (a := 8) (by omega) (by omega)) (zy_size (nm_r e (h4 (fun t ht => hj t (by omega)))))
  | succ d ih =>
    intro i m hd hm hj
    obtain ⟨m, rfl⟩ : ∃ k, m = k + 1 := ⟨m - 1, by omega⟩
    refine br_f (nI_ge (b := 8) (by omega) (by decide)) ⟨z_in (by omega), ?_⟩
    rw [z_cl (show i < 2147483648 by omega)]
    refine br_c (fun c => nm_r (nI_1 i) (ih (i + 1) m (by omega) (by omega) (fun j hj' => ?_))) (fun c => hw i (by omega) c)
    rcases Nat.lt_or_ge j i with q | q
    · exact hj j q
    · rw [show j = i by omega]; exact c
end
theorem i_vc_renew {k : Nat} {u : SX} {v : SY} (I : i_Rel k u v) (hk : k + 4 ≤ 2050) : wpX_renew (fun r u' => wpY_renew (fun r' v' => r' = r ∧ i_Rel (k + 4) u' v') v) u := by
  refine I (fun u v => wpX_renew (fun r u' => wpY_renew (fun r' v' => r' = r ∧ i_Rel (k + 4) u' v') v) u) ?_
  intro q0 q1 q2 q3 q4 q5 ch th ce ro s g lv st ph kd ky an ba lo sl J SG SP SL GW PW R
  have R' := R
  obtain ⟨a1, a2, a3, a4, a5, a6, a7⟩ := R'
  have hce : zcn (zfull sl) 32 ≤ ce := by have := a6.2.2.2; omega
  refine ⟨100, zw_ren2 R (by omega) (fun t ht e => ?_) (fun hall lv st ft F hF => ?_) th 0 100 (by omega) (by omega) (fun j hj => absurd hj (Nat.not_lt_zero j))⟩
  · exact ⟨100, zy_ren2 hce (fun _ _ _ => ⟨rfl, zR_in (zR_up R)⟩) (fun z => absurd (z t (by omega)) e) 8 0 100 (by omega) (by omega) (fun j hj => absurd hj (Nat.not_lt_zero j))⟩
  · exact ⟨100, zy_ren2 hce (fun t ht e => absurd (hall t ht) e) (fun _ => ⟨rfl, zR_in (zs_renew R hall hF)⟩) 8 0 100 (by omega) (by omega) (fun j hj => absurd hj (Nat.not_lt_zero j))⟩
end
section
/-! the constructors -/
def zcl (v a b : Int32) : Int32 := if a ≤ v then (if v ≤ b then v else b) else a
theorem zw_clamp {post : Int32 → Prop} {u : SX} {v a b : Int32} (hp : post (zcl v a b)) : wpX_clamp post u v a b := by
  obtain ⟨x1, x2, x3, x4, x5, x6, x7, x8, x9, x10, x11, x12, x13, x14, x15, x16, x17, x18, x19, x20, x21, x22, x23, x24, x25, x26, x27, x28, x29, x30, x31, x32, x33, x34, x35⟩ := u
  unfold zcl at hp
  refine br_c (fun c => br_c (fun d => ?_) (fun d => ?_)) (fun c => ?_)
  · rw [if_pos c, if_pos d] at hp; exact hp
  · rw [if_pos c, if_neg d] at hp; exact hp
  · rw [if_neg c] at hp; exact hp
theorem zcl_n {v : Int32} {a b : Nat} (hab : a ≤ b) (hb : b < 1000) : ∃ n, a ≤ n ∧ n ≤ b ∧ zcl v (nI a) (nI b) = nI n := by
  unfold zcl
  by_cases c : nI a ≤ v
  · rw [if_pos c]
    have h0 : ¬ v < 0 := by
      intro z
      rw [Int32.lt_iff_toInt_lt] at z
      rw [Int32.le_iff_toInt_le, nI_toInt (by omega)] at c
      have : (0 : Int32).toInt = 0 := by decide
      omega
    obtain ⟨j, hj, rfl⟩ := nI_of h0
    rw [nI_leI (by omega) hj] at c
    by_cases d : nI j ≤ nI b
    · rw [if_pos d]
      rw [nI_leI hj (by omega)] at d
      exact ⟨j, c, d, rfl⟩
    · rw [if_neg d]; exact ⟨b, hab, Nat.le_refl b, rfl⟩
  · rw [if_neg c]; exact ⟨a, Nat.le_refl a, hab, rfl⟩
/-- an array filled from its start -/
def zfill (f : Nat → Int32) (v : Int32) : Nat → Nat → Int32
  | 0 => f
  | n + 1 => upd (zfill f v n) n v
theorem zfill_at {f : Nat → Int32} {v : Int32} : ∀ n i, i < n → zfill f v n i = v
  | 0, i, h => by omega
  | n + 1, i, h => by
    show upd (zfill f v n) n v i = v
    by_cases e : i = n
    · rw [e, pk_us]
    · rw [pk_un e]; exact zfill_at n i (by omega)
section
variable {q0 q1 q2 q3 q4 q5 th ce ro ch : Int32} {s : CS} {lv st ph kd ky an ba lo J SG SP SL : Nat → Int32} {GW PW : Nat → Int64}
theorem zw_i284 {post : SX → Prop} (hp : post (q0, q1, q2, q3, q4, q5, th, ce, ro, ch, nI (zft s), nI (zno s), zky s, fun w_ => nI (zL s w_), fun w_ => nI (zR s w_), fun w_ => lN (zU s w_), fun w_ => nI (zF s w_), lv, st, fun w_ => nI (zN s w_), fun w_ => nI (zO s w_), fun w_ => nI (zC s w_), fun w_ => lN (zW s w_), ph, kd, zfill ky 2147483647 8, zfill an 3 8, ba, lo, J, SG, SP, SL, GW, PW)) : ∀ d i m : Nat, i + d = 8 → d < m → wX_init_284 post q0 q1 q2 q3 q4 q5 th ce ro ch (nI (zft s)) (nI (zno s)) m (nI i) (zky s) (fun w_ => nI (zL s w_)) (fun w_ => nI (zR s w_)) (fun w_ => lN (zU s w_)) (fun w_ => nI (zF s w_)) lv st (fun w_ => nI (zN s w_)) (fun w_ => nI (zO s w_)) (fun w_ => nI (zC s w_)) (fun w_ => lN (zW s w_)) ph kd (zfill ky 2147483647 i) (zfill an 3 i) ba lo J SG SP SL GW PW := by
  intro d
  induction d with
  | zero =>
    intro i m hd hm
    obtain ⟨m, rfl⟩ : ∃ k, m = k + 1 := ⟨m - 1, by omega⟩
    have e : i = 8 := by omega
    subst e
    exact br_t (nI_le (a := 8) (by omega) (by omega)) hp
  | succ d ih =>
    intro i m hd hm
    obtain ⟨m, rfl⟩ : ∃ k, m = k + 1 := ⟨m - 1, by omega⟩
    refine br_f (nI_ge (b := 8) (by omega) (by decide)) ⟨z_in (by omega), ?_⟩
    rw [z_cl (show i < 2147483648 by omega)]
    exact nm_e ⟨z_in (by omega), nm_e (nm_r (nI_1 i) (ih (i + 1) m (by omega) (by omega)))⟩
end
section
variable {th ce ro ch : Int32} {sl ph kd ky an ba lo : Nat → Int32}
theorem zy_i148 {post : SY → Prop} (hp : post (th, ce, ro, ch, sl, ph, kd, zfill ky 2147483647 8, zfill an 3 8, ba, lo)) : ∀ d i m : Nat, i + d = 8 → d < m → wY_init_148 post th ce ro ch m (nI i) sl ph kd (zfill ky 2147483647 i) (zfill an 3 i) ba lo := by
  intro d
  induction d with
  | zero =>
    intro i m hd hm
    obtain ⟨m, rfl⟩ : ∃ k, m = k + 1 := ⟨m - 1, by omega⟩
    have e : i = 8 := by omega
    subst e
    exact br_t (nI_le (a := 8) (by omega) (by omega)) hp
  | succ d ih =>
    intro i m hd hm
    obtain ⟨m, rfl⟩ : ∃ k, m = k + 1 := ⟨m - 1, by omega⟩
    refine br_f (nI_ge (b := 8) (by omega) (by decide)) ⟨z_in (by omega), ?_⟩
    rw [z_cl (show i < 2147483648 by omega)]
    exact nm_e ⟨z_in (by omega), nm_e (nm_r (nI_1 i) (ih (i + 1) m (by omega) (by omega)))⟩
theorem zy_i126 {post : SY → Prop} (hp : post (th, ce, ro, ch, zfill sl 2147483647 32, ph, kd, zfill ky 2147483647 8, zfill an 3 8, ba, lo)) : ∀ d i m : Nat, i + d = 32 → d < m → wY_init_126 post th ce ro ch m (nI i) (zfill sl 2147483647 i) ph kd ky an ba lo := by
  intro d
  induction d with
  | zero =>
    intro i m hd hm
    obtain ⟨m, rfl⟩ : ∃ k, m = k + 1 := ⟨m - 1, by omega⟩
    have e : i = 32 := by omega
    subst e
    exact br_t (nI_le (a := 32) (by omega) (by omega)) ⟨9, zy_i148 (sl := zfill sl 2147483647 32) hp 8 0 9 rfl (by omega)⟩
  | succ d ih =>
    intro i m hd hm
    obtain ⟨m, rfl⟩ : ∃ k, m = k + 1 := ⟨m - 1, by omega⟩
    refine br_f (nI_ge (b := 32) (by omega) (by decide)) ⟨z_in (by omega), ?_⟩
    rw [z_cl (show i < 2147483648 by omega)]
    exact nm_e (nm_r (nI_1 i) (ih (i + 1) m (by omega) (by omega)))
end
theorem zy_init {post : SY → Prop} {k0 k1 : Int32}
    (hp : post (zcl k0 2 8, zcl k1 8 32, zcl k1 8 32, 0, zfill (fun _ => 0) 2147483647 32, fun _ => 0, fun _ => 0, zfill (fun _ => 0) 2147483647 8, zfill (fun _ => 0) 3 8, fun _ => 0, fun _ => 0)) : wpY_init post k0 k1 := by
  have h126 : ∀ th ce : Int32, th = zcl k0 2 8 → ce = zcl k1 8 32 → ∃ n126 : Nat, wY_init_126 post th ce ce 0 n126 0 (fun _ => 0) (fun _ => 0) (fun _ => 0) (fun _ => 0) (fun _ => 0) (fun _ => 0) (fun _ => 0) := by
    rintro th ce rfl rfl
    exact ⟨33, zy_i126 (sl := fun _ => 0) (ky := fun _ => 0) (an := fun _ => 0) hp 32 0 33 rfl (by omega)⟩
  have h87 : ∀ th : Int32, th = zcl k0 2 8 → wY_init_87 post k1 th 0 0 0 (fun _ => 0) (fun _ => 0) (fun _ => 0) (fun _ => 0) (fun _ => 0) (fun _ => 0) (fun _ => 0) := by
    intro th e
    refine br_c (fun c => br_c (fun d => h126 _ _ e ?_) (fun d => h126 _ _ e ?_)) (fun c => br_c (fun d => h126 _ _ e ?_) (fun d => ?_))
    · unfold zcl; rw [if_pos c, if_pos d]
    · unfold zcl; rw [if_pos c, if_neg d]
    · unfold zcl; rw [if_neg c]
    · exfalso
      rw [Int32.le_iff_toInt_le] at c d
      have e1 : (8 : Int32).toInt = 8 := by decide
      have e2 : (32 : Int32).toInt = 32 := by decide
      omega
  refine br_c (fun c => br_c (fun d => h87 _ ?_) (fun d => h87 _ ?_)) (fun c => br_c (fun d => h87 _ ?_) (fun d => ?_))
  · unfold zcl; rw [if_pos c, if_pos d]
  · unfold zcl; rw [if_pos c, if_neg d]
  · unfold zcl; rw [if_neg c]
  · exfalso
    rw [Int32.le_iff_toInt_le] at c d
    have e1 : (2 : Int32).toInt = 2 := by decide
    have e2 : (8 : Int32).toInt = 8 := by decide
    omega
/-! the first tree -/
def z0 : Nat → Nat := fun _ => 0
def z00 : Nat → Int32 := fun _ => 0
def zsA : CS := (0, 0, z00, z0, z0, z0, z0, z0, z0, z0, z0)
def zsB : CS := (0, 0, upd z00 1 2147483646, zu z0 1 4294967295, zu z0 1 4294967295, z0, z0, z0, z0, z0, z0)
def zsC : CS := (0, 0, upd (upd z00 1 2147483646) 2 2147483647, zu (zu z0 1 4294967295) 2 4294967295, zu (zu z0 1 4294967295) 2 4294967295, z0, z0, z0, z0, z0, z0)
def zsD : CS := (0, 0, upd (upd (upd z00 1 2147483646) 2 2147483647) 0 2147483647, zu (zu (zu z0 1 4294967295) 2 4294967295) 0 1, zu (zu (zu z0 1 4294967295) 2 4294967295) 0 2, zu z0 0 512, z0, z0, z0, z0, z0)
def zgD : GS := ([0, 1, 2], zL zsD, zR zsD)
theorem zD_L : zL zsD 0 = 1 ∧ zL zsD 1 = 4294967295 ∧ zL zsD 2 = 4294967295 ∧ zR zsD 0 = 2 := ⟨rfl, rfl, rfl, rfl⟩
theorem zD_K : zK zsD 0 = 2147483647 ∧ zK zsD 1 = 2147483646 ∧ zK zsD 2 = 2147483647 := by
  have e1 : zky zsD 0 = 2147483647 := rfl
  have e2 : zky zsD 1 = 2147483646 := rfl
  have e3 : zky zsD 2 = 2147483647 := rfl
  unfold zK
  rw [e1, e2, e3]
  decide
theorem zD_m {n : Nat} (h : n ∈ gn zgD) : n = 0 ∨ n = 1 ∨ n = 2 := by
  have h : n ∈ [0, 1, 2] := h
  simpa using h
theorem zD_i {n : Nat} (h : n ∈ gn zgD) (hi : gl zgD n ≠ 4294967295) : n = 0 := by
  have hi : zL zsD n ≠ 4294967295 := hi
  rcases zD_m h with e | e | e
  · exact e
  · rw [e] at hi; exact absurd zD_L.2.1 hi
  · rw [e] at hi; exact absurd zD_L.2.2.1 hi
theorem zD_T : zt_T (zK zsD) (gl zgD) (gr zgD) (gn zgD) := by
  obtain ⟨l0, l1, l2, r0⟩ := zD_L
  obtain ⟨k0, k1, k2⟩ := zD_K
  have gl0 : gl zgD 0 = 1 := l0
  have gr0 : gr zgD 0 = 2 := r0
  have i0 : gl zgD 0 ≠ 4294967295 := by rw [gl0]; decide
  have m0 : 0 ∈ gn zgD := by show 0 ∈ [0, 1, 2]; decide
  have m1 : 1 ∈ gn zgD := by show 1 ∈ [0, 1, 2]; decide
  have m2 : 2 ∈ gn zgD := by show 2 ∈ [0, 1, 2]; decide
  refine ⟨by show [0, 1, 2].Nodup; decide, fun n hn => ?_, ⟨m0, i0⟩, fun n hn hi => ?_, fun n m hn hm hi hi2 => ?_, fun n hn => ?_⟩
  · rcases zD_m hn with e | e | e <;> rw [e] <;> decide
  · rw [zD_i hn hi, gl0, gr0]
    exact ⟨m1, m2, by decide, by decide⟩
  · rw [zD_i hn hi, zD_i hm hi2, gl0, gr0]
    exact ⟨fun _ => rfl, fun _ => rfl, by decide⟩
  · have o0 : ∀ x, zt_On (zK zsD) (gl zgD) (gr zgD) x 0 := fun x => zt_O0
    rcases zD_m hn with e | e | e <;> rw [e]
    · exact o0 _
    · have := zt_Os (o0 (zK zsD 1))
      rw [zt_nx_l i0 (by rw [k0, k1]; decide), gl0] at this
      exact this
    · have := zt_Os (o0 (zK zsD 2))
      rw [zt_nx_r i0 (by rw [k0, k2]; decide), gr0] at this
      exact this
theorem zD_Lk : zLk zsD zgD := fun n _ => ⟨Iff.rfl, fun _ => ⟨rfl, rfl⟩⟩
theorem zD_rel {th ce ft : Nat} {F : Nat → Nat} (h1 : 2 ≤ th) (h2 : th ≤ 8) (h3 : 8 ≤ ce) (h4 : ce ≤ 32) (hF : zRc (gn zgD) 99 ft F) {kd ky lo : Nat → Int32} {sl : Nat → Int32} (hsl : ∀ i, i < 32 → sl i = 2147483647) :
    zRel 2 th ce ce (ft, 0, zky zsD, zL zsD, zR zsD, zU zsD, F, z0, z0, z0, z0) zgD z00 kd ky lo z0 z0 z0 z0 z0 z0 sl := by
  have hU : ∀ n, zU zsD n = if n = 0 then 512 else 0 := fun n => rfl
  have hlen := zRc_len hF
  have hl3 : (gn zgD).length = 3 := rfl
  have hc0 : zcn (zfull sl) 32 = 0 := zcn_0 32 (fun i hi => by unfold zfull; rw [hsl i hi]; rfl)
  obtain ⟨l0, l1, l2, r0⟩ := zD_L
  obtain ⟨k0, k1, k2⟩ := zD_K
  have hI := zs_core (s := zsD) (B := 400) (N := z0) (O := z0) (C := z0) (W := z0) zD_T zD_Lk (fun n _ _ => by rw [hU n]; by_cases e : n = 0 <;> simp [e]) (fun n => by rw [hU n]; by_cases e : n = 0 <;> simp [e]) hF
  refine ⟨h1, h2, hI, ⟨fun t _ => zT1_0, fun o ho => absurd ho (Nat.not_lt_zero o), fun _ _ _ => rfl⟩, ⟨fun i hi => Or.inl (hsl i hi), fun i j hi _ _ z => absurd (hsl i hi) z, fun x hx => ?_, ?_, ?_, k0⟩, ⟨by rw [hc0, hl3], ?_, ?_, by omega, h4⟩, fun t => ⟨by show (0 : Nat) < _; omega, by show (0 : Nat) < _; omega⟩⟩
  · constructor
    · rintro ⟨n, hn, hl, e⟩
      have hl : zL zsD n = 4294967295 := hl
      have e : zK zsD n = x := e
      rcases zD_m hn with z | z | z <;> rw [z] at hl e
      · rw [l0] at hl; exact absurd hl (by decide)
      · omega
      · omega
    · rintro ⟨i, hi, e⟩
      rw [hsl i hi, zNo] at e
      omega
  · exact ⟨1, by show 1 ∈ [0, 1, 2]; decide, l1, k1⟩
  · exact ⟨2, by show 2 ∈ [0, 1, 2]; decide, l2, k2⟩
  · show 3 * ce ≤ ft
    omega
  · show 0 + 2 * ce + zcn (zfull sl) 32 ≤ 64
    omega
theorem i_vc0 (k0 : Int32) (k1 : Int32) : wpX_init (fun u => wpY_init (fun v => i_Rel 2 u v) k0 k1) k0 k1 := by
  obtain ⟨th, t1, t2, et⟩ := zcl_n (v := k0) (a := 2) (b := 8) (by omega) (by omega)
  obtain ⟨ce, c1, c2, ec⟩ := zcl_n (v := k1) (a := 8) (b := 32) (by omega) (by omega)
  unfold wpX_init
  refine zw_clamp (zw_clamp ?_)
  refine zw_leaf (s := zsA) (p := 1) (by omega) ?_
  refine zw_leaf (s := zsB) (p := 2) (by omega) ?_
  refine zw_node (s := zsC) (p := 0) (a := 1) (d := 2) (by omega) (by show (0 : Nat) < _; omega) ?_
  refine zw_reclaim (s := zsD) (g := zgD) zD_T zD_Lk (fun lv st ft F hF => ⟨9, ?_⟩)
  refine zw_i284 (s := (ft, 0, zky zsD, zL zsD, zR zsD, zU zsD, F, z0, z0, z0, z0)) (ky := z00) (an := z00) ?_ 8 0 9 rfl (by omega)
  refine zy_init ?_
  have R := zD_rel (kd := z00) (ky := zfill z00 2147483647 8) (lo := z00) (sl := zfill z00 2147483647 32) t1 t2 c1 c2 hF (fun i hi => zfill_at 32 i hi)
  have et' : zcl k0 2 8 = nI th := et
  have ec' : zcl k1 8 32 = nI ce := ec
  rw [et', ec']
  exact zR_in R
end
