section
/-! rows pasted from the kit's rows to paste (a starting text) -/
theorem pk_us {f : Nat → Int32} {k : Nat} {x : Int32} : upd f k x k = x := if_pos rfl
theorem pk_un {f : Nat → Int32} {k j : Nat} {x : Int32} (h : j ≠ k) : upd f k x j = f j := if_neg h
theorem pk_uLs {f : Nat → Int64} {k : Nat} {x : Int64} : vp_updL f k x k = x := if_pos rfl
theorem pk_uLn {f : Nat → Int64} {k j : Nat} {x : Int64} (h : j ≠ k) : vp_updL f k x j = f j := if_neg h
theorem pk_sub {a b : Nat} (h : b ≤ a) : nI a - nI b = nI (a - b) := by
  obtain ⟨c, rfl⟩ : ∃ c, a = c + b := ⟨a - b, by omega⟩
  rw [← nI_add, Int32.add_sub_cancel, Nat.add_sub_cancel]
theorem pk_m1 (n : Nat) : nI (n + 1) + (-1) = nI n := by
  rw [← nI_1, Int32.add_assoc, show (1 : Int32) + (-1) = 0 from rfl, Int32.add_zero]
theorem pk_mul (a b : Nat) : nI a * nI b = nI (a * b) := (Int32.ofNat_mul a b).symm
theorem pk_sub_toInt {a b : Nat} (ha : a < 2 ^ 30) (hb : b < 2 ^ 30) : (nI a - nI b).toInt = (a : Int) - b := by
  rw [Int32.toInt_sub, nI_toInt (by omega), nI_toInt (by omega)]
  exact Int.bmod_eq_of_le (by omega) (by omega)
theorem pk_sneg {a b : Nat} (hb : b < 2 ^ 30) (h : a < b) : nI a - nI b < 0 := by
  rw [Int32.lt_iff_toInt_lt, pk_sub_toInt (by omega) hb, show (0 : Int32).toInt = 0 from by decide]
  omega
theorem pk_ix (x : Int32) {n : Nat} (hn : n < 2 ^ 31) : x < 0 ∨ nI n ≤ x ∨ ∃ j : Nat, j < n ∧ x = nI j := by
  by_cases h : x < 0
  · exact Or.inl h
  · obtain ⟨j, hj, rfl⟩ := nI_of h
    by_cases h2 : j < n
    · exact Or.inr (Or.inr ⟨j, h2, rfl⟩)
    · exact Or.inr (Or.inl (nI_le (by omega) hj))
theorem pk_le {x y : Int32} {A B : Prop} (a b : Nat) (f : a ≤ b → A) (g : b < a → B) (hx : x = nI a := by rfl) (hy : y = nI b := by rfl) (ha : a < 2 ^ 31 := by omega) (hb : b < 2 ^ 31 := by omega) : (x ≤ y → A) ∧ (¬ x ≤ y → B) := by
  subst hx hy
  rw [nI_leI ha hb]
  exact ⟨f, fun z => g (by omega)⟩
theorem pk_lt {x y : Int32} {A B : Prop} (a b : Nat) (f : a < b → A) (g : b ≤ a → B) (hx : x = nI a := by rfl) (hy : y = nI b := by rfl) (ha : a < 2 ^ 31 := by omega) (hb : b < 2 ^ 31 := by omega) : (x < y → A) ∧ (¬ x < y → B) := by
  subst hx hy
  rw [nI_ltI ha hb]
  exact ⟨f, fun z => g (by omega)⟩
theorem pk_eq {x y : Int32} {A B : Prop} (a b : Nat) (f : a = b → A) (g : a ≠ b → B) (hx : x = nI a := by rfl) (hy : y = nI b := by rfl) (ha : a < 2 ^ 31 := by omega) (hb : b < 2 ^ 31 := by omega) : (x = y → A) ∧ (¬ x = y → B) := by
  subst hx hy
  rw [nI_eq ha hb]
  exact ⟨f, g⟩
theorem pk_in {x : Int32} (n N : Nat) (h : n < N) (hx : x = nI n := by rfl) (hN : N < 2 ^ 31 := by omega) : vp_in x N := by
  subst hx
  exact vp_in_nI h hN
theorem pk_cl {x : Int32} (n : Nat) (hx : x = nI n := by rfl) (h : n < 2 ^ 31 := by omega) : x.toNatClampNeg = n := by
  subst hx
  exact nI_clamp h
theorem pk_tn {n : Nat} (h : n < 2 ^ 32) : (nI n).toBitVec.toNat = n := Nat.mod_eq_of_lt h
theorem pk_and (x : Int32) {m : Int32} (k : Nat) (hm : m.toBitVec.toNat = 2 ^ k - 1) : x &&& m = nI (x.toBitVec.toNat % 2 ^ k) := by
  apply Int32.toBitVec_inj.mp
  apply BitVec.eq_of_toNat_eq
  rw [Int32.toBitVec_and, BitVec.toNat_and, hm, Nat.and_two_pow_sub_one_eq_mod]
  show _ = (BitVec.ofNat 32 _).toNat
  rw [BitVec.toNat_ofNat]
  exact (Nat.mod_eq_of_lt (Nat.lt_of_le_of_lt (Nat.mod_le _ _) x.toBitVec.isLt)).symm
theorem pk_andN {n : Nat} (h : n < 2 ^ 32) {m : Int32} (k : Nat) (hm : m.toBitVec.toNat = 2 ^ k - 1) : nI n &&& m = nI (n % 2 ^ k) := by
  rw [pk_and _ k hm, pk_tn h]
theorem pk_andE (x : Int32) {m : Int32} (k : Nat) (hm : m.toBitVec.toNat = 2 ^ k - 1) : ∃ j : Nat, j < 2 ^ k ∧ x &&& m = nI j := ⟨_, Nat.mod_lt _ (Nat.two_pow_pos k), pk_and x k hm⟩
theorem pk_andIn (x : Int32) {m : Int32} (k : Nat) (hm : m.toBitVec.toNat = 2 ^ k - 1) (hk : k ≤ 30) : vp_in (x &&& m) (2 ^ k) := by
  obtain ⟨j, hj, e⟩ := pk_andE x k hm
  rw [e]
  exact vp_in_nI hj (Nat.lt_of_le_of_lt (Nat.pow_le_pow_right (by decide) hk) (by decide))
theorem pk_shl (a s : Int32) (k : Nat) (hs : (s.toBitVec.smod 32).toNat = k) : (a <<< s).toBitVec.toNat = a.toBitVec.toNat * 2 ^ k % 2 ^ 32 := by
  show (a.toBitVec <<< (s.toBitVec.smod 32).toNat).toNat = _
  rw [hs, BitVec.toNat_shiftLeft, Nat.shiftLeft_eq]
theorem pk_shlN {n : Nat} (s : Int32) (k : Nat) (hs : (s.toBitVec.smod 32).toNat = k) (h : n * 2 ^ k < 2 ^ 32) : nI n <<< s = nI (n * 2 ^ k) := by
  apply Int32.toBitVec_inj.mp
  apply BitVec.eq_of_toNat_eq
  have hn : n < 2 ^ 32 := Nat.lt_of_le_of_lt (Nat.le_mul_of_pos_right n (Nat.two_pow_pos k)) h
  rw [pk_shl _ _ k hs, pk_tn hn, pk_tn h, Nat.mod_eq_of_lt h]
theorem pk_shr (a s : Int32) (k : Nat) (hs : (s.toBitVec.smod 32).toNat = k) : (a >>> s).toInt = a.toInt >>> k := by
  show (a.toBitVec.sshiftRight (s.toBitVec.smod 32).toNat).toInt = _
  rw [hs, BitVec.toInt_sshiftRight]
  rfl
theorem pk_shrN {n : Nat} (h : n < 2 ^ 31) (s : Int32) (k : Nat) (hs : (s.toBitVec.smod 32).toNat = k) : nI n >>> s = nI (n / 2 ^ k) := by
  apply Int32.toInt_inj.mp
  have h2 : n / 2 ^ k ≤ n := Nat.div_le_self _ _
  rw [pk_shr _ _ k hs, nI_toInt h, nI_toInt (by omega), Int.shiftRight_eq_div_pow]
  rfl
theorem pk_ushr (x s : Int32) (k : Nat) (hs : ((s.toUInt32 &&& Int32.toUInt32 31).toBitVec % 32).toNat = k) : (x.toUInt32 >>> (s.toUInt32 &&& Int32.toUInt32 31)).toInt32.toBitVec.toNat = x.toBitVec.toNat / 2 ^ k := by
  have e : (x.toUInt32 >>> (s.toUInt32 &&& Int32.toUInt32 31)).toInt32.toBitVec = x.toBitVec >>> k := by
    rw [← hs]
    exact UInt32.toBitVec_shiftRight _ _
  rw [e, BitVec.toNat_ushiftRight, Nat.shiftRight_eq_div_pow]
theorem pk_ushrN {n : Nat} (hn : n < 2 ^ 32) (s : Int32) (k : Nat) (hs : ((s.toUInt32 &&& Int32.toUInt32 31).toBitVec % 32).toNat = k) : ((nI n).toUInt32 >>> (s.toUInt32 &&& Int32.toUInt32 31)).toInt32 = nI (n / 2 ^ k) := by
  apply Int32.toBitVec_inj.mp
  apply BitVec.eq_of_toNat_eq
  rw [pk_ushr _ s k hs, pk_tn hn, pk_tn (Nat.lt_of_le_of_lt (Nat.div_le_self _ _) hn)]
theorem pk_lT {n : Nat} (h : n < 2 ^ 63) : (lN n).toInt = (n : Int) := lg_ofNat_toInt h
theorem pk_lLT {a b : Nat} (ha : a < 2 ^ 63) (hb : b < 2 ^ 63) : lN a < lN b ↔ a < b := by
  rw [Int64.lt_iff_toInt_lt, pk_lT ha, pk_lT hb]; omega
theorem pk_lLE {a b : Nat} (ha : a < 2 ^ 63) (hb : b < 2 ^ 63) : lN a ≤ lN b ↔ a ≤ b := by
  rw [Int64.le_iff_toInt_le, pk_lT ha, pk_lT hb]; omega
theorem pk_lEQ {a b : Nat} (ha : a < 2 ^ 63) (hb : b < 2 ^ 63) : lN a = lN b ↔ a = b := by
  rw [← Int64.toInt_inj, pk_lT ha, pk_lT hb]; omega
theorem pk_lOf {x : Int64} (h : ¬ x < 0) : ∃ k : Nat, k < 2 ^ 63 ∧ x = lN k := by
  rw [Int64.lt_iff_toInt_lt] at h
  have h0 : (0 : Int64).toInt = 0 := by decide
  have hx := Int64.toInt_lt x
  refine ⟨x.toInt.toNat, by omega, Int64.toInt_inj.mp ?_⟩
  rw [pk_lT (by omega)]
  omega
theorem pk_loop {σ : Type} (W : Nat → Nat → σ → Prop) (I : Nat → σ → Prop) (e i0 : Nat) (s : σ) (hi : i0 ≤ e) (h0 : I i0 s) (hx : ∀ n s, I e s → W (n + 1) e s)
    (hs : ∀ n i s, i < e → I i s → (∀ s', I (i + 1) s' → W n (i + 1) s') → W (n + 1) i s) : ∃ n, W n i0 s :=
  ⟨e + 1, loop_i W I e hx hs (e + 1) i0 s hi (by omega) h0⟩
theorem pk_least (P : Nat → Prop) (h : ∃ k, P k) : ∃ k, P k ∧ ∀ j, j < k → ¬ P j := by
  obtain ⟨k, hk⟩ := h
  induction k using Nat.strongRecOn with
  | ind k ih =>
    by_cases e : ∃ j, j < k ∧ P j
    · obtain ⟨j, hj, pj⟩ := e
      exact ih j hj pj
    · exact ⟨k, hk, fun j hj pj => e ⟨j, hj, pj⟩⟩
theorem s_l : ∀ n, n < 32 → ((nI n &&& 31).toBitVec.smod 32).toNat = n := by decide +kernel
theorem s_u : ∀ n, n < 32 → (((nI n).toUInt32 &&& Int32.toUInt32 31).toBitVec % 32).toNat = n := by decide +kernel
theorem nx_and (a b : Nat) : nI a &&& nI b = nI (a &&& b) := by
  apply Int32.toBitVec_inj.1
  show BitVec.ofNat 32 a &&& BitVec.ofNat 32 b = BitVec.ofNat 32 (a &&& b)
  apply BitVec.eq_of_getLsbD_eq
  intro i hi
  simp [hi]
theorem nx_xor (a b : Nat) : nI a ^^^ nI b = nI (a ^^^ b) := by
  apply Int32.toBitVec_inj.1
  show BitVec.ofNat 32 a ^^^ BitVec.ofNat 32 b = BitVec.ofNat 32 (a ^^^ b)
  apply BitVec.eq_of_getLsbD_eq
  intro i hi
  simp [hi]
theorem nx_cnt : ∀ j : Fin 32, (UInt32.ofNat j.val &&& Int32.toUInt32 31).toNat % 32 = j.val := by decide +kernel
theorem nx_ush {k j : Nat} (hk : k < 65536) (hj : j < 32) : ((nI k).toUInt32 >>> ((nI j).toUInt32 &&& Int32.toUInt32 31)).toInt32 = nI (k >>> j) := by
  have hs : k >>> j ≤ k := by
    rw [Nat.shiftRight_eq_div_pow]
    exact Nat.div_le_self _ _
  have e2 : UInt32.ofNat k >>> (UInt32.ofNat j &&& Int32.toUInt32 31) = UInt32.ofNat (k >>> j) := by
    apply UInt32.toNat_inj.1
    have h1 : (UInt32.ofNat k).toNat = k := Nat.mod_eq_of_lt (by omega)
    have h2 : (UInt32.ofNat (k >>> j)).toNat = k >>> j := Nat.mod_eq_of_lt (by omega)
    rw [UInt32.toNat_shiftRight, nx_cnt ⟨j, hj⟩, h1, h2]
  show (UInt32.ofNat k >>> (UInt32.ofNat j &&& Int32.toUInt32 31)).toInt32 = _
  rw [e2]
  rfl
theorem nx_bit {k j : Nat} (hk : k < 65536) (hj : j < 16) : (((nI k).toUInt32 >>> ((nI j).toUInt32 &&& Int32.toUInt32 31)).toInt32 &&& 1) = 0 ↔ k.testBit j = false := by
  rw [nx_ush hk (by omega)]
  show nI (k >>> j) &&& nI 1 = 0 ↔ _
  rw [nx_and, Nat.and_one_is_mod, ← nI_0, nI_eq (by omega) (by omega), Nat.testBit_eq_decide_div_mod_eq, Nat.shiftRight_eq_div_pow, decide_eq_false_iff_not]
  generalize k / 2 ^ j = z
  omega
theorem wb_tb (n : Nat) : (lN n).toBitVec = BitVec.ofNat 64 n := rfl
theorem wb_inj {a b : Int64} (h : a.toBitVec = b.toBitVec) : a = b := Int64.toBitVec_inj.mp h
theorem wb_tn {n : Nat} (h : n < 2 ^ 64) : (lN n).toBitVec.toNat = n := by rw [wb_tb, BitVec.toNat_ofNat, Nat.mod_eq_of_lt h]
theorem wb_of (x : Int64) : ∃ n, n < 2 ^ 64 ∧ x = lN n := ⟨x.toBitVec.toNat, x.toBitVec.isLt, wb_inj (by rw [wb_tb]; simp)⟩
theorem wb_of32 (x : Int32) : ∃ n, n < 2 ^ 32 ∧ x = nI n := ⟨x.toBitVec.toNat, x.toBitVec.isLt, Int32.toBitVec_inj.mp (by show _ = BitVec.ofNat 32 _; simp)⟩
theorem wb_c : ∀ k, k < 64 → ((nI k).toInt64 &&& 63) = lN k := by decide +kernel
theorem wb_cu : ∀ k, k < 64 → ((nI k).toInt64.toUInt64 &&& Int64.toUInt64 63) = UInt64.ofNat k := by decide +kernel
theorem wb_sm : ∀ k, k < 64 → (BitVec.ofNat 64 k).smod 64 = BitVec.ofNat 64 k := by decide +kernel
theorem wb_pw {a b : Nat} (h : a ≤ b) : 2 ^ b = 2 ^ a * 2 ^ (b - a) := by rw [← Nat.pow_add]; congr 1; omega
theorem wb_lt2 {a b : Nat} (h : a < b) : 2 ^ a < 2 ^ b := Nat.pow_lt_pow_right (by decide) h
theorem wb_mod (n : Nat) : lN n = lN (n % 2 ^ 64) := wb_inj (by rw [wb_tb, wb_tb]; apply BitVec.eq_of_toNat_eq; rw [BitVec.toNat_ofNat, BitVec.toNat_ofNat, Nat.mod_mod])
theorem wb_shr {n k : Nat} (hn : n < 2 ^ 64) (hk : k < 64) : ((lN n).toUInt64 >>> ((nI k).toInt64.toUInt64 &&& Int64.toUInt64 63)).toInt64 = lN (n / 2 ^ k) := by
  rw [wb_cu k hk]
  apply wb_inj
  apply BitVec.eq_of_toNat_eq
  show ((lN n).toUInt64 >>> UInt64.ofNat k).toNat = (BitVec.ofNat 64 _).toNat
  have h1 : (UInt64.ofNat k).toNat = k := by
    show (BitVec.ofNat 64 k).toNat = k
    rw [BitVec.toNat_ofNat, Nat.mod_eq_of_lt (by omega)]
  have h2 : (lN n).toUInt64.toNat = n := wb_tn hn
  rw [UInt64.toNat_shiftRight, h1, h2, Nat.mod_eq_of_lt hk, Nat.shiftRight_eq_div_pow, BitVec.toNat_ofNat, Nat.mod_eq_of_lt (Nat.lt_of_le_of_lt (Nat.div_le_self _ _) hn)]
theorem wb_shl (n : Nat) {k : Nat} (hk : k < 64) : lN n <<< ((nI k).toInt64 &&& 63) = lN (n * 2 ^ k) := by
  rw [wb_c k hk]
  apply wb_inj
  rw [Int64.toBitVec_shiftLeft, wb_tb, wb_tb, wb_tb, wb_sm k hk]
  apply BitVec.eq_of_toNat_eq
  rw [BitVec.shiftLeft_eq', BitVec.toNat_shiftLeft, BitVec.toNat_ofNat, BitVec.toNat_ofNat, BitVec.toNat_ofNat, Nat.mod_eq_of_lt (show k < 2 ^ 64 by omega), Nat.shiftLeft_eq, Nat.mul_mod, Nat.mod_mod, ← Nat.mul_mod]
theorem wb_and {a b : Nat} (ha : a < 2 ^ 64) (hb : b < 2 ^ 64) : lN a &&& lN b = lN (a &&& b) := by
  apply wb_inj
  rw [Int64.toBitVec_and, wb_tb, wb_tb, wb_tb]
  apply BitVec.eq_of_toNat_eq
  rw [BitVec.toNat_and, BitVec.toNat_ofNat, BitVec.toNat_ofNat, BitVec.toNat_ofNat, Nat.mod_eq_of_lt ha, Nat.mod_eq_of_lt hb, Nat.mod_eq_of_lt (Nat.and_lt_two_pow _ hb)]
theorem wb_or {a b : Nat} (ha : a < 2 ^ 64) (hb : b < 2 ^ 64) : lN a ||| lN b = lN (a ||| b) := by
  apply wb_inj
  rw [Int64.toBitVec_or, wb_tb, wb_tb, wb_tb]
  apply BitVec.eq_of_toNat_eq
  rw [BitVec.toNat_or, BitVec.toNat_ofNat, BitVec.toNat_ofNat, BitVec.toNat_ofNat, Nat.mod_eq_of_lt ha, Nat.mod_eq_of_lt hb, Nat.mod_eq_of_lt (Nat.or_lt_two_pow ha hb)]
theorem wb_mask {n k : Nat} (hn : n < 2 ^ 64) (hk : k < 64) : lN n &&& lN (2 ^ k - 1) = lN (n % 2 ^ k) := by
  rw [wb_and hn (by have := wb_lt2 hk; omega), Nat.and_two_pow_sub_one_eq_mod]
theorem wb_a1 {n : Nat} (hn : n < 2 ^ 64) : lN n &&& 1 = lN (n % 2) := wb_mask (k := 1) hn (by decide)
theorem wb_bit {n k : Nat} (hn : n < 2 ^ 64) (hk : k < 64) : ((lN n).toUInt64 >>> ((nI k).toInt64.toUInt64 &&& Int64.toUInt64 63)).toInt64 &&& 1 = lN (n / 2 ^ k % 2) := by
  rw [wb_shr hn hk, wb_a1 (Nat.lt_of_le_of_lt (Nat.div_le_self _ _) hn)]
theorem u_tn {n : Nat} (h : n < 2 ^ 64) : (UInt64.ofNat n).toNat = n := Nat.mod_eq_of_lt h
theorem g_and {a b c : Nat} (ha : a < 2 ^ 64) (hb : b < 2 ^ 64) (hc : a &&& b = c) : lN a &&& lN b = lN c := by
  subst hc
  have h : UInt64.ofNat a &&& UInt64.ofNat b = UInt64.ofNat (a &&& b) := UInt64.toNat_inj.mp (by rw [UInt64.toNat_and, u_tn ha, u_tn hb, u_tn (Nat.and_lt_two_pow a hb)])
  have h2 := congrArg UInt64.toInt64 h
  exact h2
theorem g_and1 {a : Nat} (ha : a < 2 ^ 64) : lN a &&& 1 = lN (a % 2) := g_and (b := 1) ha (by decide) (Nat.and_two_pow_sub_one_eq_mod a 1)
theorem g_mask {a s p : Nat} (hp : 2 ^ s = p) (hs : s < 64) (ha : a < 2 ^ 64) : lN a &&& lN (p - 1) = lN (a % p) := by
  subst hp
  have := Nat.pow_lt_pow_right (show 1 < 2 by decide) hs
  exact g_and ha (by omega) (Nat.and_two_pow_sub_one_eq_mod a s)
theorem g_or {k p a b : Nat} (hp : 2 ^ k = p) (ha : a < p) (h : b * p + a < 2 ^ 64) : lN (b * p) ||| lN a = lN (b * p + a) := by
  subst hp
  have h1 : b * 2 ^ k ||| a = b * 2 ^ k + a := by rw [← Nat.shiftLeft_eq, Nat.shiftLeft_add_eq_or_of_lt ha]
  have h3 : UInt64.ofNat (b * 2 ^ k) ||| UInt64.ofNat a = UInt64.ofNat (b * 2 ^ k + a) := UInt64.toNat_inj.mp (by rw [UInt64.toNat_or, u_tn (by omega), u_tn (by omega), u_tn h, h1])
  have h2 := congrArg UInt64.toInt64 h3
  exact h2
theorem g_or' {k p a b : Nat} (hp : 2 ^ k = p) (ha : a < p) (h : a + b * p < 2 ^ 64) : lN a ||| lN (b * p) = lN (a + b * p) := by
  rw [Int64.or_comm, g_or hp ha (by omega), Nat.add_comm]
theorem g_ushr {a k p : Nat} {y : UInt64} (hy : y = UInt64.ofNat k) (hk : k < 64) (hp : 2 ^ k = p) (ha : a < 2 ^ 64) : ((lN a).toUInt64 >>> y).toInt64 = lN (a / p) := by
  subst hy hp
  have h : UInt64.ofNat a >>> UInt64.ofNat k = UInt64.ofNat (a / 2 ^ k) := UInt64.toNat_inj.mp (by rw [UInt64.toNat_shiftRight, u_tn ha, u_tn (by omega), u_tn (Nat.lt_of_le_of_lt (Nat.div_le_self _ _) ha), Nat.mod_eq_of_lt hk, Nat.shiftRight_eq_div_pow])
  have h2 := congrArg UInt64.toInt64 h
  exact h2
theorem g_shl {a k p : Nat} {y : Int64} (hy : y.toBitVec.smod 64 = BitVec.ofNat 64 k) (hk : k < 64) (hp : 2 ^ k = p) (ha : a < 2 ^ 64) : lN a <<< y = lN (a * p) := by
  subst hp
  apply Int64.toBitVec_inj.mp
  rw [Int64.toBitVec_shiftLeft, hy]
  apply BitVec.eq_of_toNat_eq
  have hb : (lN a).toBitVec.toNat = a := Nat.mod_eq_of_lt ha
  have hk' : (BitVec.ofNat 64 k).toNat = k := Nat.mod_eq_of_lt (by omega)
  have h : ((lN a).toBitVec <<< BitVec.ofNat 64 k).toNat = (a * 2 ^ k) % 2 ^ 64 := by simp only [BitVec.shiftLeft_eq', BitVec.toNat_shiftLeft, hb, hk', Nat.shiftLeft_eq]
  exact h
theorem pf_lI {a : Nat} (h : a < 2 ^ 63) : (lN a).toInt = (a : Int) := lg_ofNat_toInt h
theorem pf_shr {a d : Nat} {D : Int64} (hD : (D.toBitVec.smod 64).toNat = d) (h : a < 2 ^ 62) : lN a >>> D = lN (a / 2 ^ d) := by
  have hd : a / 2 ^ d ≤ a := Nat.div_le_self _ _
  apply Int64.toInt_inj.mp
  have e : (lN a >>> D).toInt = (lN a).toInt >>> d := by
    rw [← hD]
    exact BitVec.toInt_sshiftRight ..
  rw [e, Int.shiftRight_eq_div_pow, pf_lI (by omega), pf_lI (by omega)]
  rfl
theorem lN_bv (n : Nat) : (lN n).toBitVec = BitVec.ofNat 64 n := rfl
theorem lN_nat {n : Nat} (h : n < 2 ^ 64) : (lN n).toBitVec.toNat = n := by rw [lN_bv, BitVec.toNat_ofNat]; exact Nat.mod_eq_of_lt h
theorem lN_xor (a b : Nat) : lN a ^^^ lN b = lN (a ^^^ b) := by
  apply Int64.toBitVec_inj.mp; rw [Int64.toBitVec_xor, lN_bv, lN_bv, lN_bv]; apply BitVec.eq_of_getLsbD_eq; intro i hi; simp [BitVec.getLsbD_ofNat, Nat.testBit_xor, hi]
end
section
/-! ===== Int32 as an integer; masks ===== -/
def hs_z (z : Int) : Int32 := Int32.ofInt z
theorem hs_zn (n : Nat) : nI n = hs_z n := Int32.ofInt_eq_ofNat.symm
theorem hs_zadd (a b : Int) : hs_z a + hs_z b = hs_z (a + b) := (Int32.ofInt_add a b).symm
theorem hs_zsub (a b : Int) : hs_z a - hs_z b = hs_z (a - b) := (Int32.ofInt_sub a b).symm
theorem hs_zmul (a b : Int) : hs_z a * hs_z b = hs_z (a * b) := (Int32.ofInt_mul a b).symm
theorem hs_zt {z : Int} (h : -1073741824 ≤ z) (h' : z < 1073741824) : (hs_z z).toInt = z := Int32.toInt_ofInt_of_le (by omega) (by omega)
theorem hs_zle {a b : Int} (ha : -1073741824 ≤ a) (ha' : a < 1073741824) (hb : -1073741824 ≤ b) (hb' : b < 1073741824) : hs_z a ≤ hs_z b ↔ a ≤ b := by
  rw [Int32.le_iff_toInt_le, hs_zt ha ha', hs_zt hb hb']
theorem hs_zeq {a b : Int} (ha : -1073741824 ≤ a) (ha' : a < 1073741824) (hb : -1073741824 ≤ b) (hb' : b < 1073741824) : hs_z a = hs_z b ↔ a = b := by
  rw [← Int32.toInt_inj, hs_zt ha ha', hs_zt hb hb']
theorem hs_zN {z : Int} (h : 0 ≤ z) : hs_z z = nI z.toNat := by
  rw [hs_zn, Int.toNat_of_nonneg h]
theorem hs_mk (z : Int) (k : Nat) (hk : k ≤ 31) : hs_z z &&& nI (2 ^ k - 1) = nI ((z % ((2 ^ k : Nat) : Int)).toNat) := by
  have hp : 2 ^ k ≤ 2 ^ 31 := Nat.pow_le_pow_right (by decide) hk
  have h0 : 0 < 2 ^ k := Nat.two_pow_pos k
  rw [pk_and (hs_z z) k (pk_tn (by omega))]
  have e : (hs_z z).toBitVec.toNat = (z % ((2 ^ 32 : Nat) : Int)).toNat := BitVec.toNat_ofInt z
  rw [e]
  have d : ((2 ^ k : Nat) : Int) ∣ ((2 ^ 32 : Nat) : Int) := Int.ofNat_dvd.mpr (Nat.pow_dvd_pow 2 (by omega))
  have a0 : 0 ≤ z % ((2 ^ 32 : Nat) : Int) := Int.emod_nonneg z (by decide)
  have h1 : (((z % ((2 ^ 32 : Nat) : Int)).toNat % 2 ^ k : Nat) : Int) = z % ((2 ^ k : Nat) : Int) := by
    rw [Int.natCast_emod, Int.toNat_of_nonneg a0, Int.emod_emod_of_dvd z d]
  rw [← h1, Int.toNat_natCast]
theorem hs_m12 (z : Int) : hs_z z &&& 4095 = nI ((z % 4096).toNat) := hs_mk z 12 (by decide)
theorem hs_mN (n : Nat) : nI n &&& 4095 = nI (n % 4096) := by
  rw [hs_zn, hs_m12]
  exact congrArg nI (by omega)
theorem hs_mN15 (n : Nat) : nI n &&& 15 = nI (n % 16) := by
  rw [hs_zn]
  exact (hs_mk n 4 (by decide)).trans (congrArg nI (by omega))
theorem hs_mN127 (n : Nat) : nI n &&& 127 = nI (n % 128) := by
  rw [hs_zn]
  exact (hs_mk n 7 (by decide)).trans (congrArg nI (by omega))
theorem hs_mN3 (n : Nat) : nI n &&& 3 = nI (n % 4) := by
  rw [hs_zn]
  exact (hs_mk n 2 (by decide)).trans (congrArg nI (by omega))
theorem hs_sh1 : ∀ k, k < 31 → (1 : Int32) <<< (nI k &&& 31) = nI (2 ^ k) := by decide +kernel
theorem hs_pw {k : Nat} (hk : k ≤ 12) : 2 ^ k = 1 ∨ 2 ^ k = 2 ∨ 2 ^ k = 4 ∨ 2 ^ k = 8 ∨ 2 ^ k = 16 ∨ 2 ^ k = 32 ∨ 2 ^ k = 64 ∨ 2 ^ k = 128 ∨ 2 ^ k = 256 ∨ 2 ^ k = 512 ∨ 2 ^ k = 1024 ∨ 2 ^ k = 2048 ∨ 2 ^ k = 4096 :=
  (by decide : ∀ k, k < 13 → (2 ^ k = 1 ∨ 2 ^ k = 2 ∨ 2 ^ k = 4 ∨ 2 ^ k = 8 ∨ 2 ^ k = 16 ∨ 2 ^ k = 32 ∨ 2 ^ k = 64 ∨ 2 ^ k = 128 ∨ 2 ^ k = 256 ∨ 2 ^ k = 512 ∨ 2 ^ k = 1024 ∨ 2 ^ k = 2048 ∨ 2 ^ k = 4096)) k (by omega)
/-! ===== headers, coded values, intervals ===== -/
def hs_hd (s t d : Nat) : Nat := s * 16777216 + t * 4096 + d
def hs_cd (st f s t d : Nat) : Nat := if f = 0 then s else if f = 1 then (((t : Int) - (st : Int) * (s : Int)) % 4096).toNat else (((d : Int) - (s : Int)) % 4096).toNat
theorem hs_cd_lt {st f s t d : Nat} (h : s < 4096) : hs_cd st f s t d < 4096 := by
  unfold hs_cd
  split
  · exact h
  · split <;> omega
def hs_bl (ld f k : Nat) : Nat := if f = 0 then (if 2 ^ k - 1 ≤ ld then 2 ^ k - 1 else ld) else (2 ^ k - 1) / 2
def hs_dd (ld f : Nat) (z : Int) : Int := if f = 0 then (z + ld) % 4096 - ld else (z + 2047) % 4096 - 2047
def hs_ex (ld f : Nat) (z : Int) : Nat :=
  if hs_dd ld f z = 0 then 1 else if f = 0 then (if hs_dd ld f z ≤ 0 then (1 - hs_dd ld f z).toNat else (hs_dd ld f z + ld + 1).toNat)
  else if hs_dd ld f z ≤ 0 then (2 - 2 * hs_dd ld f z).toNat else (2 * hs_dd ld f z).toNat
theorem hs_dd_r {ld f : Nat} {z : Int} (hl : ld ≤ 63) : -2047 ≤ hs_dd ld f z ∧ hs_dd ld f z ≤ 4095 := by
  unfold hs_dd
  split <;> omega
theorem hs_ex_r {ld f : Nat} {z : Int} (hl : ld ≤ 63) : 1 ≤ hs_ex ld f z ∧ hs_ex ld f z ≤ 4096 := by
  unfold hs_ex hs_dd
  by_cases hf : f = 0
  · simp only [hf, if_true]
    split
    · omega
    · split <;> omega
  · simp only [hf, if_false]
    split
    · omega
    · split <;> omega
theorem hs_hit {P p c v : Nat} (hP : P ≤ 4096) (hv : v < 4096) : (∃ j : Nat, j < P ∧ (((c : Int) - p + (j : Int)) % 4096).toNat = v) ↔ ((v : Int) - c + p) % 4096 < P := by
  constructor
  · rintro ⟨j, hj, e⟩
    omega
  · intro h
    exact ⟨(((v : Int) - c + p) % 4096).toNat, by omega, by omega⟩
theorem hs_fit0 {ld P : Nat} {z : Int} (hl : ld ≤ 63)
    (hP : P = 1 ∨ P = 2 ∨ P = 4 ∨ P = 8 ∨ P = 16 ∨ P = 32 ∨ P = 64 ∨ P = 128 ∨ P = 256 ∨ P = 512 ∨ P = 1024 ∨ P = 2048 ∨ P = 4096) :
    (z + ((if P - 1 ≤ ld then P - 1 else ld : Nat) : Int)) % 4096 < P ↔ hs_ex ld 0 z ≤ P := by
  unfold hs_ex hs_dd
  simp only [if_true]
  rcases hP with rfl | rfl | rfl | rfl | rfl | rfl | rfl | rfl | rfl | rfl | rfl | rfl | rfl <;> (split <;> split <;> first | omega | (split <;> omega))
theorem hs_fit1 {ld f P : Nat} {z : Int} (hf : ¬ f = 0)
    (hP : P = 1 ∨ P = 2 ∨ P = 4 ∨ P = 8 ∨ P = 16 ∨ P = 32 ∨ P = 64 ∨ P = 128 ∨ P = 256 ∨ P = 512 ∨ P = 1024 ∨ P = 2048 ∨ P = 4096) :
    (z + (((P - 1) / 2 : Nat) : Int)) % 4096 < P ↔ hs_ex ld f z ≤ P := by
  unfold hs_ex hs_dd
  simp only [hf, if_false]
  rcases hP with rfl | rfl | rfl | rfl | rfl | rfl | rfl | rfl | rfl | rfl | rfl | rfl | rfl <;> (split <;> first | omega | (split <;> omega))
theorem hs_fit {ld f k c v : Nat} (hl : ld ≤ 63) (hk : k ≤ 12) (hv : v < 4096) :
    (∃ j : Nat, j < 2 ^ k ∧ (((c : Int) - (hs_bl ld f k : Nat) + (j : Int)) % 4096).toNat = v) ↔ hs_ex ld f ((v : Int) - c) ≤ 2 ^ k := by
  have hP := hs_pw hk
  rw [hs_hit (by omega) hv]
  unfold hs_bl
  by_cases hf : f = 0
  · subst hf
    rw [if_pos rfl]
    exact hs_fit0 hl hP
  · rw [if_neg hf]
    exact hs_fit1 hf hP
/-! ===== the read ===== -/
def hs_rd (ld f c k b : Nat) : Nat := (((c : Int) - (hs_bl ld f k : Nat) + (((b : Int) - ((c : Int) - (hs_bl ld f k : Nat))) % ((2 ^ k : Nat) : Int))) % 4096).toNat
theorem hs_rd_lt {ld f c k b : Nat} : hs_rd ld f c k b < 4096 := by
  unfold hs_rd
  omega
theorem hs_rdj {P b : Nat} (q : Int) (hP : P = 1 ∨ P = 2 ∨ P = 4 ∨ P = 8 ∨ P = 16 ∨ P = 32 ∨ P = 64 ∨ P = 128 ∨ P = 256 ∨ P = 512 ∨ P = 1024 ∨ P = 2048 ∨ P = 4096)
    (hb : b < P) {j : Nat} (hj : j < P) : ((q + (j : Int)) % 4096).toNat % P = b ↔ j = (((b : Int) - q) % (P : Int)).toNat := by
  rcases hP with rfl | rfl | rfl | rfl | rfl | rfl | rfl | rfl | rfl | rfl | rfl | rfl | rfl <;> omega
theorem hs_rd12 {ld f c b : Nat} (hb : b < 4096) : hs_rd ld f c 12 b = b := by
  unfold hs_rd
  have e : ((2 ^ 12 : Nat) : Int) = 4096 := rfl
  rw [e]
  omega
end
section
/-! ===== division by a polynomial, bit by bit; the table forms ===== -/
def hs_dv (g d : Nat) : Nat → Nat → Nat
  | 0, r => r
  | n + 1, r => hs_dv g d n (if r.testBit (d + n) = true then r ^^^ (g * 2 ^ n) else r)
theorem hs_xx (a b G : Nat) : (a ^^^ G) ^^^ (b ^^^ G) = a ^^^ b := by
  have e : (a ^^^ G) ^^^ (b ^^^ G) = (a ^^^ b) ^^^ (G ^^^ G) := by ac_rfl
  rw [e, Nat.xor_self, Nat.xor_zero]
theorem hs_dv_x (g d : Nat) : ∀ n a b, hs_dv g d n (a ^^^ b) = hs_dv g d n a ^^^ hs_dv g d n b := by
  intro n
  induction n with
  | zero => intro a b; rfl
  | succ n ih =>
    intro a b
    show hs_dv g d n _ = hs_dv g d n _ ^^^ hs_dv g d n _
    rw [← ih, Nat.testBit_xor]
    refine congrArg (hs_dv g d n) ?_
    cases a.testBit (d + n) <;> cases b.testBit (d + n)
    · rfl
    · exact Nat.xor_assoc a b _
    · show (a ^^^ b) ^^^ (g * 2 ^ n) = (a ^^^ (g * 2 ^ n)) ^^^ b
      ac_rfl
    · exact (hs_xx a b _).symm
theorem hs_pxor {n y : Nat} (h : y < 2 ^ n) : 2 ^ n ^^^ y = 2 ^ n + y := by
  apply Nat.eq_of_testBit_eq
  intro i
  rw [Nat.testBit_xor, Nat.testBit_two_pow]
  rcases Nat.lt_trichotomy i n with z | z | z
  · rw [Nat.testBit_two_pow_add_gt z, decide_eq_false (by omega)]; simp
  · subst z; rw [Nat.testBit_two_pow_add_eq]; simp
  · have hp : 2 ^ (n + 1) ≤ 2 ^ i := Nat.pow_le_pow_right (by decide) z
    have hq : 2 ^ (n + 1) = 2 ^ n * 2 := Nat.pow_succ 2 n
    rw [Nat.testBit_lt_two_pow (show y < 2 ^ i by omega), Nat.testBit_lt_two_pow (show 2 ^ n + y < 2 ^ i by omega), decide_eq_false (by omega)]; rfl
theorem hs_lin (A B : Nat → Nat) (la : ∀ x y, A (x ^^^ y) = A x ^^^ A y) (lb : ∀ x y, B (x ^^^ y) = B x ^^^ B y) (N : Nat)
    (h : ∀ i, i < N → A (2 ^ i) = B (2 ^ i)) : ∀ n, n ≤ N → ∀ x, x < 2 ^ n → A x = B x := by
  intro n
  induction n with
  | zero =>
    intro _ x hx
    have e : x = 0 := by omega
    subst e
    have ea := la 0 0
    have eb := lb 0 0
    rw [Nat.xor_self, Nat.xor_self] at ea eb
    rw [ea, eb]
  | succ n ih =>
    intro hn x hx
    by_cases z : x < 2 ^ n
    · exact ih (by omega) x z
    · have hq : 2 ^ (n + 1) = 2 ^ n * 2 := Nat.pow_succ 2 n
      obtain ⟨y, rfl⟩ : ∃ y, x = 2 ^ n + y := ⟨x - 2 ^ n, by omega⟩
      rw [← hs_pxor (show y < 2 ^ n by omega), la, lb, h n (by omega), ih (by omega) y (by omega)]
def hs_t1 (t : Nat) : Nat := hs_dv 207 7 7 (t * 2 ^ 7)
def hs_t2 (t : Nat) : Nat := hs_dv 11 3 11 t
def hs_f1 (H : Nat) : Nat → Nat → Nat
  | 0, r => r
  | n + 1, r => hs_f1 H n (hs_t1 r ^^^ (H / 2 ^ (7 * n) % 2 ^ 7))
def hs_f2 (H : Nat) : Nat → Nat → Nat
  | 0, r => r
  | n + 1, r => hs_f2 H n (r ^^^ (H / 2 ^ (7 * n) % 2 ^ 7))
theorem hs_t1_x (a b : Nat) : hs_t1 (a ^^^ b) = hs_t1 a ^^^ hs_t1 b := by
  unfold hs_t1
  rw [← hs_dv_x]
  refine congrArg _ ?_
  rw [← Nat.shiftLeft_eq, ← Nat.shiftLeft_eq, ← Nat.shiftLeft_eq, Nat.shiftLeft_xor_distrib]
theorem hs_f1_x : ∀ n a b r s, hs_f1 (a ^^^ b) n (r ^^^ s) = hs_f1 a n r ^^^ hs_f1 b n s := by
  intro n
  induction n with
  | zero => intro a b r s; rfl
  | succ n ih =>
    intro a b r s
    show hs_f1 (a ^^^ b) n _ = hs_f1 a n _ ^^^ hs_f1 b n _
    rw [← ih, hs_t1_x, Nat.xor_div_two_pow, Nat.xor_mod_two_pow]
    refine congrArg (hs_f1 (a ^^^ b) n) ?_
    ac_rfl
theorem hs_f2_x : ∀ n a b r s, hs_f2 (a ^^^ b) n (r ^^^ s) = hs_f2 a n r ^^^ hs_f2 b n s := by
  intro n
  induction n with
  | zero => intro a b r s; rfl
  | succ n ih =>
    intro a b r s
    show hs_f2 (a ^^^ b) n _ = hs_f2 a n _ ^^^ hs_f2 b n _
    rw [← ih, Nat.xor_div_two_pow, Nat.xor_mod_two_pow]
    refine congrArg (hs_f2 (a ^^^ b) n) ?_
    ac_rfl
theorem hs_crc1 {H : Nat} (h : H < 2 ^ 36) : hs_f1 H 6 0 = hs_dv 207 7 29 H :=
  hs_lin (fun H => hs_f1 H 6 0) (fun H => hs_dv 207 7 29 H) (fun x y => hs_f1_x 6 x y 0 0) (fun x y => hs_dv_x 207 7 29 x y) 36 (by decide +kernel) 36 (Nat.le_refl _) H h
theorem hs_crc2 {H : Nat} (h : H < 2 ^ 36) : hs_t2 (hs_f2 H 6 0) = hs_dv 11 3 33 H :=
  hs_lin (fun H => hs_t2 (hs_f2 H 6 0)) (fun H => hs_dv 11 3 33 H) (fun x y => (congrArg hs_t2 (hs_f2_x 6 x y 0 0)).trans (hs_dv_x 11 3 11 _ _)) (fun x y => hs_dv_x 11 3 33 x y) 36 (by decide +kernel) 36 (Nat.le_refl _) H h
theorem hs_t1_lt : ∀ t, t < 128 → hs_t1 t < 128 := by decide +kernel
theorem hs_t2_lt : ∀ t, t < 128 → hs_t2 t < 128 := by decide +kernel
theorem hs_f1_lt (H : Nat) : ∀ n r, r < 128 → hs_f1 H n r < 128 := by
  intro n
  induction n with
  | zero => intro r h; exact h
  | succ n ih =>
    intro r h
    exact ih _ (Nat.xor_lt_two_pow (n := 7) (hs_t1_lt r h) (Nat.mod_lt _ (by decide)))
theorem hs_f2_lt (H : Nat) : ∀ n r, r < 128 → hs_f2 H n r < 128 := by
  intro n
  induction n with
  | zero => intro r h; exact h
  | succ n ih =>
    intro r h
    exact ih _ (Nat.xor_lt_two_pow (n := 7) h (Nat.mod_lt _ (by decide)))
def hs_ck (K H : Nat) : Nat := if K = 0 then 0 else if K = 1 then hs_dv 207 7 29 H else hs_dv 11 3 33 H
theorem hs_ck_lt {K H : Nat} (h : H < 2 ^ 36) : hs_ck K H < 128 := by
  unfold hs_ck
  split
  · decide
  · split
    · rw [← hs_crc1 h]; exact hs_f1_lt H 6 0 (by decide)
    · rw [← hs_crc2 h]; exact hs_t2_lt _ (hs_f2_lt H 6 0 (by decide))
theorem hs_dv_s (g d n r : Nat) : hs_dv g d (n + 1) r = hs_dv g d n (if r.testBit (d + n) = true then r ^^^ (g * 2 ^ n) else r) := rfl
theorem hs_dv_b {g d n r N : Nat} (hg : g * 2 ^ n < 2 ^ N) (hr : r < 2 ^ N) : (if r.testBit (d + n) = true then r ^^^ (g * 2 ^ n) else r) < 2 ^ N := by
  split
  · exact Nat.xor_lt_two_pow hr hg
  · exact hr
end
section
/-! ===== arrays: one cell, a shift ===== -/
def hs_u (w : Nat → Nat) (k v : Nat) : Nat → Nat := fun j => if j = k then v else w j
theorem hs_us {w : Nat → Nat} {k v : Nat} : hs_u w k v k = v := if_pos rfl
theorem hs_un {w : Nat → Nat} {k v j : Nat} (h : j ≠ k) : hs_u w k v j = w j := if_neg h
theorem hs_uN (w : Nat → Nat) (k v : Nat) : upd (fun j => nI (w j)) k (nI v) = fun j => nI (hs_u w k v j) := by
  funext j
  unfold upd hs_u
  by_cases h : j = k
  · rw [if_pos h, if_pos h]
  · rw [if_neg h, if_neg h]
theorem hs_u_lt {w : Nat → Nat} {k v N : Nat} (hw : ∀ j, w j < N) (hv : v < N) : ∀ j, hs_u w k v j < N := by
  intro j
  unfold hs_u
  split
  · exact hv
  · exact hw j
def hs_sh {α : Type} (a : Nat → α) (lo hi d : Nat) : Nat → α := fun j => if lo ≤ j ∧ j < hi then a (j + d) else a j
theorem hs_sh_i {α : Type} {a : Nat → α} {lo hi d j : Nat} (h : lo ≤ j) (h2 : j < hi) : hs_sh a lo hi d j = a (j + d) := if_pos ⟨h, h2⟩
theorem hs_sh_o {α : Type} {a : Nat → α} {lo hi d j : Nat} (h : j < lo ∨ hi ≤ j) : hs_sh a lo hi d j = a j := if_neg (by omega)
theorem hs_sh_0 {α : Type} (a : Nat → α) (lo d : Nat) : hs_sh a lo lo d = a := by
  funext j
  exact hs_sh_o (by omega)
theorem hs_sh_u (a : Nat → Int32) {lo p d : Nat} (h : lo ≤ p) : upd (hs_sh a lo p d) p (hs_sh a lo p d (p + d)) = hs_sh a lo (p + 1) d := by
  funext j
  rw [hs_sh_o (show p + d < lo ∨ p ≤ p + d by omega)]
  by_cases e : j = p
  · subst e
    rw [pk_us, hs_sh_i h (by omega)]
  · rw [pk_un e]
    unfold hs_sh
    by_cases c : lo ≤ j ∧ j < p
    · rw [if_pos c, if_pos (by omega)]
    · rw [if_neg c, if_neg (by omega)]
theorem hs_sh_uL (a : Nat → Int64) {lo p d : Nat} (h : lo ≤ p) : vp_updL (hs_sh a lo p d) p (hs_sh a lo p d (p + d)) = hs_sh a lo (p + 1) d := by
  funext j
  rw [hs_sh_o (show p + d < lo ∨ p ≤ p + d by omega)]
  by_cases e : j = p
  · subst e
    rw [pk_uLs, hs_sh_i h (by omega)]
  · rw [pk_uLn e]
    unfold hs_sh
    by_cases c : lo ≤ j ∧ j < p
    · rw [if_pos c, if_pos (by omega)]
    · rw [if_neg c, if_neg (by omega)]
theorem hs_sh_N (w : Nat → Nat) (lo hi d : Nat) : hs_sh (fun j => nI (w j)) lo hi d = fun j => nI (hs_sh w lo hi d j) := by
  funext j
  unfold hs_sh
  by_cases c : lo ≤ j ∧ j < hi
  · rw [if_pos c, if_pos c]
  · rw [if_neg c, if_neg c]
theorem hs_sh_lt {w : Nat → Nat} {lo hi d N : Nat} (hw : ∀ j, w j < N) : ∀ j, hs_sh w lo hi d j < N := by
  intro j
  unfold hs_sh
  split <;> exact hw _
theorem hs_i3 {f : Nat} (hf : f < 3) : f = 0 ∨ f = 1 ∨ f = 2 := by omega
/-! ===== packets ===== -/
def hs_pk (g : Nat → Nat) : Nat := g 0 + g 1 * 4 + g 2 * 64 + g 3 * 1024 + g 4 * 16384 + g 5 * 67108864 + g 6 * 274877906944 + g 7 * 1125899906842624
def hs_ok (g : Nat → Nat) : Prop := g 0 ≤ 2 ∧ (∀ f, f < 3 → g (1 + f) ≤ 12 ∧ g (4 + f) < 2 ^ g (1 + f)) ∧ g 7 < 128 ∧ (g 0 = 0 → ∀ f, f < 3 → g (1 + f) = 12)
theorem hs_ok_r {g : Nat → Nat} (h : hs_ok g) : g 0 ≤ 2 ∧ g 1 ≤ 12 ∧ g 2 ≤ 12 ∧ g 3 ≤ 12 ∧ g 4 < 4096 ∧ g 5 < 4096 ∧ g 6 < 4096 ∧ g 7 < 128 := by
  obtain ⟨h0, h1, h7, _⟩ := h
  have a := h1 0 (by decide)
  have b := h1 1 (by decide)
  have c := h1 2 (by decide)
  have pa := hs_pw a.1
  have pb := hs_pw b.1
  have pc := hs_pw c.1
  refine ⟨h0, a.1, b.1, c.1, ?_, ?_, ?_, h7⟩
  · have := a.2; simp only [Nat.reduceAdd] at *; omega
  · have := b.2; simp only [Nat.reduceAdd] at *; omega
  · have := c.2; simp only [Nat.reduceAdd] at *; omega
def hs_g (F : Nat → Nat) (i : Nat) : Nat → Nat := fun j => F (8 * i + j)
def hs_F (fl : Nat) (fx : Nat → Int64) (F : Nat → Nat) : Prop := fl ≤ 16 ∧ ∀ i, i < fl → hs_ok (hs_g F i) ∧ fx i = lN (hs_pk (hs_g F i))
theorem hs_ok_c {g g' : Nat → Nat} (e : ∀ q, q < 8 → g' q = g q) (h : hs_ok g) : hs_ok g' := by
  obtain ⟨h0, h1, h2, h3⟩ := h
  refine ⟨?_, fun f hf => ?_, ?_, fun z f hf => ?_⟩
  · rw [e 0 (by decide)]; exact h0
  · rw [e (1 + f) (by omega), e (4 + f) (by omega)]; exact h1 f hf
  · rw [e 7 (by decide)]; exact h2
  · rw [e (1 + f) (by omega)]
    rw [e 0 (by decide)] at z
    exact h3 z f hf
theorem hs_pk_c {g g' : Nat → Nat} (e : ∀ q, q < 8 → g' q = g q) : hs_pk g' = hs_pk g := by
  unfold hs_pk
  rw [e 0 (by decide), e 1 (by decide), e 2 (by decide), e 3 (by decide), e 4 (by decide), e 5 (by decide), e 6 (by decide), e 7 (by decide)]
theorem hs_F_del {fl : Nat} {fx : Nat → Int64} {F : Nat → Nat} {i : Nat} (h : hs_F fl fx F) (hi : i < fl) : hs_F (fl - 1) (hs_sh fx i (fl - 1) 1) (hs_sh F (8 * i) (8 * fl - 8) 8) := by
  refine ⟨by have := h.1; omega, fun j hj => ?_⟩
  by_cases c : i ≤ j
  · have e : ∀ q, q < 8 → hs_g (hs_sh F (8 * i) (8 * fl - 8) 8) j q = hs_g F (j + 1) q := by
      intro q hq
      show hs_sh F (8 * i) (8 * fl - 8) 8 (8 * j + q) = F (8 * (j + 1) + q)
      rw [hs_sh_i (by omega) (by omega)]
      exact congrArg F (by omega)
    have hh := h.2 (j + 1) (by omega)
    rw [hs_pk_c e, hs_sh_i c (by omega)]
    exact ⟨hs_ok_c e hh.1, hh.2⟩
  · have e : ∀ q, q < 8 → hs_g (hs_sh F (8 * i) (8 * fl - 8) 8) j q = hs_g F j q := by
      intro q hq
      show hs_sh F (8 * i) (8 * fl - 8) 8 (8 * j + q) = F (8 * j + q)
      rw [hs_sh_o (by omega)]
    have hh := h.2 j (by omega)
    rw [hs_pk_c e, hs_sh_o (by omega)]
    exact ⟨hs_ok_c e hh.1, hh.2⟩
theorem hs_F_add {fl : Nat} {fx fx' : Nat → Int64} {F F' : Nat → Nat} (h : hs_F fl fx F) (hl : fl < 16) (ho : hs_ok (hs_g F' fl)) (hx : fx' = vp_updL fx fl (lN (hs_pk (hs_g F' fl))))
    (hF : ∀ j, j < 8 * fl → F' j = F j) : hs_F (fl + 1) fx' F' := by
  refine ⟨by omega, fun j hj => ?_⟩
  by_cases c : j = fl
  · subst c
    rw [hx, pk_uLs]
    exact ⟨ho, rfl⟩
  · have e : ∀ q, q < 8 → hs_g F' j q = hs_g F j q := fun q hq => hF _ (by omega)
    have hh := h.2 j (by omega)
    rw [hs_pk_c e, hx, pk_uLn c]
    exact ⟨hs_ok_c e hh.1, hh.2⟩
/-! ===== messages ===== -/
def hs_B (wt : Nat) (ms : Nat → Int32) (B : Nat → Nat) : Prop := wt ≤ 8 ∧ ∀ j, j < wt → B (2 * j) ≤ 2 ∧ B (2 * j + 1) < 4096 ∧ ms j = nI (B (2 * j) * 4096 + B (2 * j + 1))
theorem hs_B_del {wt : Nat} {ms : Nat → Int32} {B : Nat → Nat} {i : Nat} (h : hs_B wt ms B) (hi : i < wt) : hs_B (wt - 1) (hs_sh ms i (wt - 1) 1) (hs_sh B (2 * i) (2 * wt - 2) 2) := by
  refine ⟨by have := h.1; omega, fun j hj => ?_⟩
  by_cases c : i ≤ j
  · have hh := h.2 (j + 1) (by omega)
    rw [hs_sh_i (show 2 * i ≤ 2 * j by omega) (by omega), hs_sh_i (show 2 * i ≤ 2 * j + 1 by omega) (by omega), hs_sh_i c (by omega)]
    exact hh
  · have hh := h.2 j (by omega)
    rw [hs_sh_o (show 2 * j < 2 * i ∨ _ by omega), hs_sh_o (show 2 * j + 1 < 2 * i ∨ _ by omega), hs_sh_o (show j < i ∨ _ by omega)]
    exact hh
theorem hs_B_add {wt : Nat} {ms : Nat → Int32} {B : Nat → Nat} {k s : Nat} (h : hs_B wt ms B) (hl : wt < 8) (hk : k ≤ 2) (hs : s < 4096) :
    hs_B (wt + 1) (upd ms wt (nI (k * 4096 + s))) (hs_u (hs_u B (2 * wt) k) (2 * wt + 1) s) := by
  refine ⟨by omega, fun j hj => ?_⟩
  by_cases c : j = wt
  · subst c
    rw [hs_un (show 2 * j ≠ 2 * j + 1 by omega), hs_us, hs_us, pk_us]
    exact ⟨hk, hs, rfl⟩
  · have hh := h.2 j (by omega)
    rw [hs_un (show 2 * j ≠ 2 * wt + 1 by omega), hs_un (show 2 * j ≠ 2 * wt by omega), hs_un (show 2 * j + 1 ≠ 2 * wt + 1 by omega), hs_un (show 2 * j + 1 ≠ 2 * wt by omega), pk_un c]
    exact hh
/-! ===== the window ===== -/
def hs_cw (st : Nat) (w : Nat → Nat) (f i : Nat) : Nat := hs_cd st f (w (3 * i)) (w (3 * i + 1)) (w (3 * i + 2))
def hs_W (st h m : Nat) (hr : Nat → Int64) (cr : Nat → Int32) (w : Nat → Nat) : Prop :=
  h < 16 ∧ (∀ j, w j < 4096) ∧ (∀ i, i < m → hr ((h + i) % 16) = lN (hs_hd (w (3 * i)) (w (3 * i + 1)) (w (3 * i + 2)))) ∧
  (∀ f i, f < 3 → i < m → cr (f * 16 + (h + i) % 16) = nI (hs_cw st w f i))
theorem hs_cw_lt {st : Nat} {w : Nat → Nat} {f i : Nat} (h : ∀ j, w j < 4096) : hs_cw st w f i < 4096 := hs_cd_lt (h _)
theorem hs_sh3 (w : Nat → Nat) {m n i e : Nat} (hi : i < m - n) (he : e < 3) : hs_sh w 0 (3 * m - 3 * n) (3 * n) (3 * i + e) = w (3 * (i + n) + e) := by
  rw [hs_sh_i (by omega) (by omega)]
  exact congrArg w (by omega)
theorem hs_cw_sh {st : Nat} {w : Nat → Nat} {f m n i : Nat} (hi : i < m - n) : hs_cw st (hs_sh w 0 (3 * m - 3 * n) (3 * n)) f i = hs_cw st w f (i + n) := by
  unfold hs_cw
  have e0 := hs_sh3 w hi (show 0 < 3 by decide)
  have e1 := hs_sh3 w hi (show 1 < 3 by decide)
  have e2 := hs_sh3 w hi (show 2 < 3 by decide)
  rw [e1, e2]
  exact congrArg (fun x => hs_cd st f x _ _) e0
theorem hs_W_drop {st h m n : Nat} {hr : Nat → Int64} {cr : Nat → Int32} {w : Nat → Nat} (W : hs_W st h m hr cr w) (_hn : n ≤ m) :
    hs_W st ((h + n) % 16) (m - n) hr cr (hs_sh w 0 (3 * m - 3 * n) (3 * n)) := by
  obtain ⟨h1, h2, h3, h4⟩ := W
  refine ⟨by omega, hs_sh_lt h2, fun i hi => ?_, fun f i hf hi => ?_⟩
  · have e0 := hs_sh3 w hi (show 0 < 3 by decide)
    have e1 := hs_sh3 w hi (show 1 < 3 by decide)
    have e2 := hs_sh3 w hi (show 2 < 3 by decide)
    have e : ((h + n) % 16 + i) % 16 = (h + (i + n)) % 16 := by omega
    rw [e1, e2, e, h3 (i + n) (by omega)]
    exact congrArg (fun x => lN (hs_hd x _ _)) e0.symm
  · have e : ((h + n) % 16 + i) % 16 = (h + (i + n)) % 16 := by omega
    rw [hs_cw_sh hi, e, h4 f (i + n) hf (by omega)]
def hs_w3 (w : Nat → Nat) (m s t d : Nat) : Nat → Nat := hs_u (hs_u (hs_u w (3 * m) s) (3 * m + 1) t) (3 * m + 2) d
theorem hs_w3_lo {w : Nat → Nat} {m s t d i : Nat} (h : i < 3 * m) : hs_w3 w m s t d i = w i := by
  unfold hs_w3
  rw [hs_un (by omega), hs_un (by omega), hs_un (by omega)]
theorem hs_w3_0 {w : Nat → Nat} {m s t d : Nat} : hs_w3 w m s t d (3 * m) = s := by
  unfold hs_w3
  rw [hs_un (by omega), hs_un (by omega), hs_us]
theorem hs_w3_1 {w : Nat → Nat} {m s t d : Nat} : hs_w3 w m s t d (3 * m + 1) = t := by
  unfold hs_w3
  rw [hs_un (by omega), hs_us]
theorem hs_w3_2 {w : Nat → Nat} {m s t d : Nat} : hs_w3 w m s t d (3 * m + 2) = d := by
  unfold hs_w3
  rw [hs_us]
theorem hs_cw_lo {st : Nat} {w : Nat → Nat} {f m s t d i : Nat} (h : i < m) : hs_cw st (hs_w3 w m s t d) f i = hs_cw st w f i := by
  unfold hs_cw
  rw [hs_w3_lo (by omega), hs_w3_lo (by omega), hs_w3_lo (by omega)]
theorem hs_cw_hi {st : Nat} {w : Nat → Nat} {f m s t d : Nat} : hs_cw st (hs_w3 w m s t d) f m = hs_cd st f s t d := by
  unfold hs_cw
  rw [hs_w3_0, hs_w3_1, hs_w3_2]
def hs_c3 (cr : Nat → Int32) (q a b c : Nat) : Nat → Int32 := upd (upd (upd cr q (nI a)) (16 + q) (nI b)) (32 + q) (nI c)
theorem hs_W_push {st h m : Nat} {hr : Nat → Int64} {cr : Nat → Int32} {w : Nat → Nat} {s t d : Nat} (W : hs_W st h m hr cr w) (hm : m ≤ 15) (hs : s < 4096) (ht : t < 4096) (hd : d < 4096) :
    hs_W st h (m + 1) (vp_updL hr ((h + m) % 16) (lN (hs_hd s t d))) (hs_c3 cr ((h + m) % 16) (hs_cd st 0 s t d) (hs_cd st 1 s t d) (hs_cd st 2 s t d)) (hs_w3 w m s t d) := by
  obtain ⟨h1, h2, h3, h4⟩ := W
  refine ⟨h1, hs_u_lt (hs_u_lt (hs_u_lt h2 hs) ht) hd, fun i hi => ?_, fun f i hf hi => ?_⟩
  · by_cases c : i = m
    · subst c
      rw [pk_uLs, hs_w3_0, hs_w3_1, hs_w3_2]
    · rw [pk_uLn (by omega), hs_w3_lo (by omega), hs_w3_lo (by omega), hs_w3_lo (by omega)]
      exact h3 i (by omega)
  · unfold hs_c3
    by_cases c : i = m
    · subst c
      rw [hs_cw_hi]
      rcases hs_i3 hf with rfl | rfl | rfl
      · rw [pk_un (by omega), pk_un (by omega), show 0 * 16 + (h + i) % 16 = (h + i) % 16 by omega, pk_us]
      · rw [pk_un (by omega), show 1 * 16 + (h + i) % 16 = 16 + (h + i) % 16 by omega, pk_us]
      · rw [show 2 * 16 + (h + i) % 16 = 32 + (h + i) % 16 by omega, pk_us]
    · rw [hs_cw_lo (by omega), pk_un (by omega), pk_un (by omega), pk_un (by omega)]
      exact h4 f i hf (by omega)
/-! ===== the streak: e i is a member's pair of coded values ===== -/
def hs_K (e : Nat → Nat × Nat) (m sk : Nat) : Prop := sk ≤ 16 ∧ (∀ i, i < m → m ≤ sk + i → e i = e (m - 1)) ∧ (sk < m → e (m - 1 - sk) ≠ e (m - 1))
def hs_e (st : Nat) (w : Nat → Nat) : Nat → Nat × Nat := fun i => (hs_cw st w 1 i, hs_cw st w 2 i)
theorem hs_K_drop {e e' : Nat → Nat × Nat} {m sk n : Nat} (K : hs_K e m sk) (_hn : n ≤ m) (he : ∀ i, i < m - n → e' i = e (i + n)) : hs_K e' (m - n) sk := by
  obtain ⟨h1, h2, h3⟩ := K
  refine ⟨h1, fun i hi hs => ?_, fun hs => ?_⟩
  · rw [he i hi, he (m - n - 1) (by omega), h2 (i + n) (by omega) (by omega)]
    exact congrArg e (by omega)
  · rw [he _ (by omega), he (m - n - 1) (by omega)]
    have := h3 (by omega)
    rw [show m - n - 1 - sk + n = m - 1 - sk by omega, show m - n - 1 + n = m - 1 by omega]
    exact this
theorem hs_K_push {e e' : Nat → Nat × Nat} {m sk : Nat} {x : Nat × Nat} {same : Prop} (K : hs_K e m sk) (hm : m ≤ 15) (he : ∀ i, i < m → e' i = e i) (hx : e' m = x)
    (hs : 0 < m → (same ↔ e (m - 1) = x)) {sk' : Nat} (h1 : same → sk' = if sk + 1 ≤ m + 1 then sk + 1 else m + 1) (h0 : ¬ same → sk' = 1) : hs_K e' (m + 1) sk' := by
  obtain ⟨k1, k2, k3⟩ := K
  by_cases c : same
  · have z := h1 c
    refine ⟨by split at z <;> omega, fun i hi hq => ?_, fun hq => ?_⟩
    · by_cases ci : i = m
      · subst ci; rfl
      · have hm0 : 0 < m := by omega
        rw [he i (by omega), Nat.add_sub_cancel, hx, ← (hs hm0).mp c]
        exact k2 i (by omega) (by split at z <;> omega)
    · have hk : sk < m := by split at z <;> omega
      have z2 : sk' = sk + 1 := by split at z <;> omega
      rw [z2, Nat.add_sub_cancel, hx, show m - (sk + 1) = m - 1 - sk by omega, he _ (by omega), ← (hs (by omega)).mp c]
      exact k3 hk
  · have z := h0 c
    refine ⟨by omega, fun i hi hq => ?_, fun hq => ?_⟩
    · have ci : i = m := by omega
      subst ci; rfl
    · rw [z, Nat.add_sub_cancel, hx, he _ (by omega)]
      exact fun g => c ((hs (by omega)).mpr g)
theorem hs_K_all {e : Nat → Nat × Nat} {m sk : Nat} (K : hs_K e m sk) (hm : 0 < m) : m ≤ sk ↔ ∀ i, i < m → e i = e 0 := by
  obtain ⟨k1, k2, k3⟩ := K
  constructor
  · intro h i hi
    rw [k2 i hi (by omega), k2 0 hm (by omega)]
  · intro h
    by_cases c : m ≤ sk
    · exact c
    · exact absurd ((h _ (by omega)).trans (h _ (by omega)).symm) (k3 (by omega))
end
section
section
variable {xwl xst xcf xld xS xR xh xm xsk xfl xwt xbs xfs : Int32} {xnw xol : Int64} {xhr xfx : Nat → Int64} {xcr xms xt1 xt2 : Nat → Int32}
variable {ywl yst ycf yld yS yR ym ypk ymg ybs yfs : Int32} {yw yf yb yba ytk ymd : Nat → Int32}

/-! ===== small numbers ===== -/
theorem hs_hd_lt {s t d : Nat} (hs : s < 4096) (ht : t < 4096) (hd : d < 4096) : hs_hd s t d < 2 ^ 36 := by
  unfold hs_hd
  omega
def hs_fd (f s t d : Nat) : Nat := if f = 0 then s else if f = 1 then t else d
theorem hs_hd_f {s t d f : Nat} (hs : s < 4096) (ht : t < 4096) (hd : d < 4096) (hf : f < 3) : hs_hd s t d / 2 ^ (24 - 12 * f) % 4096 = hs_fd f s t d := by
  unfold hs_hd
  rcases hs_i3 hf with rfl | rfl | rfl
  · show (s * 16777216 + t * 4096 + d) / 16777216 % 4096 = s
    omega
  · show (s * 16777216 + t * 4096 + d) / 4096 % 4096 = t
    omega
  · show (s * 16777216 + t * 4096 + d) / 1 % 4096 = d
    omega
theorem hs_xsh {P k : Nat} {x : Int32} (hP : P < 2 ^ 64) (hk : k < 64) (e : x = nI k) : (((lN P).toUInt64 >>> (x.toInt64.toUInt64 &&& Int64.toUInt64 63)).toInt64).toInt32 = nI (P / 2 ^ k) := by
  rw [e, wb_shr hP hk, lN_i]
theorem hs_span {w : Nat} (hw : w ≤ 12) : ((1 : Int32) <<< (nI w &&& 31)) - 1 = nI (2 ^ w - 1) := by
  rw [hs_sh1 w (by omega)]
  exact pk_sub (b := 1) (Nat.two_pow_pos w)
theorem hs_maskN {c w : Nat} (hw : w ≤ 12) : nI c &&& nI (2 ^ w - 1) = nI (c % 2 ^ w) := by
  rw [hs_zn c, hs_mk _ w (by omega), ← Int.natCast_emod, Int.toNat_natCast]
theorem hs_mask {c w : Nat} (hw : w ≤ 12) : nI c &&& (((1 : Int32) <<< (nI w &&& 31)) - 1) = nI (c % 2 ^ w) := by
  rw [hs_span hw, hs_maskN hw]
theorem hs_zeq0 {a : Int} (ha : -1073741824 ≤ a) (ha' : a < 1073741824) : hs_z a = 0 ↔ a = 0 := by
  rw [show (0 : Int32) = hs_z 0 from by decide]
  exact hs_zeq ha ha' (by decide) (by decide)
theorem hs_zle0 {a : Int} (ha : -1073741824 ≤ a) (ha' : a < 1073741824) : hs_z a ≤ 0 ↔ a ≤ 0 := by
  rw [show (0 : Int32) = hs_z 0 from by decide]
  exact hs_zle ha ha' (by decide) (by decide)
theorem hs_nor (a b : Nat) : nI a ||| nI b = nI (a ||| b) := by
  apply Int32.toBitVec_inj.1
  show BitVec.ofNat 32 a ||| BitVec.ofNat 32 b = BitVec.ofNat 32 (a ||| b)
  apply BitVec.eq_of_getLsbD_eq
  intro i hi
  simp [hi]
theorem hs_msg {k s : Nat} (hk : k ≤ 2) (hs : s < 4096) : (nI k <<< ((12 : Int32) &&& 31)) ||| nI s = nI (k * 4096 + s) := by
  rw [pk_shlN (n := k) ((12 : Int32) &&& 31) 12 (by decide) (by omega), hs_nor]
  have h1 : k * 2 ^ 12 ||| s = k * 2 ^ 12 + s := by rw [← Nat.shiftLeft_eq, Nat.shiftLeft_add_eq_or_of_lt (show s < 2 ^ 12 from hs)]
  rw [h1]
/-! ===== X: headers ===== -/
theorem hs_xfh {post : Int32 → Prop} {s t d f : Nat} (hs : s < 4096) (ht : t < 4096) (hd : d < 4096) (hf : f < 3) (h : post (nI (hs_fd f s t d))) :
    wpX_fieldOf post (xwl, xst, xcf, xld, xS, xR, xh, xm, xsk, xfl, xwt, xnw, xol, xbs, xfs, xhr, xcr, xfx, xms, xt1, xt2) (lN (hs_hd s t d)) (nI f) := by
  have e : (24 - (12 * nI f) : Int32) = nI (24 - 12 * f) := by rcases hs_i3 hf with rfl | rfl | rfl <;> decide
  have hl := hs_hd_lt hs ht hd
  unfold wpX_fieldOf
  dsimp only
  rw [hs_xsh (x := 24 - (12 * nI f)) (k := 24 - 12 * f) (by omega) (by omega) e, hs_mN, hs_hd_f hs ht hd hf]
  exact h
theorem hs_cd1 (st s t d : Nat) : (nI t - nI st * nI s) &&& 4095 = nI (hs_cd st 1 s t d) := by
  rw [hs_zn t, hs_zn st, hs_zn s, hs_zmul, hs_zsub, hs_m12]
  rfl
theorem hs_cd2 (st s t d : Nat) : (nI d - nI s) &&& 4095 = nI (hs_cd st 2 s t d) := by
  rw [hs_zn d, hs_zn s, hs_zsub, hs_m12]
  rfl
theorem hs_xcoded {post : Int32 → Prop} {st s t d f : Nat} (hs : s < 4096) (ht : t < 4096) (hd : d < 4096) (hf : f < 3) (h : post (nI (hs_cd st f s t d))) :
    wpX_coded post (xwl, nI st, xcf, xld, xS, xR, xh, xm, xsk, xfl, xwt, xnw, xol, xbs, xfs, xhr, xcr, xfx, xms, xt1, xt2) (lN (hs_hd s t d)) (nI f) := by
  unfold wpX_coded
  dsimp only
  rcases hs_i3 hf with rfl | rfl | rfl
  · refine hs_xfh (f := 0) hs ht hd (by decide) ?_
    exact br_t rfl h
  · refine hs_xfh (f := 0) hs ht hd (by decide) ?_
    refine br_f (by decide) ?_
    refine hs_xfh (f := 1) hs ht hd (by decide) ?_
    refine br_t rfl (nm_e ?_)
    show post ((nI t - nI st * nI s) &&& 4095)
    rw [hs_cd1 st s t d]
    exact h
  · refine hs_xfh (f := 0) hs ht hd (by decide) ?_
    refine br_f (by decide) ?_
    refine hs_xfh (f := 2) hs ht hd (by decide) ?_
    refine br_f (by decide) ?_
    show post ((nI d - nI s) &&& 4095)
    rw [hs_cd2 st s t d]
    exact h
theorem hs_xjoin {post : Int64 → Prop} {p0 p1 p2 : Int32} {s t d : Nat} (e0 : p0 &&& 4095 = nI s) (e1 : p1 &&& 4095 = nI t) (e2 : p2 &&& 4095 = nI d)
    (hs : s < 4096) (ht : t < 4096) (hd : d < 4096) (h : post (lN (hs_hd s t d))) : wpX_join post (xwl, xst, xcf, xld, xS, xR, xh, xm, xsk, xfl, xwt, xnw, xol, xbs, xfs, xhr, xcr, xfx, xms, xt1, xt2) p0 p1 p2 := by
  unfold wpX_join
  dsimp only
  have a1 : lN s <<< ((24 : Int32).toInt64 &&& 63) = lN (s * 2 ^ 24) := wb_shl s (k := 24) (by decide)
  have a2 : nI t <<< ((12 : Int32) &&& 31) = nI (t * 2 ^ 12) := pk_shlN _ 12 (by decide) (by omega)
  have a3 : lN (s * 2 ^ 24) ||| lN (t * 2 ^ 12) = lN (s * 2 ^ 24 + t * 2 ^ 12) := g_or (k := 24) rfl (by omega) (by omega)
  have a4 : lN ((s * 2 ^ 12 + t) * 2 ^ 12) ||| lN d = lN ((s * 2 ^ 12 + t) * 2 ^ 12 + d) := g_or (k := 12) rfl (by omega) (by omega)
  have k : (((p0 &&& 4095).toInt64 <<< ((24 : Int32).toInt64 &&& 63)) ||| (((p1 &&& 4095) <<< ((12 : Int32) &&& 31)).toInt64)) ||| ((p2 &&& 4095).toInt64) = lN (hs_hd s t d) := by
    rw [e0, e1, e2, a2, nI_l (show s < 2 ^ 31 by omega), nI_l (show t * 2 ^ 12 < 2 ^ 31 by omega), nI_l (show d < 2 ^ 31 by omega), a1, a3,
      show s * 2 ^ 24 + t * 2 ^ 12 = (s * 2 ^ 12 + t) * 2 ^ 12 by omega, a4]
    exact congrArg lN (by unfold hs_hd; omega)
  refine nm_e ?_
  rw [k]
  exact h
/-! ===== X: packets ===== -/
def hs_bd (g : Nat → Nat) : Prop := g 0 ≤ 2 ∧ g 1 ≤ 12 ∧ g 2 ≤ 12 ∧ g 3 ≤ 12 ∧ g 4 < 4096 ∧ g 5 < 4096 ∧ g 6 < 4096 ∧ g 7 < 128
theorem hs_pk_lt {g : Nat → Nat} (h : hs_bd g) : hs_pk g < 2 ^ 60 := by
  obtain ⟨h0, h1, h2, h3, h4, h5, h6, h7⟩ := h
  unfold hs_pk
  omega
theorem hs_pk_0 {g : Nat → Nat} (h : hs_bd g) : hs_pk g % 4 = g 0 := by
  obtain ⟨h0, h1, h2, h3, h4, h5, h6, h7⟩ := h
  unfold hs_pk
  omega
theorem hs_pk_w {g : Nat → Nat} (h : hs_bd g) : hs_pk g / 2 ^ 2 % 16 = g 1 ∧ hs_pk g / 2 ^ 6 % 16 = g 2 ∧ hs_pk g / 2 ^ 10 % 16 = g 3 := by
  obtain ⟨h0, h1, h2, h3, h4, h5, h6, h7⟩ := h
  unfold hs_pk
  refine ⟨?_, ?_, ?_⟩ <;> omega
theorem hs_pk_b {g : Nat → Nat} (h : hs_bd g) : hs_pk g / 2 ^ 14 % 4096 = g 4 ∧ hs_pk g / 2 ^ 26 % 4096 = g 5 ∧ hs_pk g / 2 ^ 38 % 4096 = g 6 := by
  obtain ⟨h0, h1, h2, h3, h4, h5, h6, h7⟩ := h
  unfold hs_pk
  refine ⟨?_, ?_, ?_⟩ <;> omega
theorem hs_pk_7 {g : Nat → Nat} (h : hs_bd g) : hs_pk g / 2 ^ 50 % 128 = g 7 := by
  obtain ⟨h0, h1, h2, h3, h4, h5, h6, h7⟩ := h
  unfold hs_pk
  omega
theorem hs_xpart {post : Int32 → Prop} {g : Nat → Nat} {q : Nat} (hg : hs_bd g) (hq : q < 8) (h : post (nI (g q))) : wpX_part post (xwl, xst, xcf, xld, xS, xR, xh, xm, xsk, xfl, xwt, xnw, xol, xbs, xfs, xhr, xcr, xfx, xms, xt1, xt2) (lN (hs_pk g)) (nI q) := by
  have hl := hs_pk_lt hg
  have hl' : hs_pk g < 2 ^ 64 := by omega
  have c : q = 0 ∨ q = 1 ∨ q = 2 ∨ q = 3 ∨ q = 4 ∨ q = 5 ∨ q = 6 ∨ q = 7 := by omega
  unfold wpX_part
  dsimp only
  rcases c with rfl | rfl | rfl | rfl | rfl | rfl | rfl | rfl
  · refine br_t rfl ?_
    rw [lN_i, hs_mN3, hs_pk_0 hg]
    exact h
  · refine br_f (by decide) (br_f (by decide) ?_)
    rw [hs_xsh (x := (4 * nI 1) - 2) (k := 2) hl' (by decide) (by decide), hs_mN15, (hs_pk_w hg).1]
    exact h
  · refine br_f (by decide) (br_f (by decide) ?_)
    rw [hs_xsh (x := (4 * nI 2) - 2) (k := 6) hl' (by decide) (by decide), hs_mN15, (hs_pk_w hg).2.1]
    exact h
  · refine br_f (by decide) (br_f (by decide) ?_)
    rw [hs_xsh (x := (4 * nI 3) - 2) (k := 10) hl' (by decide) (by decide), hs_mN15, (hs_pk_w hg).2.2]
    exact h
  · refine br_f (by decide) (br_t (by decide) (br_f (by decide) ?_))
    rw [hs_xsh (x := (12 * nI 4) - 34) (k := 14) hl' (by decide) (by decide), hs_mN, (hs_pk_b hg).1]
    exact h
  · refine br_f (by decide) (br_t (by decide) (br_f (by decide) ?_))
    rw [hs_xsh (x := (12 * nI 5) - 34) (k := 26) hl' (by decide) (by decide), hs_mN, (hs_pk_b hg).2.1]
    exact h
  · refine br_f (by decide) (br_t (by decide) (br_f (by decide) ?_))
    rw [hs_xsh (x := (12 * nI 6) - 34) (k := 38) hl' (by decide) (by decide), hs_mN, (hs_pk_b hg).2.2]
    exact h
  · refine br_f (by decide) (br_t (by decide) (br_t (by decide) ?_))
    rw [hs_xsh (x := 50) (k := 50) hl' (by decide) (by decide), hs_mN127, hs_pk_7 hg]
    exact h
end
end
section
section
variable {xwl xst xcf xld xS xR xh xm xsk xfl xwt xbs xfs : Int32} {xnw xol : Int64} {xhr xfx : Nat → Int64} {xcr xms xt1 xt2 : Nat → Int32}
variable {ywl yst ycf yld yS yR ym ypk ymg ybs yfs : Int32} {yw yf yb yba ytk ymd : Nat → Int32}

/-! ===== X: extents and widths ===== -/
theorem hs_xe14 {post : Int32 → Prop} {ld f : Nat} {z : Int} {x : Int32} (hl : ld ≤ 63) (b : Nat) (hb : b = if f = 0 then ld else 2047) (h : post (nI (hs_ex ld f z)))
    (hx : nI f = 0 ↔ f = 0) (ex : x = hs_z z) : wX_extent_14 post (nI f) x (nI b) xwl xst xcf (nI ld) xS xR xh xm xsk xfl xwt xnw xol xbs xfs xhr xcr xfx xms xt1 xt2 := by
  subst ex
  have r := hs_dd_r (f := f) (z := z) hl
  have e : ((hs_z z + nI b) &&& 4095) - nI b = hs_z (hs_dd ld f z) := by
    rw [hs_zn b, hs_zadd, hs_m12, hs_zn, hs_zsub]
    refine congrArg hs_z ?_
    unfold hs_dd
    rw [hb]
    split <;> omega
  unfold hs_ex at h
  unfold wX_extent_14
  refine nm_r e ?_
  generalize hs_dd ld f z = D at h r
  obtain ⟨r1, r2⟩ := r
  by_cases c0 : D = 0
  · rw [if_pos c0] at h
    exact br_t ((hs_zeq0 (by omega) (by omega)).mpr c0) h
  · rw [if_neg c0] at h
    refine br_f (fun q => c0 ((hs_zeq0 (by omega) (by omega)).mp q)) ?_
    by_cases cf : f = 0
    · rw [if_pos cf] at h
      refine br_t (hx.mpr cf) ?_
      by_cases cd : D ≤ 0
      · rw [if_pos cd] at h
        refine br_t ((hs_zle0 (by omega) (by omega)).mpr cd) ?_
        rw [show (1 : Int32) = hs_z 1 from by decide, hs_zsub, hs_zN (by omega)]
        exact h
      · rw [if_neg cd] at h
        refine br_f (fun q => cd ((hs_zle0 (by omega) (by omega)).mp q)) ?_
        rw [show (1 : Int32) = hs_z 1 from by decide, hs_zn ld, hs_zadd, hs_zadd, hs_zN (by omega)]
        exact h
    · rw [if_neg cf] at h
      refine br_f (fun q => cf (hx.mp q)) ?_
      by_cases cd : D ≤ 0
      · rw [if_pos cd] at h
        refine br_t ((hs_zle0 (by omega) (by omega)).mpr cd) ?_
        rw [show (2 : Int32) = hs_z 2 from by decide, hs_zmul, hs_zsub, hs_zN (by omega)]
        exact h
      · rw [if_neg cd] at h
        refine br_f (fun q => cd ((hs_zle0 (by omega) (by omega)).mp q)) ?_
        rw [show (2 : Int32) = hs_z 2 from by decide, hs_zmul, hs_zN (by omega)]
        exact h
theorem hs_f0 {f : Nat} (hf : f < 3) : nI f = 0 ↔ f = 0 := nI_eq (b := 0) (by omega) (by decide)
theorem hs_xext {post : Int32 → Prop} {ld f : Nat} {z : Int} {x : Int32} (hl : ld ≤ 63) (hf : f < 3) (ex : x = hs_z z) (h : post (nI (hs_ex ld f z))) :
    wpX_extent post (xwl, xst, xcf, nI ld, xS, xR, xh, xm, xsk, xfl, xwt, xnw, xol, xbs, xfs, xhr, xcr, xfx, xms, xt1, xt2) (nI f) x := by
  unfold wpX_extent
  dsimp only
  by_cases c : f = 0
  · exact br_t ((hs_f0 hf).mpr c) (hs_xe14 hl ld (by rw [if_pos c]) h (hs_f0 hf) ex)
  · exact br_f (fun q => c ((hs_f0 hf).mp q)) (hs_xe14 hl 2047 (by rw [if_neg c]) h (hs_f0 hf) ex)
/-- r is the least width below 12 that P takes, or 12 -/
def hs_least (P : Nat → Prop) (r : Nat) : Prop := r ≤ 12 ∧ (∀ j, j < r → ¬ P j) ∧ (r < 12 → P r)
theorem hs_least_ex (P : Nat → Prop) : ∃ r, hs_least P r := by
  obtain ⟨r, h1, h2⟩ := pk_least (fun k => k = 12 ∨ P k) ⟨12, Or.inl rfl⟩
  refine ⟨r, ?_, fun j hj pj => h2 j hj (Or.inr pj), fun hr => ?_⟩
  · by_cases c : r ≤ 12
    · exact c
    · exact absurd (Or.inl rfl) (h2 12 (by omega))
  · rcases h1 with h1 | h1
    · omega
    · exact h1
theorem hs_xw65 {post : Int32 → Prop} {P : Nat → Prop} {q r : Nat} (hq : q < 2 ^ 31) (hP : ∀ j, j < 12 → (q ≤ 2 ^ j ↔ P j)) (hr : hs_least P r) (h : post (nI r)) :
    ∀ d k, k + d = r → wX_widthFor_65 post (nI q) xwl xst xcf xld xS xR xh xm xsk xfl xwt xnw xol xbs xfs xhr xcr xfx xms xt1 xt2 (d + 1) (nI k) := by
  obtain ⟨r1, r2, r3⟩ := hr
  intro d
  induction d with
  | zero =>
    intro k hk
    rw [wX_widthFor_65]
    have e : k = r := by omega
    subst e
    by_cases c : k = 12
    · subst c
      exact br_t (nI_le (a := 12) (b := 12) (by decide) (by decide)) h
    · refine br_f (nI_ge (b := 12) (by omega) (by decide)) ?_
      rw [hs_sh1 k (by omega)]
      have p : 2 ^ k < 2 ^ 31 := Nat.pow_lt_pow_right (by decide) (by omega)
      exact br_f (nI_nlt ((hP k (by omega)).mpr (r3 (by omega))) p) h
  | succ d ih =>
    intro k hk
    rw [wX_widthFor_65]
    refine br_f (nI_ge (b := 12) (by omega) (by decide)) ?_
    rw [hs_sh1 k (by omega)]
    have c : ¬ q ≤ 2 ^ k := fun z => r2 k (by omega) ((hP k (by omega)).mp z)
    exact br_t (nI_lt (by omega) hq) (nm_r (nI_1 k) (ih (k + 1) (by omega)))
theorem hs_ring {h i : Nat} (hh : h < 16) (hi : i < 16) : (nI h + nI i) &&& 15 = nI ((h + i) % 16) := by
  rw [nI_add, hs_mN15]
theorem hs_xw5 {post : Int32 → Prop} {ld f v h m r : Nat} {c : Nat → Nat} (hl : ld ≤ 63) (hf : f < 3) (hh : h < 16) (hm : m ≤ 16)
    (hc : ∀ i, i < m → xcr (f * 16 + (h + i) % 16) = nI (c i)) (hr : hs_least (fun k => ∀ i, i < m → hs_ex ld f ((v : Int) - c i) ≤ 2 ^ k) r) (hp : post (nI r)) :
    ∀ d i q, i + d = m → q ≤ 4096 → (∀ k, q ≤ 2 ^ k ↔ ∀ j, j < i → hs_ex ld f ((v : Int) - c j) ≤ 2 ^ k) →
    wX_widthFor_5 post (nI f) (nI v) xwl xst xcf (nI ld) xS xR (nI h) (nI m) xsk xfl xwt xnw xol xbs xfs xhr xcr xfx xms xt1 xt2 (d + 1) (nI q) (nI i) := by
  intro d
  induction d with
  | zero =>
    intro i q hi hq hk
    rw [wX_widthFor_5]
    have e : i = m := by omega
    subst e
    refine br_t (nI_le (Nat.le_refl _) (by omega)) ⟨r + 1, ?_⟩
    exact hs_xw65 (by omega) (fun j _ => hk j) hr hp r 0 (by omega)
  | succ d ih =>
    intro i q hi hq hk
    rw [wX_widthFor_5]
    have i1 : (nI f * 16) + nI ((h + i) % 16) = nI (f * 16 + (h + i) % 16) := by
      rw [show (16 : Int32) = nI 16 from rfl, pk_mul, nI_add]
    refine br_f (nI_ge (by omega) (by omega)) (nm_r (hs_ring hh (by omega)) ?_)
    rw [i1, nI_clamp (by omega), hc i (by omega)]
    refine ⟨vp_in_nI (by omega) (by decide), ?_⟩
    have er := hs_ex_r (ld := ld) (f := f) (z := (v : Int) - c i) hl
    refine hs_xext hl hf (z := (v : Int) - c i) (by rw [hs_zn, hs_zn, hs_zsub]) ?_
    by_cases cc : hs_ex ld f ((v : Int) - c i) ≤ q
    · refine br_t (nI_le cc (by omega)) (nm_r (nI_1 i) (ih (i + 1) q (by omega) hq (fun k => ?_)))
      constructor
      · intro z j hj
        by_cases cj : j = i
        · subst cj; omega
        · exact (hk k).mp z j (by omega)
      · intro z
        exact (hk k).mpr (fun j hj => z j (by omega))
    · refine br_f (nI_ge (by omega) (by omega)) (nm_r (nI_1 i) (ih (i + 1) _ (by omega) er.2 (fun k => ?_)))
      constructor
      · intro z j hj
        by_cases cj : j = i
        · subst cj; exact z
        · exact (hk k).mp (by omega) j (by omega)
      · intro z
        exact z i (by omega)
theorem hs_xwidth {post : Int32 → Prop} {st ld f v h m r : Nat} {w : Nat → Nat} (hl : ld ≤ 63) (hf : f < 3) (hm : m ≤ 16) (W : hs_W st h m xhr xcr w)
    (hr : hs_least (fun k => ∀ i, i < m → hs_ex ld f ((v : Int) - hs_cw st w f i) ≤ 2 ^ k) r) (hp : post (nI r)) :
    wpX_widthFor post (xwl, xst, xcf, nI ld, xS, xR, nI h, nI m, xsk, xfl, xwt, xnw, xol, xbs, xfs, xhr, xcr, xfx, xms, xt1, xt2) (nI f) (nI v) := by
  unfold wpX_widthFor
  dsimp only
  exact ⟨m + 1, hs_xw5 hl hf W.1 hm (fun i hi => W.2.2.2 f i hf hi) hr hp m 0 1 (by omega) (by decide) (fun k => ⟨fun _ j hj => absurd hj (by omega), fun _ => Nat.two_pow_pos k⟩)⟩
/-! ===== X: checks ===== -/
theorem hs_xfc6 {post : Int32 → Prop} {H : Nat} (hH : H < 2 ^ 36) (hT : ∀ t, t < 128 → xt1 t = nI (hs_t1 t)) :
    ∀ (i r : Nat) (x : Int32), x = hs_z (7 * (i : Int) - 7) → r < 128 → i ≤ 6 → post (nI (hs_f1 H i r)) → wX_firstCheck_6 post (lN H) xwl xst xcf xld xS xR xh xm xsk xfl xwt xnw xol xbs xfs xhr xcr xfx xms xt1 xt2 (i + 1) (nI r) x := by
  intro i
  induction i with
  | zero =>
    intro r x ex hr hi h
    subst ex
    rw [wX_firstCheck_6]
    exact br_t (by decide) h
  | succ i ih =>
    intro r x ex hr hi h
    subst ex
    have e : hs_z (7 * ((i + 1 : Nat) : Int) - 7) = nI (7 * i) := by
      rw [hs_zn]
      exact congrArg hs_z (by omega)
    rw [e, wX_firstCheck_6]
    refine br_f (nI_pos (by omega)) ⟨vp_in_nI hr (by decide), ?_⟩
    refine nm_r (e' := nI (hs_t1 r ^^^ (H / 2 ^ (7 * i) % 2 ^ 7))) ?_ (nm_r (e' := hs_z (7 * (i : Int) - 7)) ?_ (ih _ _ rfl ?_ (by omega) h))
    · rw [nI_clamp (by omega), hT r hr, hs_xsh (x := nI (7 * i)) (k := 7 * i) (by omega) (by omega) rfl, hs_mN127, nx_xor]
    · rw [hs_zn, show (-7 : Int32) = hs_z (-7) from by decide, hs_zadd]
      exact congrArg hs_z (by omega)
    · exact Nat.xor_lt_two_pow (n := 7) (hs_t1_lt r hr) (Nat.mod_lt _ (by decide))
theorem hs_xsc6 {post : Int32 → Prop} {H : Nat} (hH : H < 2 ^ 36) (hT : ∀ t, t < 128 → xt2 t = nI (hs_t2 t)) :
    ∀ (i r : Nat) (x : Int32), x = hs_z (7 * (i : Int) - 7) → r < 128 → i ≤ 6 → post (nI (hs_t2 (hs_f2 H i r))) → wX_secondCheck_6 post (lN H) xwl xst xcf xld xS xR xh xm xsk xfl xwt xnw xol xbs xfs xhr xcr xfx xms xt1 xt2 (i + 1) (nI r) x := by
  intro i
  induction i with
  | zero =>
    intro r x ex hr hi h
    subst ex
    rw [wX_secondCheck_6]
    refine br_t (by decide) ⟨vp_in_nI hr (by decide), ?_⟩
    rw [nI_clamp (by omega), hT r hr]
    exact h
  | succ i ih =>
    intro r x ex hr hi h
    subst ex
    have e : hs_z (7 * ((i + 1 : Nat) : Int) - 7) = nI (7 * i) := by
      rw [hs_zn]
      exact congrArg hs_z (by omega)
    rw [e, wX_secondCheck_6]
    refine br_f (nI_pos (by omega)) ?_
    refine nm_r (e' := nI (r ^^^ (H / 2 ^ (7 * i) % 2 ^ 7))) ?_ (nm_r (e' := hs_z (7 * (i : Int) - 7)) ?_ (ih _ _ rfl ?_ (by omega) h))
    · rw [hs_xsh (x := nI (7 * i)) (k := 7 * i) (by omega) (by omega) rfl, hs_mN127, nx_xor]
    · rw [hs_zn, show (-7 : Int32) = hs_z (-7) from by decide, hs_zadd]
      exact congrArg hs_z (by omega)
    · exact Nat.xor_lt_two_pow (n := 7) hr (Nat.mod_lt _ (by decide))
def hs_T (t1 t2 : Nat → Int32) : Prop := ∀ t, t < 128 → t1 t = nI (hs_t1 t) ∧ t2 t = nI (hs_t2 t)
theorem hs_xck {post : Int32 → Prop} {K H : Nat} (hK : K ≤ 2) (hH : H < 2 ^ 36) (T : hs_T xt1 xt2) (h : post (nI (hs_ck K H))) : wpX_checkOf post (xwl, xst, xcf, xld, xS, xR, xh, xm, xsk, xfl, xwt, xnw, xol, xbs, xfs, xhr, xcr, xfx, xms, xt1, xt2) (nI K) (lN H) := by
  have c : K = 0 ∨ K = 1 ∨ K = 2 := by omega
  unfold wpX_checkOf
  dsimp only
  rcases c with rfl | rfl | rfl
  · exact br_f (by decide) (br_f (by decide) h)
  · refine br_t rfl ?_
    have h' : post (nI (hs_f1 H 6 0)) := by rw [hs_crc1 hH]; exact h
    unfold wpX_firstCheck
    dsimp only
    exact ⟨7, hs_xfc6 hH (fun t ht => (T t ht).1) 6 0 35 (by decide) (by decide) (by decide) h'⟩
  · refine br_f (by decide) (br_t rfl ?_)
    have h' : post (nI (hs_t2 (hs_f2 H 6 0))) := by rw [hs_crc2 hH]; exact h
    unfold wpX_secondCheck
    dsimp only
    exact ⟨7, hs_xsc6 hH (fun t ht => (T t ht).2) 6 0 35 (by decide) (by decide) (by decide) h'⟩
end
end
section
section
variable {xwl xst xcf xld xS xR xh xm xsk xfl xwt xbs xfs : Int32} {xnw xol : Int64} {xhr xfx : Nat → Int64} {xcr xms xt1 xt2 : Nat → Int32}
variable {ywl yst ycf yld yS yR ym ypk ymg ybs yfs : Int32} {yw yf yb yba ytk ymd : Nat → Int32}

/-! ===== X: encode ===== -/
def hs_bg (K ck : Nat) (wd c : Nat → Nat) : Nat → Nat := fun q => if q = 0 then K else if q < 4 then wd (q - 1) else if q < 7 then c (q - 4) % 2 ^ wd (q - 4) else ck
theorem hs_m2 {c w : Nat} (hw : w ≤ 12) : c % 2 ^ w < 4096 := by
  have p := hs_pw hw
  have q : c % 2 ^ w < 2 ^ w := Nat.mod_lt _ (Nat.two_pow_pos _)
  omega
theorem hs_bg_bd {K ck : Nat} {wd c : Nat → Nat} (hK : K ≤ 2) (hw : ∀ f, f < 3 → wd f ≤ 12) (hc : ck < 128) : hs_bd (hs_bg K ck wd c) :=
  ⟨hK, hw 0 (by decide), hw 1 (by decide), hw 2 (by decide), hs_m2 (hw 0 (by decide)), hs_m2 (hw 1 (by decide)), hs_m2 (hw 2 (by decide)), hc⟩
theorem hs_bg_ok {K ck : Nat} {wd c : Nat → Nat} (hK : K ≤ 2) (hw : ∀ f, f < 3 → wd f ≤ 12) (hc : ck < 128) (h0 : K = 0 → ∀ f, f < 3 → wd f = 12) : hs_ok (hs_bg K ck wd c) := by
  refine ⟨hK, fun f hf => ?_, hc, fun z f hf => ?_⟩
  · rcases hs_i3 hf with rfl | rfl | rfl
    · exact ⟨hw 0 (by decide), Nat.mod_lt _ (Nat.two_pow_pos _)⟩
    · exact ⟨hw 1 (by decide), Nat.mod_lt _ (Nat.two_pow_pos _)⟩
    · exact ⟨hw 2 (by decide), Nat.mod_lt _ (Nat.two_pow_pos _)⟩
  · rcases hs_i3 hf with rfl | rfl | rfl
    · exact h0 z 0 (by decide)
    · exact h0 z 1 (by decide)
    · exact h0 z 2 (by decide)
theorem hs_xe41 {post : Int64 → Prop} {J : Int64 → Int32 → Prop} {x1 x3 : Int64} {f c w : Nat} (hw : w ≤ 12) (hc : c < 4096) (hf : f < 3)
    (h : J (x3 ||| (lN (w * 2 ^ (2 + 4 * f)) ||| lN (c % 2 ^ w * 2 ^ (14 + 12 * f)))) (nI (f + 1))) : wX_encode_41 post J x1 x3 (nI f) (nI c) (nI w) xwl xst xcf xld xS xR xh xm xsk xfl xwt xnw xol xbs xfs xhr xcr xfx xms xt1 xt2 := by
  have e1 : (nI c &&& (((1 : Int32) <<< (nI w &&& 31)) - 1)).toInt64 = lN (c % 2 ^ w) := by
    rw [hs_mask hw, nI_l (by have := hs_m2 (c := c) hw; omega)]
  have e0 : (2 + (4 * nI f) : Int32) = nI (2 + 4 * f) := by rw [← nI_add, ← pk_mul]; rfl
  have e0' : (14 + (12 * nI f) : Int32) = nI (14 + 12 * f) := by rw [← nI_add, ← pk_mul]; rfl
  have e2 : (nI w).toInt64 <<< ((2 + (4 * nI f)).toInt64 &&& 63) = lN (w * 2 ^ (2 + 4 * f)) := by
    rw [e0, nI_l (by omega), wb_shl w (by omega)]
  have e3 : lN (c % 2 ^ w) <<< ((14 + (12 * nI f)).toInt64 &&& 63) = lN (c % 2 ^ w * 2 ^ (14 + 12 * f)) := by
    rw [e0', wb_shl _ (by omega)]
  unfold wX_encode_41
  refine nm_r e1 ?_
  rw [e2, e3]
  exact nm_e (nm_r (nI_1 f) h)
theorem hs_body {w0 w1 w2 b0 b1 b2 : Nat} (h0 : w0 ≤ 12) (h1 : w1 ≤ 12) (h2 : w2 ≤ 12) (h3 : b0 < 4096) (h4 : b1 < 4096) (h5 : b2 < 4096) :
    ((((0 : Int64) ||| (lN (w0 * 4) ||| lN (b0 * 16384))) ||| (lN (w1 * 64) ||| lN (b1 * 67108864))) ||| (lN (w2 * 1024) ||| lN (b2 * 274877906944))) =
    lN (w0 * 4 + w1 * 64 + w2 * 1024 + b0 * 16384 + b1 * 67108864 + b2 * 274877906944) := by
  have e1 : lN (w0 * 4) ||| lN (w1 * 64) = lN (w0 * 4 + w1 * 64) := g_or' (k := 6) rfl (by omega) (by omega)
  have e2 : lN (w0 * 4 + w1 * 64) ||| lN (w2 * 1024) = lN (w0 * 4 + w1 * 64 + w2 * 1024) := g_or' (k := 10) rfl (by omega) (by omega)
  have e3 : lN (w0 * 4 + w1 * 64 + w2 * 1024) ||| lN (b0 * 16384) = lN (w0 * 4 + w1 * 64 + w2 * 1024 + b0 * 16384) := g_or' (k := 14) rfl (by omega) (by omega)
  have e4 : lN (w0 * 4 + w1 * 64 + w2 * 1024 + b0 * 16384) ||| lN (b1 * 67108864) = lN (w0 * 4 + w1 * 64 + w2 * 1024 + b0 * 16384 + b1 * 67108864) := g_or' (k := 26) rfl (by omega) (by omega)
  have e5 : lN (w0 * 4 + w1 * 64 + w2 * 1024 + b0 * 16384 + b1 * 67108864) ||| lN (b2 * 274877906944) = lN (w0 * 4 + w1 * 64 + w2 * 1024 + b0 * 16384 + b1 * 67108864 + b2 * 274877906944) := g_or' (k := 38) rfl (by omega) (by omega)
  rw [← e5, ← e4, ← e3, ← e2, ← e1, Int64.zero_or]
  ac_rfl
theorem hs_xenc_s {post : Int64 → Prop} {n st S s t d f : Nat} {x3 : Int64} {wd : Nat → Nat} (hs : s < 4096) (ht : t < 4096) (hd : d < 4096) (hw : ∀ f, f < 3 → wd f ≤ 12) (hS : S ≤ 2)
    (h0 : S = 0 → ∀ f, f < 3 → wd f = 12)
    (hN : S ≠ 0 → ∀ f, f < 3 → ∀ post' : Int32 → Prop, post' (nI (wd f)) → wpX_widthFor post' (xwl, nI st, xcf, xld, nI S, xR, xh, xm, xsk, xfl, xwt, xnw, xol, xbs, xfs, xhr, xcr, xfx, xms, xt1, xt2) (nI f) (nI (hs_cd st f s t d)))
    (hf : f < 3)
    (h : wX_encode_5 post (lN (hs_hd s t d)) xwl (nI st) xcf xld (nI S) xR xh xm xsk xfl xwt xnw xol xbs xfs xhr xcr xfx xms xt1 xt2 n (x3 ||| (lN (wd f * 2 ^ (2 + 4 * f)) ||| lN (hs_cd st f s t d % 2 ^ wd f * 2 ^ (14 + 12 * f)))) (nI (f + 1))) :
    wX_encode_5 post (lN (hs_hd s t d)) xwl (nI st) xcf xld (nI S) xR xh xm xsk xfl xwt xnw xol xbs xfs xhr xcr xfx xms xt1 xt2 (n + 1) x3 (nI f) := by
  rw [wX_encode_5]
  refine br_f (nI_ge (b := 3) hf (by decide)) ?_
  refine hs_xcoded hs ht hd hf ?_
  by_cases c : S = 0
  · refine br_t (by rw [c]; rfl) ?_
    have e : wd f = 12 := h0 c f hf
    rw [e] at h
    exact hs_xe41 (w := 12) (by decide) (hs_cd_lt hs) hf h
  · refine br_f (nI_ne0 (by omega) (by omega)) ?_
    refine hN c f hf _ ?_
    exact hs_xe41 (hw f hf) (hs_cd_lt hs) hf h
theorem hs_xencode {post : Int64 → Prop} {st S s t d : Nat} {wd : Nat → Nat} (hs : s < 4096) (ht : t < 4096) (hd : d < 4096) (hw : ∀ f, f < 3 → wd f ≤ 12) (hS : S ≤ 2)
    (h0 : S = 0 → ∀ f, f < 3 → wd f = 12)
    (hN : S ≠ 0 → ∀ f, f < 3 → ∀ post' : Int32 → Prop, post' (nI (wd f)) → wpX_widthFor post' (xwl, nI st, xcf, xld, nI S, xR, xh, xm, xsk, xfl, xwt, xnw, xol, xbs, xfs, xhr, xcr, xfx, xms, xt1, xt2) (nI f) (nI (hs_cd st f s t d)))
    (h : post (lN (hs_pk (hs_bg 0 0 wd (fun f => hs_cd st f s t d))))) : wpX_encode post (xwl, nI st, xcf, xld, nI S, xR, xh, xm, xsk, xfl, xwt, xnw, xol, xbs, xfs, xhr, xcr, xfx, xms, xt1, xt2) (lN (hs_hd s t d)) := by
  have e := hs_body (hw 0 (by decide)) (hw 1 (by decide)) (hw 2 (by decide)) (hs_m2 (c := hs_cd st 0 s t d) (hw 0 (by decide))) (hs_m2 (c := hs_cd st 1 s t d) (hw 1 (by decide))) (hs_m2 (c := hs_cd st 2 s t d) (hw 2 (by decide)))
  unfold wpX_encode
  dsimp only
  refine ⟨4, hs_xenc_s (f := 0) hs ht hd hw hS h0 hN (by decide) (hs_xenc_s (f := 1) hs ht hd hw hS h0 hN (by decide) (hs_xenc_s (f := 2) hs ht hd hw hS h0 hN (by decide) ?_))⟩
  rw [wX_encode_5]
  refine br_t (by decide) ?_
  refine (congrArg post (e.trans (congrArg lN ?_))).mpr h
  unfold hs_pk
  show _ = 0 + wd 0 * 4 + wd 1 * 64 + wd 2 * 1024 + hs_cd st 0 s t d % 2 ^ wd 0 * 16384 + hs_cd st 1 s t d % 2 ^ wd 1 * 67108864 + hs_cd st 2 s t d % 2 ^ wd 2 * 274877906944 + 0 * 1125899906842624
  omega
/-! ===== X: remember ===== -/
def hs_m1 (wl m : Nat) : Nat := if m = wl then m - 1 else m
def hs_wd (wl m : Nat) (w : Nat → Nat) : Nat → Nat := if m = wl then hs_sh w 0 (3 * m - 3 * 1) (3 * 1) else w
theorem hs_xr82 {post : SX → Prop} {st h m sk sk' s t d : Nat} {z : Int32} (hs : s < 4096) (ht : t < 4096) (hd : d < 4096) (hh : h < 16) (hm : m ≤ 15) (hk : sk ≤ 16)
    (e1 : z = 0 → sk' = 1) (e2 : ¬ z = 0 → sk' = if sk + 1 ≤ m + 1 then sk + 1 else m + 1)
    (hp : post (xwl, nI st, xcf, xld, xS, xR, nI h, nI (m + 1), nI sk', xfl, xwt, xnw, xol, xbs, xfs, vp_updL xhr ((h + m) % 16) (lN (hs_hd s t d)), hs_c3 xcr ((h + m) % 16) (hs_cd st 0 s t d) (hs_cd st 1 s t d) (hs_cd st 2 s t d), xfx, xms, xt1, xt2)) :
    wX_remember_82 post (lN (hs_hd s t d)) (nI (hs_cd st 1 s t d)) (nI (hs_cd st 2 s t d)) z xwl (nI st) xcf xld xS xR (nI h) (nI m) (nI sk) xfl xwt xnw xol xbs xfs xhr xcr xfx xms xt1 xt2 := by
  have i1 : (16 : Int32) + nI ((h + m) % 16) = nI (16 + (h + m) % 16) := nI_add 16 _
  have i2 : (32 : Int32) + nI ((h + m) % 16) = nI (32 + (h + m) % 16) := nI_add 32 _
  unfold wX_remember_82
  refine nm_r (hs_ring hh (by omega)) ⟨vp_in_nI (by omega) (by decide), ?_⟩
  rw [i1, i2, nI_clamp (by omega), nI_clamp (by omega), nI_clamp (by omega)]
  refine nm_e (hs_xcoded (f := 0) hs ht hd (by decide) ⟨vp_in_nI (by omega) (by decide), nm_e ⟨vp_in_nI (by omega) (by decide), nm_e ⟨vp_in_nI (by omega) (by decide), nm_e (nm_r (nI_1 m) ?_)⟩⟩⟩)
  by_cases c : z = 0
  · refine br_t c ?_
    have e := e1 c
    subst e
    unfold wX_remember_167
    exact br_t (nI_le (a := 1) (by omega) (by omega)) hp
  · refine br_f c ?_
    have e := e2 c
    unfold wX_remember_167
    rw [nI_1 sk]
    by_cases q : sk + 1 ≤ m + 1
    · rw [if_pos q] at e
      subst e
      exact br_t (nI_le q (by omega)) hp
    · rw [if_neg q] at e
      subst e
      exact br_f (nI_ge (by omega) (by omega)) hp
theorem hs_xr64 {post : SX → Prop} {wl st h m sk sk' s t d : Nat} {z : Int32} (hs : s < 4096) (ht : t < 4096) (hd : d < 4096) (hh : h < 16) (hwl : 1 ≤ wl ∧ wl ≤ 16) (hm : m ≤ wl) (hk : sk ≤ 16)
    (e1 : z = 0 → sk' = 1) (e2 : ¬ z = 0 → sk' = if sk + 1 ≤ hs_m1 wl m + 1 then sk + 1 else hs_m1 wl m + 1) {h1 : Nat} (eh : h1 = if m = wl then (h + 1) % 16 else h)
    (hp : post (nI wl, nI st, xcf, xld, xS, xR, nI h1, nI (hs_m1 wl m + 1), nI sk', xfl, xwt, xnw, xol, xbs, xfs, vp_updL xhr ((h1 + hs_m1 wl m) % 16) (lN (hs_hd s t d)), hs_c3 xcr ((h1 + hs_m1 wl m) % 16) (hs_cd st 0 s t d) (hs_cd st 1 s t d) (hs_cd st 2 s t d), xfx, xms, xt1, xt2)) :
    wX_remember_64 post (lN (hs_hd s t d)) (nI (hs_cd st 1 s t d)) (nI (hs_cd st 2 s t d)) z (nI wl) (nI st) xcf xld xS xR (nI h) (nI m) (nI sk) xfl xwt xnw xol xbs xfs xhr xcr xfx xms xt1 xt2 := by
  unfold wX_remember_64
  by_cases c : m = wl
  · have em : hs_m1 wl m = m - 1 := if_pos c
    rw [if_pos c] at eh
    rw [em] at e2 hp
    refine br_f (nI_nlt (by omega) (by omega)) ?_
    unfold wpX_dropOldest
    dsimp only
    refine nm_r (e' := nI h1) (by rw [eh]; exact hs_ring (i := 1) hh (by decide)) (nm_r (e' := nI (m - 1)) (pk_sub (b := 1) (by omega)) ?_)
    exact hs_xr82 hs ht hd (by omega) (by omega) hk e1 e2 hp
  · have em : hs_m1 wl m = m := if_neg c
    rw [if_neg c] at eh
    rw [em] at e2 hp
    subst eh
    refine br_t (nI_lt (by omega) (by omega)) ?_
    exact hs_xr82 hs ht hd hh (by omega) hk e1 e2 hp
theorem hs_last {h m : Nat} (hh : h < 16) (hm : m ≤ 16) : ((nI h + nI m) - 1) &&& 15 = nI ((h + m + 15) % 16) := by
  rw [hs_zn h, hs_zn m, hs_zadd, show (1 : Int32) = hs_z 1 from by decide, hs_zsub]
  exact (hs_mk _ 4 (by decide)).trans (congrArg nI (by omega))
theorem hs_Wd {wl st h m sk : Nat} {hr : Nat → Int64} {cr : Nat → Int32} {w : Nat → Nat} (hwl : 1 ≤ wl) (W : hs_W st h m hr cr w) (K : hs_K (hs_e st w) m sk) :
    hs_W st (if m = wl then (h + 1) % 16 else h) (hs_m1 wl m) hr cr (hs_wd wl m w) ∧ hs_K (hs_e st (hs_wd wl m w)) (hs_m1 wl m) sk ∧
    (0 < hs_m1 wl m → hs_e st (hs_wd wl m w) (hs_m1 wl m - 1) = hs_e st w (m - 1)) := by
  unfold hs_m1 hs_wd
  by_cases c : m = wl
  · rw [if_pos c, if_pos c, if_pos c]
    have he : ∀ i, i < m - 1 → hs_e st (hs_sh w 0 (3 * m - 3 * 1) (3 * 1)) i = hs_e st w (i + 1) := by
      intro i hi
      show (_, _) = (_, _)
      rw [hs_cw_sh hi, hs_cw_sh hi]
    refine ⟨hs_W_drop W (by omega), hs_K_drop K (by omega) he, fun hp => ?_⟩
    rw [he _ (by omega)]
    exact congrArg (hs_e st w) (by omega)
  · rw [if_neg c, if_neg c, if_neg c]
    exact ⟨W, K, fun _ => rfl⟩
theorem hs_xrem {wl st h m sk s t d : Nat} {w : Nat → Nat} (hs : s < 4096) (ht : t < 4096) (hd : d < 4096) (hwl : 1 ≤ wl ∧ wl ≤ 16) (hm : m ≤ wl)
    (W : hs_W st h m xhr xcr w) (K : hs_K (hs_e st w) m sk) :
    ∃ h' sk' hr' cr', hs_W st h' (hs_m1 wl m + 1) hr' cr' (hs_w3 (hs_wd wl m w) (hs_m1 wl m) s t d) ∧ hs_K (hs_e st (hs_w3 (hs_wd wl m w) (hs_m1 wl m) s t d)) (hs_m1 wl m + 1) sk' ∧
    ∀ post : SX → Prop, post (nI wl, nI st, xcf, xld, xS, xR, nI h', nI (hs_m1 wl m + 1), nI sk', xfl, xwt, xnw, xol, xbs, xfs, hr', cr', xfx, xms, xt1, xt2) →
      wpX_remember post (nI wl, nI st, xcf, xld, xS, xR, nI h, nI m, nI sk, xfl, xwt, xnw, xol, xbs, xfs, xhr, xcr, xfx, xms, xt1, xt2) (lN (hs_hd s t d)) := by
  have hh : h < 16 := W.1
  have hk : sk ≤ 16 := K.1
  obtain ⟨W1, K1, E1⟩ := hs_Wd hwl.1 W K
  have hm1 : hs_m1 wl m ≤ 15 := by unfold hs_m1; split <;> omega
  let q := (h + m + 15) % 16
  let same : Prop := xcr (16 + q) = nI (hs_cd st 1 s t d) ∧ xcr (32 + q) = nI (hs_cd st 2 s t d)
  have hsame : 0 < hs_m1 wl m → (same ↔ hs_e st (hs_wd wl m w) (hs_m1 wl m - 1) = (hs_cd st 1 s t d, hs_cd st 2 s t d)) := by
    intro hp
    have hm0 : 0 < m := by unfold hs_m1 at hp; split at hp <;> omega
    rw [E1 hp]
    have eq : q = (h + (m - 1)) % 16 := by show (h + m + 15) % 16 = _; omega
    have c1 : xcr (16 + q) = nI (hs_cw st w 1 (m - 1)) := by rw [eq]; exact W.2.2.2 1 (m - 1) (by decide) (by omega)
    have c2 : xcr (32 + q) = nI (hs_cw st w 2 (m - 1)) := by rw [eq]; exact W.2.2.2 2 (m - 1) (by decide) (by omega)
    have l1 := hs_cw_lt (st := st) (f := 1) (i := m - 1) W.2.1
    have l2 := hs_cw_lt (st := st) (f := 2) (i := m - 1) W.2.1
    have k1 := hs_cd_lt (st := st) (f := 1) (t := t) (d := d) hs
    have k2 := hs_cd_lt (st := st) (f := 2) (t := t) (d := d) hs
    show (xcr (16 + q) = nI (hs_cd st 1 s t d) ∧ xcr (32 + q) = nI (hs_cd st 2 s t d)) ↔ (hs_cw st w 1 (m - 1), hs_cw st w 2 (m - 1)) = _
    rw [c1, c2, nI_eq (by omega) (by omega), nI_eq (by omega) (by omega), Prod.mk.injEq]
  have i1 : (16 : Int32) + nI q = nI (16 + q) := nI_add 16 _
  have i2 : (32 : Int32) + nI q = nI (32 + q) := nI_add 32 _
  have hq : q < 16 := Nat.mod_lt _ (by decide)
  by_cases c : same
  · refine ⟨_, if sk + 1 ≤ hs_m1 wl m + 1 then sk + 1 else hs_m1 wl m + 1, _, _, hs_W_push W1 hm1 hs ht hd,
      hs_K_push (same := same) (x := (hs_cd st 1 s t d, hs_cd st 2 s t d)) K1 hm1 (fun i hi => ?_) ?_ hsame (fun _ => rfl) (fun n => absurd c n), fun post hp => ?_⟩
    · show (_, _) = (_, _)
      rw [hs_cw_lo hi, hs_cw_lo hi]
    · show (_, _) = (_, _)
      rw [hs_cw_hi, hs_cw_hi]
    · unfold wpX_remember
      dsimp only
      refine nm_r (hs_last hh (by omega)) (hs_xcoded (f := 1) hs ht hd (by decide) (hs_xcoded (f := 2) hs ht hd (by decide) ?_))
      show vp_in (16 + nI q) 48 ∧ _
      rw [i1, i2, nI_clamp (by omega), nI_clamp (by omega)]
      refine ⟨vp_in_nI (by omega) (by decide), br_t c.1 ⟨vp_in_nI (by omega) (by decide), br_t c.2 ?_⟩⟩
      exact hs_xr64 hs ht hd hh hwl hm hk (fun z => absurd z (by decide)) (fun _ => rfl) rfl hp
  · refine ⟨_, 1, _, _, hs_W_push W1 hm1 hs ht hd,
      hs_K_push (same := same) (x := (hs_cd st 1 s t d, hs_cd st 2 s t d)) K1 hm1 (fun i hi => ?_) ?_ hsame (fun y => absurd y c) (fun _ => rfl), fun post hp => ?_⟩
    · show (_, _) = (_, _)
      rw [hs_cw_lo hi, hs_cw_lo hi]
    · show (_, _) = (_, _)
      rw [hs_cw_hi, hs_cw_hi]
    · unfold wpX_remember
      dsimp only
      refine nm_r (hs_last hh (by omega)) (hs_xcoded (f := 1) hs ht hd (by decide) (hs_xcoded (f := 2) hs ht hd (by decide) ?_))
      show vp_in (16 + nI q) 48 ∧ _
      rw [i1, i2, nI_clamp (by omega), nI_clamp (by omega)]
      refine ⟨vp_in_nI (by omega) (by decide), br_c (fun c1 => ⟨vp_in_nI (by omega) (by decide), br_f (fun c2 => c ⟨c1, c2⟩) ?_⟩) (fun _ => ?_)⟩
      · exact hs_xr64 hs ht hd hh hwl hm hk (fun _ => rfl) (fun n => absurd rfl n) rfl hp
      · exact hs_xr64 hs ht hd hh hwl hm hk (fun _ => rfl) (fun n => absurd rfl n) rfl hp
end
end
section
section
variable {xwl xst xcf xld xS xR xh xm xsk xfl xwt xbs xfs : Int32} {xnw xol : Int64} {xhr xfx : Nat → Int64} {xcr xms xt1 xt2 : Nat → Int32}
variable {ywl yst ycf yld yS yR ym ypk ymg ybs yfs : Int32} {yw yf yb yba ytk ymd : Nat → Int32}

/-! ===== X: send ===== -/
def hs_zf (a b : Nat) : Int32 := if a = 0 ∧ b = 0 then 1 else 0
def hs_kd (S : Nat) (z : Int32) : Nat := if S = 2 ∧ z = 0 then 1 else S
def hs_r1 (S : Nat) (z R : Int32) : Int32 := if S = 2 ∧ z = 0 then 0 else R
def hs_s2 (K : Nat) (z R cf : Int32) : Nat := if K = 2 then 2 else if K = 1 ∧ z = 0 then 1 else if R + 1 = cf then K + 1 else K
def hs_r2 (K : Nat) (z R cf : Int32) : Int32 := if K = 2 then R else if K = 1 ∧ z = 0 then 0 else if R + 1 = cf then 0 else R + 1
theorem hs_kd_le {S : Nat} {z : Int32} (h : S ≤ 2) : hs_kd S z ≤ 2 := by
  unfold hs_kd
  split <;> omega
theorem hs_s2_le {K : Nat} {z R cf : Int32} (h : K ≤ 2) : hs_s2 K z R cf ≤ 2 := by
  unfold hs_s2
  split
  · decide
  · split
    · decide
    · split <;> omega
theorem hs_ne {a b : Nat} (ha : a ≤ 8) (hb : b ≤ 8) (h : a ≠ b) : ¬ nI a = nI b := fun q => h ((nI_eq (by omega) (by omega)).mp q)
theorem hs_xa21 {post : SX → Prop} {K : Nat} (h : post (xwl, xst, xcf, xld, nI (if xR + 1 = xcf then K + 1 else K), if xR + 1 = xcf then 0 else xR + 1, xh, xm, xsk, xfl, xwt, xnw, xol, xbs, xfs, xhr, xcr, xfx, xms, xt1, xt2)) : wX_advance_21 post (nI K) xwl xst xcf xld (nI K) xR xh xm xsk xfl xwt xnw xol xbs xfs xhr xcr xfx xms xt1 xt2 := by
  unfold wX_advance_21
  refine nm_e ?_
  by_cases c : xR + 1 = xcf
  · rw [if_pos c, if_pos c] at h
    refine br_t c ?_
    unfold wpX_enter
    dsimp only
    rw [nI_1]
    exact h
  · rw [if_neg c, if_neg c] at h
    exact br_f c h
theorem hs_xadv {post : SX → Prop} {K : Nat} {z : Int32} (hK : K ≤ 2) (h : post (xwl, xst, xcf, xld, nI (hs_s2 K z xR xcf), hs_r2 K z xR xcf, xh, xm, xsk, xfl, xwt, xnw, xol, xbs, xfs, xhr, xcr, xfx, xms, xt1, xt2)) : wpX_advance post (xwl, xst, xcf, xld, nI K, xR, xh, xm, xsk, xfl, xwt, xnw, xol, xbs, xfs, xhr, xcr, xfx, xms, xt1, xt2) (nI K) z := by
  unfold hs_s2 hs_r2 at h
  unfold wpX_advance
  dsimp only
  by_cases c2 : K = 2
  · subst c2
    rw [if_pos (rfl : (2 : Nat) = 2), if_pos (rfl : (2 : Nat) = 2)] at h
    exact br_t rfl h
  · rw [if_neg c2, if_neg c2] at h
    refine br_f (hs_ne (b := 2) (by omega) (by decide) c2) ?_
    by_cases c1 : K = 1
    · subst c1
      refine br_t rfl ?_
      by_cases cz : z = 0
      · rw [if_pos ⟨rfl, cz⟩, if_pos ⟨rfl, cz⟩] at h
        exact br_t cz h
      · have n : ¬ ((1 : Nat) = 1 ∧ z = 0) := fun q => cz q.2
        rw [if_neg n, if_neg n] at h
        exact br_f cz (hs_xa21 h)
    · have n : ¬ (K = 1 ∧ z = 0) := fun q => c1 q.1
      rw [if_neg n, if_neg n] at h
      exact br_f (hs_ne (b := 1) (by omega) (by decide) c1) (hs_xa21 h)
theorem hs_xs53 {post : Int32 → SX → Prop} {x4 x6 : Int64} {S : Nat} {z : Int32} (hS : S ≤ 2) (h : wX_send_78 post x4 x6 z (nI (hs_kd S z)) xwl xst xcf xld (nI (hs_kd S z)) (hs_r1 S z xR) xh xm xsk xfl xwt xnw xol xbs xfs xhr xcr xfx xms xt1 xt2) :
    wX_send_53 post x4 x6 z xwl xst xcf xld (nI S) xR xh xm xsk xfl xwt xnw xol xbs xfs xhr xcr xfx xms xt1 xt2 := by
  unfold hs_kd hs_r1 at h
  unfold wX_send_53 wpX_chooseKind
  dsimp only
  by_cases c2 : S = 2
  · subst c2
    refine br_t rfl ?_
    by_cases cz : z = 0
    · rw [if_pos ⟨rfl, cz⟩, if_pos ⟨rfl, cz⟩] at h
      refine br_t cz (br_f (by decide) ?_)
      unfold wpX_enter
      dsimp only
      exact h
    · have n : ¬ ((2 : Nat) = 2 ∧ z = 0) := fun q => cz q.2
      rw [if_neg n, if_neg n] at h
      exact br_f cz (br_t rfl h)
  · have n : ¬ (S = 2 ∧ z = 0) := fun q => c2 q.1
    rw [if_neg n, if_neg n] at h
    exact br_f (hs_ne (b := 2) (by omega) (by decide) c2) (br_t rfl h)
theorem hs_pkt {K ck : Nat} {wd c : Nat → Nat} (hK : K ≤ 2) (hw : ∀ f, f < 3 → wd f ≤ 12) (hc : ck < 128) :
    (lN (hs_pk (hs_bg 0 0 wd c)) ||| (nI K).toInt64) ||| ((nI ck).toInt64 <<< ((50 : Int32).toInt64 &&& 63)) = lN (hs_pk (hs_bg K ck wd c)) := by
  have b := hs_bg_bd (K := 0) (ck := 0) (wd := wd) (c := c) (by decide) hw (by decide)
  obtain ⟨b0, b1, b2, b3, b4, b5, b6, b7⟩ := b
  have e0 : hs_pk (hs_bg 0 0 wd c) = (hs_bg 0 0 wd c 1 + hs_bg 0 0 wd c 2 * 16 + hs_bg 0 0 wd c 3 * 256 + hs_bg 0 0 wd c 4 * 4096 + hs_bg 0 0 wd c 5 * 16777216 + hs_bg 0 0 wd c 6 * 68719476736) * 4 := by
    unfold hs_pk
    have z0 : hs_bg 0 0 wd c 0 = 0 := rfl
    have z7 : hs_bg 0 0 wd c 7 = 0 := rfl
    rw [z0, z7]
    omega
  have e1 : hs_pk (hs_bg K ck wd c) = (hs_bg 0 0 wd c 1 + hs_bg 0 0 wd c 2 * 16 + hs_bg 0 0 wd c 3 * 256 + hs_bg 0 0 wd c 4 * 4096 + hs_bg 0 0 wd c 5 * 16777216 + hs_bg 0 0 wd c 6 * 68719476736) * 4 + K + ck * 2 ^ 50 := by
    show K + hs_bg 0 0 wd c 1 * 4 + hs_bg 0 0 wd c 2 * 64 + hs_bg 0 0 wd c 3 * 1024 + hs_bg 0 0 wd c 4 * 16384 + hs_bg 0 0 wd c 5 * 67108864 + hs_bg 0 0 wd c 6 * 274877906944 + ck * 1125899906842624 = _
    omega
  have s : lN ck <<< ((50 : Int32).toInt64 &&& 63) = lN (ck * 2 ^ 50) := wb_shl ck (k := 50) (by decide)
  rw [e0, e1, nI_l (by omega), nI_l (by omega), s]
  generalize hs_bg 0 0 wd c 1 = a1 at *
  generalize hs_bg 0 0 wd c 2 = a2 at *
  generalize hs_bg 0 0 wd c 3 = a3 at *
  generalize hs_bg 0 0 wd c 4 = a4 at *
  generalize hs_bg 0 0 wd c 5 = a5 at *
  generalize hs_bg 0 0 wd c 6 = a6 at *
  rw [g_or (k := 2) rfl (by omega) (by omega), g_or' (k := 50) rfl (by omega) (by omega)]
theorem hs_xsend {wl st ld S h m sk fl s t d : Nat} {w wd : Nat → Nat} {p0 p1 p2 : Int32} (q0 : p0 &&& 4095 = nI s) (q1 : p1 &&& 4095 = nI t) (q2 : p2 &&& 4095 = nI d)
    (hs : s < 4096) (ht : t < 4096) (hd : d < 4096) (hwl : 1 ≤ wl ∧ wl ≤ 16) (hm : m ≤ wl) (hl : ld ≤ 63) (hS : S ≤ 2) (hfl : fl < 16)
    (W : hs_W st h m xhr xcr w) (K : hs_K (hs_e st w) m sk) (T : hs_T xt1 xt2) (hw : ∀ f, f < 3 → wd f ≤ 12) (h0 : S = 0 → ∀ f, f < 3 → wd f = 12)
    (hN : S ≠ 0 → ∀ f, f < 3 → hs_least (fun k => ∀ i, i < m → hs_ex ld f ((hs_cd st f s t d : Nat) - (hs_cw st w f i : Nat) : Int) ≤ 2 ^ k) (wd f)) :
    ∃ h' sk' hr' cr', hs_W st h' (hs_m1 wl m + 1) hr' cr' (hs_w3 (hs_wd wl m w) (hs_m1 wl m) s t d) ∧ hs_K (hs_e st (hs_w3 (hs_wd wl m w) (hs_m1 wl m) s t d)) (hs_m1 wl m + 1) sk' ∧
    ∀ post : Int32 → SX → Prop, post (nI (hs_kd S (hs_zf (wd 1) (wd 2)))) (nI wl, nI st, xcf, nI ld, nI (hs_s2 (hs_kd S (hs_zf (wd 1) (wd 2))) (hs_zf (wd 1) (wd 2)) (hs_r1 S (hs_zf (wd 1) (wd 2)) xR) xcf), hs_r2 (hs_kd S (hs_zf (wd 1) (wd 2))) (hs_zf (wd 1) (wd 2)) (hs_r1 S (hs_zf (wd 1) (wd 2)) xR) xcf, nI h', nI (hs_m1 wl m + 1), nI sk', nI (fl + 1), xwt, xnw, xol, xbs, xfs, hr', cr', vp_updL xfx fl (lN (hs_pk (hs_bg (hs_kd S (hs_zf (wd 1) (wd 2))) (hs_ck (hs_kd S (hs_zf (wd 1) (wd 2))) (hs_hd s t d)) wd (fun f => hs_cd st f s t d)))), xms, xt1, xt2) →
      wpX_send post (nI wl, nI st, xcf, nI ld, nI S, xR, nI h, nI m, nI sk, nI fl, xwt, xnw, xol, xbs, xfs, xhr, xcr, xfx, xms, xt1, xt2) p0 p1 p2 := by
  have hH := hs_hd_lt hs ht hd
  have hK := hs_kd_le (z := hs_zf (wd 1) (wd 2)) hS
  have hc := hs_ck_lt (K := hs_kd S (hs_zf (wd 1) (wd 2))) hH
  have ep := hs_pkt (c := fun f => hs_cd st f s t d) hK hw hc
  obtain ⟨h', sk', hr', cr', W', K', hR⟩ := hs_xrem (xcf := xcf) (xld := nI ld) (xS := nI (hs_kd S (hs_zf (wd 1) (wd 2)))) (xR := hs_r1 S (hs_zf (wd 1) (wd 2)) xR) (xfl := nI (fl + 1)) (xwt := xwt) (xbs := xbs) (xfs := xfs) (xnw := xnw) (xol := xol) (xfx := vp_updL xfx fl (lN (hs_pk (hs_bg (hs_kd S (hs_zf (wd 1) (wd 2))) (hs_ck (hs_kd S (hs_zf (wd 1) (wd 2))) (hs_hd s t d)) wd (fun f => hs_cd st f s t d))))) (xms := xms) (xt1 := xt1) (xt2 := xt2) hs ht hd hwl hm W K
  refine ⟨h', sk', hr', cr', W', K', fun post hp => ?_⟩
  have hbd := hs_bg_bd (K := 0) (ck := 0) (wd := wd) (c := fun f => hs_cd st f s t d) (by decide) hw (by decide)
  have main : wX_send_53 post (lN (hs_hd s t d)) (lN (hs_pk (hs_bg 0 0 wd (fun f => hs_cd st f s t d)))) (hs_zf (wd 1) (wd 2)) (nI wl) (nI st) xcf (nI ld) (nI S) xR (nI h) (nI m) (nI sk) (nI fl) xwt xnw xol xbs xfs xhr xcr xfx xms xt1 xt2 := by
    refine hs_xs53 hS ?_
    unfold wX_send_78
    refine hs_xck hK hH T ⟨vp_in_nI hfl (by decide), ?_⟩
    rw [ep, nI_clamp (by omega)]
    refine nm_e (nm_r (nI_1 fl) (hR _ ?_))
    dsimp only
    refine hs_xadv hK ?_
    exact hp
  unfold wpX_send
  dsimp only
  refine br_t (nI_lt (b := 16) hfl (by decide)) (hs_xjoin q0 q1 q2 hs ht hd (hs_xencode hs ht hd hw hS h0 ?_ (hs_xpart (q := 2) hbd (by decide) ?_)))
  · intro hS0 f hf post' hp'
    exact hs_xwidth hl hf (by omega) W (hN hS0 f hf) hp'
  · have b1 := hw 1 (by decide)
    have b2 := hw 2 (by decide)
    show (nI (wd 1) = 0 → _) ∧ _
    by_cases c1 : wd 1 = 0
    · refine br_t (by rw [c1]; rfl) (hs_xpart (q := 3) hbd (by decide) ?_)
      show (nI (wd 2) = 0 → _) ∧ _
      by_cases c2 : wd 2 = 0
      · have e : hs_zf (wd 1) (wd 2) = 1 := if_pos ⟨c1, c2⟩
        rw [e] at main
        exact br_t (by rw [c2]; rfl) main
      · have e : hs_zf (wd 1) (wd 2) = 0 := if_neg (fun q => c2 q.2)
        rw [e] at main
        exact br_f (nI_ne0 (by omega) (by omega)) main
    · have e : hs_zf (wd 1) (wd 2) = 0 := if_neg (fun q => c1 q.1)
      rw [e] at main
      exact br_f (nI_ne0 (by omega) (by omega)) main
end
end
section
section
variable {xwl xst xcf xld xS xR xh xm xsk xfl xwt xbs xfs : Int32} {xnw xol : Int64} {xhr xfx : Nat → Int64} {xcr xms xt1 xt2 : Nat → Int32}
variable {ywl yst ycf yld yS yR ym ypk ymg ybs yfs : Int32} {yw yf yb yba ytk ymd : Nat → Int32}

/-! ===== X: the channels ===== -/
theorem hs_xrp4 {post : SX → Prop} {fl i : Nat} {fx : Nat → Int64} (hfl : fl ≤ 16) (h : post (xwl, xst, xcf, xld, xS, xR, xh, xm, xsk, nI (fl - 1), xwt, xnw, xol, xbs, xfs, xhr, xcr, hs_sh fx i (fl - 1) 1, xms, xt1, xt2)) :
    ∀ d q, q + 1 + d = fl → i ≤ q → wX_removePacket_4 post xwl xst xcf xld xS xR xh xm xsk (nI fl) xwt xnw xol xbs xfs (d + 1) (nI (q + 1)) xhr xcr (hs_sh fx i q 1) xms xt1 xt2 := by
  intro d
  induction d with
  | zero =>
    intro q hq hi
    rw [wX_removePacket_4]
    have e : fl - 1 = q := by omega
    rw [e] at h
    exact br_t (nI_le (by omega) (by omega)) (nm_r (e' := nI q) (by rw [← e]; exact pk_sub (b := 1) (by omega)) h)
  | succ d ih =>
    intro q hq hi
    rw [wX_removePacket_4]
    refine br_f (nI_ge (by omega) (by omega)) ?_
    rw [nI_pred, nI_clamp (by omega), nI_clamp (by omega), hs_sh_uL fx hi, nI_1]
    exact ⟨vp_in_nI (by omega) (by decide), vp_in_nI (by omega) (by decide), nm_e (nm_e (ih (q + 1) (by omega) (by omega)))⟩
theorem hs_xrp {post : SX → Prop} {fl i : Nat} (hfl : fl ≤ 16) (hi : i < fl) (h : post (xwl, xst, xcf, xld, xS, xR, xh, xm, xsk, nI (fl - 1), xwt, xnw, xol, xbs, xfs, xhr, xcr, hs_sh xfx i (fl - 1) 1, xms, xt1, xt2)) : wpX_removePacket post (xwl, xst, xcf, xld, xS, xR, xh, xm, xsk, nI fl, xwt, xnw, xol, xbs, xfs, xhr, xcr, xfx, xms, xt1, xt2) (nI i) := by
  unfold wpX_removePacket
  dsimp only
  refine nm_r (nI_1 i) ⟨fl - (i + 1) + 1, ?_⟩
  have k := hs_xrp4 hfl h (fl - (i + 1)) i (by omega) (Nat.le_refl i)
  rw [hs_sh_0] at k
  exact k
theorem hs_xrm4 {post : SX → Prop} {wt i : Nat} {ms : Nat → Int32} (hwt : wt ≤ 8) (h : post (xwl, xst, xcf, xld, xS, xR, xh, xm, xsk, xfl, nI (wt - 1), xnw, xol, xbs, xfs, xhr, xcr, xfx, hs_sh ms i (wt - 1) 1, xt1, xt2)) :
    ∀ d q, q + 1 + d = wt → i ≤ q → wX_removeMessage_4 post xwl xst xcf xld xS xR xh xm xsk xfl (nI wt) xnw xol xbs xfs (d + 1) (nI (q + 1)) xhr xcr xfx (hs_sh ms i q 1) xt1 xt2 := by
  intro d
  induction d with
  | zero =>
    intro q hq hi
    rw [wX_removeMessage_4]
    have e : wt - 1 = q := by omega
    rw [e] at h
    exact br_t (nI_le (by omega) (by omega)) (nm_r (e' := nI q) (by rw [← e]; exact pk_sub (b := 1) (by omega)) h)
  | succ d ih =>
    intro q hq hi
    rw [wX_removeMessage_4]
    refine br_f (nI_ge (by omega) (by omega)) ?_
    rw [nI_pred, nI_clamp (by omega), nI_clamp (by omega), hs_sh_u ms hi, nI_1]
    exact ⟨vp_in_nI (by omega) (by decide), vp_in_nI (by omega) (by decide), nm_e (nm_e (ih (q + 1) (by omega) (by omega)))⟩
theorem hs_xrm {post : SX → Prop} {wt i : Nat} (hwt : wt ≤ 8) (hi : i < wt) (h : post (xwl, xst, xcf, xld, xS, xR, xh, xm, xsk, xfl, nI (wt - 1), xnw, xol, xbs, xfs, xhr, xcr, xfx, hs_sh xms i (wt - 1) 1, xt1, xt2)) : wpX_removeMessage post (xwl, xst, xcf, xld, xS, xR, xh, xm, xsk, xfl, nI wt, xnw, xol, xbs, xfs, xhr, xcr, xfx, xms, xt1, xt2) (nI i) := by
  unfold wpX_removeMessage
  dsimp only
  refine nm_r (nI_1 i) ⟨wt - (i + 1) + 1, ?_⟩
  have k := hs_xrm4 hwt h (wt - (i + 1)) i (by omega) (Nat.le_refl i)
  rw [hs_sh_0] at k
  exact k
def hs_ew (wt : Nat) : Nat := if 8 ≤ wt then wt else wt + 1
def hs_em (ms : Nat → Int32) (wt k s : Nat) : Nat → Int32 := if 8 ≤ wt then ms else upd ms wt (nI (k * 4096 + s))
def hs_eB (B : Nat → Nat) (wt k s : Nat) : Nat → Nat := if 8 ≤ wt then B else hs_u (hs_u B (2 * wt) k) (2 * wt + 1) s
theorem hs_B_em {wt k s : Nat} {ms : Nat → Int32} {B : Nat → Nat} (h : hs_B wt ms B) (hk : k ≤ 2) (hs : s < 4096) : hs_B (hs_ew wt) (hs_em ms wt k s) (hs_eB B wt k s) := by
  unfold hs_ew hs_em hs_eB
  by_cases c : 8 ≤ wt
  · rw [if_pos c, if_pos c, if_pos c]; exact h
  · rw [if_neg c, if_neg c, if_neg c]; exact hs_B_add h (by omega) hk hs
theorem hs_xemit {post : SX → Prop} {wt k s : Nat} {x y : Int32} (hwt : wt ≤ 8) (hk : k ≤ 2) (hs : s < 4096) (ex : x = nI k) (ey : y = nI s) (h : post (xwl, xst, xcf, xld, xS, xR, xh, xm, xsk, xfl, nI (hs_ew wt), xnw, xol, xbs, xfs, xhr, xcr, xfx, hs_em xms wt k s, xt1, xt2)) :
    wpX_emit post (xwl, xst, xcf, xld, xS, xR, xh, xm, xsk, xfl, nI wt, xnw, xol, xbs, xfs, xhr, xcr, xfx, xms, xt1, xt2) x y := by
  subst ex ey
  unfold hs_ew hs_em at h
  unfold wpX_emit
  dsimp only
  by_cases c : 8 ≤ wt
  · rw [if_pos c, if_pos c] at h
    exact br_t (nI_le (a := 8) c (by omega)) h
  · rw [if_neg c, if_neg c] at h
    refine br_f (nI_ge (b := 8) (by omega) (by decide)) ?_
    rw [hs_msg hk hs, nI_clamp (by omega), nI_1]
    exact ⟨vp_in_nI (by omega) (by decide), nm_e (nm_e h)⟩
/-! ===== X: the decompressor ===== -/
theorem hs_ok_bd {g : Nat → Nat} (h : hs_ok g) : hs_bd g := hs_ok_r h
theorem hs_rdv {ld f c k b : Nat} (hk : k ≤ 12) : ((nI c - nI (hs_bl ld f k)) + ((nI b - (nI c - nI (hs_bl ld f k))) &&& nI (2 ^ k - 1))) &&& 4095 = nI (hs_rd ld f c k b) := by
  rw [hs_zn c, hs_zn (hs_bl ld f k), hs_zn b, hs_zsub, hs_zsub, hs_mk _ k (by omega), hs_zn (Int.toNat _), hs_zadd, hs_m12, Int.toNat_of_nonneg (Int.emod_nonneg _ (by have := Nat.two_pow_pos k; omega))]
  rfl
theorem hs_xr54 {post : Int32 → Prop} {st ld f k b b0 b1 b2 : Nat} (h0 : b0 < 4096) (h1 : b1 < 4096) (h2 : b2 < 4096) (hf : f < 3) (hk : k ≤ 12) {p : Nat} (ep : hs_bl ld f k = p)
    (h : post (nI (hs_rd ld f (hs_cd st f b0 b1 b2) k b))) : wX_read_54 post (nI f) (lN (hs_hd b0 b1 b2)) (nI (2 ^ k - 1)) (nI b) (nI p) xwl (nI st) xcf xld xS xR xh xm xsk xfl xwt xnw xol xbs xfs xhr xcr xfx xms xt1 xt2 := by
  subst ep
  unfold wX_read_54
  refine hs_xcoded h0 h1 h2 hf (nm_e ?_)
  rw [hs_rdv hk]
  exact h
theorem hs_xread {post : Int32 → Prop} {st ld f b0 b1 b2 : Nat} {g : Nat → Nat} (ok : hs_ok g) (h0 : b0 < 4096) (h1 : b1 < 4096) (h2 : b2 < 4096) (hf : f < 3) (hl : ld ≤ 63)
    (h : post (nI (hs_rd ld f (hs_cd st f b0 b1 b2) (g (1 + f)) (g (4 + f))))) : wpX_read post (xwl, nI st, xcf, nI ld, xS, xR, xh, xm, xsk, xfl, xwt, xnw, xol, xbs, xfs, xhr, xcr, xfx, xms, xt1, xt2) (lN (hs_pk g)) (nI f) (lN (hs_hd b0 b1 b2)) := by
  have e1 : (1 : Int32) + nI f = nI (1 + f) := nI_add 1 f
  have e4 : (4 : Int32) + nI f = nI (4 + f) := nI_add 4 f
  have hk : g (1 + f) ≤ 12 := (ok.2.1 f hf).1
  have hp := hs_pw hk
  have hs : nI (2 ^ g (1 + f) - 1) >>> ((1 : Int32) &&& 31) = nI ((2 ^ g (1 + f) - 1) / 2) := pk_shrN (by omega) _ 1 (by decide)
  unfold wpX_read
  dsimp only
  rw [e1, e4]
  refine hs_xpart (hs_ok_bd ok) (by omega) (nm_r (hs_span hk) (hs_xpart (hs_ok_bd ok) (by omega) (nm_r hs ?_)))
  by_cases c : f = 0
  · refine br_t ((hs_f0 hf).mpr c) ?_
    by_cases q : 2 ^ g (1 + f) - 1 ≤ ld
    · have eb : hs_bl ld f (g (1 + f)) = 2 ^ g (1 + f) - 1 := by unfold hs_bl; rw [if_pos c, if_pos q]
      refine br_t (nI_le q (by omega)) ?_
      unfold wX_read_52
      exact hs_xr54 h0 h1 h2 hf hk eb h
    · have eb : hs_bl ld f (g (1 + f)) = ld := by unfold hs_bl; rw [if_pos c, if_neg q]
      refine br_f (nI_ge (by omega) (by omega)) ?_
      unfold wX_read_52
      exact hs_xr54 h0 h1 h2 hf hk eb h
  · have eb : hs_bl ld f (g (1 + f)) = (2 ^ g (1 + f) - 1) / 2 := by unfold hs_bl; rw [if_neg c]
    refine br_f (fun z => c ((hs_f0 hf).mp z)) ?_
    exact hs_xr54 h0 h1 h2 hf hk eb h
end
end
section
/-! ===== the outcome of a delivery ===== -/
def hs_rr (st ld : Nat) (g bb : Nat → Nat) (f : Nat) : Nat := hs_rd ld f (hs_cd st f (bb 0) (bb 1) (bb 2)) (g (1 + f)) (g (4 + f))
def hs_mm (st ld : Nat) (g bb : Nat → Nat) : Nat → Nat := fun q => if q = 0 then hs_rr st ld g bb 0 else if q = 1 then (hs_rr st ld g bb 1 + st * hs_rr st ld g bb 0) % 4096 else (hs_rr st ld g bb 2 + hs_rr st ld g bb 0) % 4096
theorem hs_mm_lt {st ld : Nat} {g bb : Nat → Nat} (q : Nat) : hs_mm st ld g bb q < 4096 := by
  unfold hs_mm
  split
  · exact hs_rd_lt
  · split <;> exact Nat.mod_lt _ (by decide)
def hs_H (a : Nat → Nat) : Nat := hs_hd (a 0) (a 1) (a 2)
def hs_b3 (b : Nat → Nat) : Nat → Nat := fun j => b (3 + j)
def hs_nb (bs : Nat) : Nat := if bs = 0 then 1 else 2
def hs_bb (a b : Nat → Nat) : Nat → Nat := fun j => if j < 3 then a j else if j < 6 then b (j - 3) else b j
theorem hs_bb_lt {a b : Nat → Nat} (ha : ∀ j, a j < 4096) (hb : ∀ j, b j < 4096) (j : Nat) : hs_bb a b j < 4096 := by
  unfold hs_bb
  split
  · exact ha j
  · split <;> exact hb _
theorem hs_H_lt {a : Nat → Nat} (h : ∀ j, a j < 4096) : hs_H a < 2 ^ 36 := hs_hd_lt (h 0) (h 1) (h 2)
def hs_acc (r : Nat) (a b : Nat → Nat) (bs r0 bs' fs' k s : Nat) (b' : Nat → Nat) : Prop := r0 = r ∧ bs' = hs_nb bs ∧ fs' = 0 ∧ k = 0 ∧ s = a 0 ∧ b' = hs_bb a b
def hs_fl (bs fs : Nat) (b : Nat → Nat) (r bs' fs' k s : Nat) (b' : Nat → Nat) : Prop :=
  (fs < 2 ∧ r = 3 ∧ bs' = bs ∧ fs' = fs + 1 ∧ k = 1 ∧ s = 0 ∧ b' = b) ∨ (¬ fs < 2 ∧ r = 4 ∧ bs' = 0 ∧ fs' = 0 ∧ k = 2 ∧ s = 0 ∧ b' = b)
def hs_out (st ld bs fs : Nat) (g b : Nat → Nat) (r bs' fs' k s : Nat) (b' : Nat → Nat) : Prop :=
  (g 0 = 0 ∧ hs_acc 1 (hs_mm st ld g b) b bs r bs' fs' k s b') ∨
  (g 0 ≠ 0 ∧ bs = 0 ∧ r = 5 ∧ bs' = bs ∧ fs' = fs ∧ k = 2 ∧ s = 0 ∧ b' = b) ∨
  (g 0 ≠ 0 ∧ bs ≠ 0 ∧ hs_ck (g 0) (hs_H (hs_mm st ld g b)) = g 7 ∧ hs_acc 1 (hs_mm st ld g b) b bs r bs' fs' k s b') ∨
  (g 0 ≠ 0 ∧ bs = 2 ∧ hs_ck (g 0) (hs_H (hs_mm st ld g b)) ≠ g 7 ∧ hs_ck (g 0) (hs_H (hs_mm st ld g (hs_b3 b))) = g 7 ∧ hs_acc 2 (hs_mm st ld g (hs_b3 b)) b bs r bs' fs' k s b') ∨
  (g 0 ≠ 0 ∧ bs ≠ 0 ∧ hs_ck (g 0) (hs_H (hs_mm st ld g b)) ≠ g 7 ∧ ¬ (bs = 2 ∧ hs_ck (g 0) (hs_H (hs_mm st ld g (hs_b3 b))) = g 7) ∧ hs_fl bs fs b r bs' fs' k s b')
def hs_outB (r bs' fs' k s : Nat) (b' : Nat → Nat) : Prop := r ≤ 5 ∧ bs' ≤ 2 ∧ fs' ≤ 2 ∧ k ≤ 2 ∧ s < 4096 ∧ ∀ j, b' j < 4096
theorem hs_acc_B {r : Nat} {a b : Nat → Nat} {bs : Nat} (hr : r ≤ 5) (ha : ∀ j, a j < 4096) (hb : ∀ j, b j < 4096) : hs_acc r a b bs r (hs_nb bs) 0 0 (a 0) (hs_bb a b) ∧ hs_outB r (hs_nb bs) 0 0 (a 0) (hs_bb a b) :=
  ⟨⟨rfl, rfl, rfl, rfl, rfl, rfl⟩, hr, by unfold hs_nb; split <;> omega, by decide, by decide, ha 0, hs_bb_lt ha hb⟩
theorem hs_out_ex {st ld bs fs : Nat} {g b : Nat → Nat} (hbs : bs ≤ 2) (hfs : fs ≤ 2) (hb : ∀ j, b j < 4096) :
    ∃ r bs' fs' k s b', hs_out st ld bs fs g b r bs' fs' k s b' ∧ hs_outB r bs' fs' k s b' := by
  by_cases c0 : g 0 = 0
  · have A := hs_acc_B (r := 1) (a := hs_mm st ld g b) (bs := bs) (by decide) hs_mm_lt hb
    exact ⟨_, _, _, _, _, _, Or.inl ⟨c0, A.1⟩, A.2⟩
  · by_cases c1 : bs = 0
    · exact ⟨5, bs, fs, 2, 0, b, Or.inr (Or.inl ⟨c0, c1, rfl, rfl, rfl, rfl, rfl, rfl⟩), by decide, hbs, hfs, by decide, by decide, hb⟩
    · by_cases c2 : hs_ck (g 0) (hs_H (hs_mm st ld g b)) = g 7
      · have A := hs_acc_B (r := 1) (a := hs_mm st ld g b) (bs := bs) (by decide) hs_mm_lt hb
        exact ⟨_, _, _, _, _, _, Or.inr (Or.inr (Or.inl ⟨c0, c1, c2, A.1⟩)), A.2⟩
      · by_cases c3 : bs = 2 ∧ hs_ck (g 0) (hs_H (hs_mm st ld g (hs_b3 b))) = g 7
        · have A := hs_acc_B (r := 2) (a := hs_mm st ld g (hs_b3 b)) (bs := bs) (by decide) hs_mm_lt hb
          exact ⟨_, _, _, _, _, _, Or.inr (Or.inr (Or.inr (Or.inl ⟨c0, c3.1, c2, c3.2, A.1⟩))), A.2⟩
        · by_cases c4 : fs < 2
          · exact ⟨3, bs, fs + 1, 1, 0, b, Or.inr (Or.inr (Or.inr (Or.inr ⟨c0, c1, c2, c3, Or.inl ⟨c4, rfl, rfl, rfl, rfl, rfl, rfl⟩⟩))), by decide, hbs, by omega, by decide, by decide, hb⟩
          · exact ⟨4, 0, 0, 2, 0, b, Or.inr (Or.inr (Or.inr (Or.inr ⟨c0, c1, c2, c3, Or.inr ⟨c4, rfl, rfl, rfl, rfl, rfl, rfl⟩⟩))), by decide, by decide, by decide, by decide, by decide, hb⟩
section
variable {xwl xst xcf xld xS xR xh xm xsk xfl xwt xbs xfs : Int32} {xnw xol : Int64} {xhr xfx : Nat → Int64} {xcr xms xt1 xt2 : Nat → Int32}
variable {ywl yst ycf yld yS yR ym ypk ymg ybs yfs : Int32} {yw yf yb yba ytk ymd : Nat → Int32}

/-! ===== X: deliver ===== -/
theorem hs_xdecode {post : Int64 → Prop} {st ld : Nat} {g bb : Nat → Nat} (ok : hs_ok g) (hb : ∀ j, bb j < 4096) (hl : ld ≤ 63) (h : post (lN (hs_H (hs_mm st ld g bb)))) :
    wpX_decode post (xwl, nI st, xcf, nI ld, xS, xR, xh, xm, xsk, xfl, xwt, xnw, xol, xbs, xfs, xhr, xcr, xfx, xms, xt1, xt2) (lN (hs_pk g)) (lN (hs_hd (bb 0) (bb 1) (bb 2))) := by
  unfold wpX_decode
  dsimp only
  refine hs_xread (f := 0) ok (hb 0) (hb 1) (hb 2) (by decide) hl (hs_xread (f := 1) ok (hb 0) (hb 1) (hb 2) (by decide) hl (hs_xread (f := 2) ok (hb 0) (hb 1) (hb 2) (by decide) hl ?_))
  have r0 : hs_rr st ld g bb 0 < 4096 := hs_rd_lt
  refine hs_xjoin (s := hs_mm st ld g bb 0) (t := hs_mm st ld g bb 1) (d := hs_mm st ld g bb 2) ?_ ?_ ?_ (hs_mm_lt 0) (hs_mm_lt 1) (hs_mm_lt 2) h
  · show nI (hs_rr st ld g bb 0) &&& 4095 = nI (hs_rr st ld g bb 0)
    rw [hs_mN, Nat.mod_eq_of_lt r0]
  · show (nI (hs_rr st ld g bb 1) + nI st * nI (hs_rr st ld g bb 0)) &&& 4095 = nI ((hs_rr st ld g bb 1 + st * hs_rr st ld g bb 0) % 4096)
    rw [pk_mul, nI_add, hs_mN]
  · show (nI (hs_rr st ld g bb 2) + nI (hs_rr st ld g bb 0)) &&& 4095 = nI ((hs_rr st ld g bb 2 + hs_rr st ld g bb 0) % 4096)
    rw [nI_add, hs_mN]
theorem hs_xpasses {post : Int32 → Prop} {g : Nat → Nat} {H : Nat} (ok : hs_ok g) (hH : H < 2 ^ 36) (T : hs_T xt1 xt2) (h1 : hs_ck (g 0) H = g 7 → post 1) (h0 : hs_ck (g 0) H ≠ g 7 → post 0) :
    wpX_passes post (xwl, xst, xcf, xld, xS, xR, xh, xm, xsk, xfl, xwt, xnw, xol, xbs, xfs, xhr, xcr, xfx, xms, xt1, xt2) (lN (hs_pk g)) (lN H) := by
  have hc := hs_ck_lt (K := g 0) hH
  have h7 := ok.2.2.1
  unfold wpX_passes
  dsimp only
  refine hs_xpart (q := 0) (hs_ok_bd ok) (by decide) (hs_xck ok.1 hH T (hs_xpart (q := 7) (hs_ok_bd ok) (by decide) ?_))
  by_cases c : hs_ck (g 0) H = g 7
  · exact br_t (congrArg nI c) (h1 c)
  · exact br_f (fun z => c ((nI_eq (by omega) (by omega)).mp z)) (h0 c)
theorem hs_xacc31 {post : SX → Prop} {wt : Nat} {a : Nat → Nat} (hwt : wt ≤ 8) (ha : ∀ j, a j < 4096) (h : post (xwl, xst, xcf, xld, xS, xR, xh, xm, xsk, xfl, nI (hs_ew wt), xnw, xol, xbs, nI 0, xhr, xcr, xfx, hs_em xms wt 0 (a 0), xt1, xt2)) :
    wX_accept_31 post (lN (hs_H a)) xwl xst xcf xld xS xR xh xm xsk xfl (nI wt) xnw xol xbs xfs xhr xcr xfx xms xt1 xt2 := by
  unfold wX_accept_31
  refine hs_xfh (f := 0) (ha 0) (ha 1) (ha 2) (by decide) (hs_xemit (k := 0) (s := a 0) hwt (by decide) (ha 0) rfl rfl ?_)
  exact h
theorem hs_xaccept {post : SX → Prop} {wt bs : Nat} {a : Nat → Nat} (hwt : wt ≤ 8) (hbs : bs ≤ 2) (ha : ∀ j, a j < 4096) (h : post (xwl, xst, xcf, xld, xS, xR, xh, xm, xsk, xfl, nI (hs_ew wt), lN (hs_H a), xnw, nI (hs_nb bs), nI 0, xhr, xcr, xfx, hs_em xms wt 0 (a 0), xt1, xt2)) :
    wpX_accept post (xwl, xst, xcf, xld, xS, xR, xh, xm, xsk, xfl, nI wt, xnw, xol, nI bs, xfs, xhr, xcr, xfx, xms, xt1, xt2) (lN (hs_H a)) := by
  unfold wpX_accept
  dsimp only
  by_cases c : 2 ≤ bs
  · have e : hs_nb bs = bs := by unfold hs_nb; rw [if_neg (by omega)]; omega
    rw [e] at h
    exact br_t (nI_le (a := 2) c (by omega)) (hs_xacc31 hwt ha h)
  · have e : hs_nb bs = bs + 1 := by unfold hs_nb; split <;> omega
    rw [e] at h
    exact br_f (nI_ge (b := 2) (by omega) (by decide)) (nm_r (nI_1 bs) (hs_xacc31 hwt ha h))
theorem hs_xfail {post : Int32 → SX → Prop} {wt bs fs r bs' fs' k s : Nat} {b b' : Nat → Nat} (hwt : wt ≤ 8) (hfs : fs ≤ 2) (o : hs_fl bs fs b r bs' fs' k s b')
    (h : post (nI r) (xwl, xst, xcf, xld, xS, xR, xh, xm, xsk, xfl, nI (hs_ew wt), xnw, xol, nI bs', nI fs', xhr, xcr, xfx, hs_em xms wt k s, xt1, xt2)) : wpX_fail post (xwl, xst, xcf, xld, xS, xR, xh, xm, xsk, xfl, nI wt, xnw, xol, nI bs, nI fs, xhr, xcr, xfx, xms, xt1, xt2) := by
  unfold wpX_fail
  dsimp only
  refine nm_r (nI_1 fs) ?_
  rcases o with ⟨c, rfl, rfl, rfl, rfl, rfl, rfl⟩ | ⟨c, rfl, rfl, rfl, rfl, rfl, rfl⟩
  · exact br_t (nI_lt (b := 3) (by omega) (by decide)) (hs_xemit (k := 1) (s := 0) hwt (by decide) (by decide) rfl rfl h)
  · exact br_f (nI_nlt (b := 3) (by omega) (by omega)) (hs_xemit (k := 2) (s := 0) hwt (by decide) (by decide) rfl rfl h)
theorem hs_xdel {post : Int32 → SX → Prop} {st ld fl wt bs fs i r bs' fs' k s : Nat} {b b' : Nat → Nat} {F : Nat → Nat} (hl : ld ≤ 63) (hwt : wt ≤ 8) (hbs : bs ≤ 2) (hfs : fs ≤ 2) (hb : ∀ j, b j < 4096)
    (T : hs_T xt1 xt2) (HF : hs_F fl xfx F) (hi : i < fl) (o : hs_out st ld bs fs (hs_g F i) b r bs' fs' k s b')
    (h : post (nI r) (xwl, nI st, xcf, nI ld, xS, xR, xh, xm, xsk, nI (fl - 1), nI (hs_ew wt), lN (hs_hd (b' 0) (b' 1) (b' 2)), lN (hs_hd (b' 3) (b' 4) (b' 5)), nI bs', nI fs', xhr, xcr, hs_sh xfx i (fl - 1) 1, hs_em xms wt k s, xt1, xt2)) :
    wpX_deliver post (xwl, nI st, xcf, nI ld, xS, xR, xh, xm, xsk, nI fl, nI wt, lN (hs_hd (b 0) (b 1) (b 2)), lN (hs_hd (b 3) (b 4) (b 5)), nI bs, nI fs, xhr, xcr, xfx, xms, xt1, xt2) (nI i) := by
  have hfl := HF.1
  obtain ⟨ok, ex⟩ := HF.2 i hi
  have g0 : hs_g F i 0 ≤ 2 := ok.1
  have hb3 : ∀ j, hs_b3 b j < 4096 := fun j => hb _
  unfold wpX_deliver
  dsimp only
  refine br_f (nI_pos (by omega)) (br_t (nI_lt hi (by omega)) ⟨vp_in_nI (by omega) (by decide), ?_⟩)
  rw [nI_clamp (by omega), ex]
  refine nm_e (hs_xrp hfl hi ?_)
  dsimp only
  refine hs_xdecode ok hb hl (hs_xpart (q := 0) (hs_ok_bd ok) (by decide) ?_)
  rcases o with ⟨c0, rfl, rfl, rfl, rfl, rfl, rfl⟩ | ⟨c0, c1, rfl, rfl, rfl, rfl, rfl, rfl⟩ | ⟨c0, c1, c2, rfl, rfl, rfl, rfl, rfl, rfl⟩ | ⟨c0, c1, c2, c3, rfl, rfl, rfl, rfl, rfl, rfl⟩ | ⟨c0, c1, c2, c3, o⟩
  · refine br_t (by rw [c0]; rfl) (hs_xaccept hwt hbs hs_mm_lt ?_)
    exact h
  · refine br_f (nI_ne0 (by omega) (by omega)) (br_t (by rw [c1]; rfl) (hs_xemit (k := 2) (s := 0) hwt (by decide) (by decide) rfl rfl ?_))
    exact h
  · refine br_f (nI_ne0 (by omega) (by omega)) (br_f (nI_ne0 (by omega) (by omega)) (hs_xpasses ok (hs_H_lt hs_mm_lt) T (fun _ => ?_) (fun n => absurd c2 n)))
    refine br_f (by decide) (hs_xaccept hwt hbs hs_mm_lt ?_)
    exact h
  · refine br_f (nI_ne0 (by omega) (by omega)) (br_f (nI_ne0 (by omega) (by omega)) (hs_xpasses ok (hs_H_lt hs_mm_lt) T (fun n => absurd n c2) (fun _ => ?_)))
    refine br_t rfl ?_
    unfold wpX_repair
    dsimp only
    refine br_t (by rw [c1]; rfl) (hs_xdecode (bb := hs_b3 b) ok hb3 hl (hs_xpasses ok (hs_H_lt hs_mm_lt) T (fun _ => ?_) (fun n => absurd c3 n)))
    refine br_f (by decide) (hs_xaccept hwt hbs hs_mm_lt ?_)
    exact h
  · refine br_f (nI_ne0 (by omega) (by omega)) (br_f (nI_ne0 (by omega) (by omega)) (hs_xpasses ok (hs_H_lt hs_mm_lt) T (fun n => absurd n c2) (fun _ => ?_)))
    refine br_t rfl ?_
    unfold wpX_repair
    dsimp only
    have hf : wpX_fail post (xwl, nI st, xcf, nI ld, xS, xR, xh, xm, xsk, nI (fl - 1), nI wt, lN (hs_hd (b 0) (b 1) (b 2)), lN (hs_hd (b 3) (b 4) (b 5)), nI bs, nI fs, xhr, xcr, hs_sh xfx i (fl - 1) 1, xms, xt1, xt2) := by
      refine hs_xfail hwt hfs o ?_
      have eb : b' = b := by
        rcases o with ⟨_, _, _, _, _, _, e⟩ | ⟨_, _, _, _, _, _, e⟩ <;> exact e
      rw [eb] at h
      exact h
    by_cases c4 : bs = 2
    · refine br_t (by rw [c4]; rfl) (hs_xdecode (bb := hs_b3 b) ok hb3 hl (hs_xpasses ok (hs_H_lt hs_mm_lt) T (fun n => absurd ⟨c4, n⟩ c3) (fun _ => ?_)))
      refine br_t rfl ?_
      unfold wX_repair_34
      exact hf
    · refine br_f (hs_ne (b := 2) (by omega) (by decide) c4) ?_
      unfold wX_repair_34
      exact hf
end
end
section
section
variable {xwl xst xcf xld xS xR xh xm xsk xfl xwt xbs xfs : Int32} {xnw xol : Int64} {xhr xfx : Nat → Int64} {xcr xms xt1 xt2 : Nat → Int32}
variable {ywl yst ycf yld yS yR ym ypk ymg ybs yfs : Int32} {yw yf yb yba ytk ymd : Nat → Int32}

/-! ===== X: hear ===== -/
def hs_S3 (S : Nat) (al : Int32) : Nat := if S = 0 then 1 else if S = 1 then (if al = 0 then 1 else 2) else S
def hs_R3 (S : Nat) (al R : Int32) : Int32 := if S = 0 then 0 else if S = 1 then (if al = 0 then R else 0) else R
theorem hs_S3_le {S : Nat} {al : Int32} (h : S ≤ 2) : hs_S3 S al ≤ 2 := by
  unfold hs_S3
  split
  · decide
  · split
    · split <;> decide
    · exact h
theorem hs_W0 {st h m : Nat} {hr : Nat → Int64} {cr : Nat → Int32} {w : Nat → Nat} (W : hs_W st h m hr cr w) {i : Nat} (hi : i < m) : cr ((h + i) % 16) = nI (w (3 * i)) := by
  have e := W.2.2.2 0 i (by decide) hi
  rw [Nat.zero_mul, Nat.zero_add] at e
  exact e
theorem hs_xow {post : Int32 → Prop} {st h m sn i : Nat} {w : Nat → Nat} (W : hs_W st h m xhr xcr w) (hm : m ≤ 16) (hsn : sn < 4096) (hi : i < m) (e : w (3 * i) = sn) (hn : ∀ j, j < i → w (3 * j) ≠ sn) (hp : post (nI i)) :
    ∀ d j, j + d = i → wX_oldestWith_2 post (nI sn) xwl xst xcf xld xS xR (nI h) (nI m) xsk xfl xwt xnw xol xbs xfs xhr xcr xfx xms xt1 xt2 (d + 1) (nI j) := by
  intro d
  induction d with
  | zero =>
    intro j hj
    rw [wX_oldestWith_2]
    have ej : j = i := by omega
    subst ej
    refine br_f (nI_ge hi (by omega)) ?_
    rw [hs_ring W.1 (by omega), nI_clamp (by omega), hs_W0 W hi, e]
    exact ⟨vp_in_nI (by omega) (by decide), br_t rfl hp⟩
  | succ d ih =>
    intro j hj
    rw [wX_oldestWith_2]
    refine br_f (nI_ge (by omega) (by omega)) ?_
    rw [hs_ring W.1 (by omega), nI_clamp (by omega), hs_W0 W (by omega)]
    have l := W.2.1 (3 * j)
    exact ⟨vp_in_nI (by omega) (by decide), br_f (fun z => hn j (by omega) ((nI_eq (by omega) (by omega)).mp z)) (nm_r (nI_1 j) (ih (j + 1) (by omega)))⟩
theorem hs_xowN {post : Int32 → Prop} {st h m sn : Nat} {w : Nat → Nat} (W : hs_W st h m xhr xcr w) (hm : m ≤ 16) (hsn : sn < 4096) (hn : ∀ j, j < m → w (3 * j) ≠ sn) (hp : post (-1)) :
    ∀ d j, j + d = m → wX_oldestWith_2 post (nI sn) xwl xst xcf xld xS xR (nI h) (nI m) xsk xfl xwt xnw xol xbs xfs xhr xcr xfx xms xt1 xt2 (d + 1) (nI j) := by
  intro d
  induction d with
  | zero =>
    intro j hj
    rw [wX_oldestWith_2]
    exact br_t (nI_le (by omega) (by omega)) hp
  | succ d ih =>
    intro j hj
    rw [wX_oldestWith_2]
    refine br_f (nI_ge (by omega) (by omega)) ?_
    rw [hs_ring W.1 (by omega), nI_clamp (by omega), hs_W0 W (by omega)]
    have l := W.2.1 (3 * j)
    exact ⟨vp_in_nI (by omega) (by decide), br_f (fun z => hn j (by omega) ((nI_eq (by omega) (by omega)).mp z)) (nm_r (nI_1 j) (ih (j + 1) (by omega)))⟩
theorem hs_xhA {post : Int32 → SX → Prop} {st S h m sk sn i : Nat} {al : Int32} {w : Nat → Nat} (W : hs_W st h m xhr xcr w) (hm : m ≤ 16) (hsn : sn < 4096) (hS : S ≤ 2) (hk : sk ≤ 16) (hi : i < m) (e : w (3 * i) = sn) (hn : ∀ j, j < i → w (3 * j) ≠ sn)
    (a1 : m - i ≤ sk → ¬ al = 0) (a0 : ¬ m - i ≤ sk → al = 0)
    (hp : post 1 (xwl, xst, xcf, xld, nI (hs_S3 S al), hs_R3 S al xR, nI ((h + i) % 16), nI (m - i), nI sk, xfl, xwt, xnw, xol, xbs, xfs, xhr, xcr, xfx, xms, xt1, xt2)) :
    wpX_hearAck post (xwl, xst, xcf, xld, nI S, xR, nI h, nI m, nI sk, xfl, xwt, xnw, xol, xbs, xfs, xhr, xcr, xfx, xms, xt1, xt2) (nI sn) := by
  have hh := W.1
  unfold wpX_hearAck wpX_oldestWith
  dsimp only
  refine ⟨i + 1, hs_xow W hm hsn hi e hn ?_ i 0 (by omega)⟩
  refine br_t (nI_pos' (by omega)) ?_
  unfold wpX_dropOldest
  dsimp only
  refine nm_r (hs_ring hh (by omega)) (nm_r (pk_sub (by omega)) ?_)
  unfold hs_S3 hs_R3 at hp
  by_cases c0 : S = 0
  · rw [if_pos c0, if_pos c0] at hp
    refine br_t (by rw [c0]; rfl) ?_
    unfold wpX_enter
    dsimp only
    exact hp
  · rw [if_neg c0, if_neg c0] at hp
    refine br_f (nI_ne0 (by omega) (by omega)) ?_
    by_cases c1 : S = 1
    · rw [if_pos c1, if_pos c1] at hp
      refine br_t (by rw [c1]; rfl) ?_
      by_cases cs : m - i ≤ sk
      · rw [if_neg (a1 cs), if_neg (a1 cs)] at hp
        refine br_f (nI_nlt cs (by omega)) ?_
        unfold wpX_enter
        dsimp only
        exact hp
      · rw [if_pos (a0 cs), if_pos (a0 cs)] at hp
        rw [c1]
        exact br_t (nI_lt (by omega) (by omega)) hp
    · rw [if_neg c1, if_neg c1] at hp
      exact br_f (hs_ne (b := 1) (by omega) (by decide) c1) hp
theorem hs_xhN {post : Int32 → SX → Prop} {st h m sn : Nat} {w : Nat → Nat} (W : hs_W st h m xhr xcr w) (hm : m ≤ 16) (hsn : sn < 4096) (hn : ∀ j, j < m → w (3 * j) ≠ sn)
    (hp : post 0 (xwl, xst, xcf, xld, xS, xR, nI h, nI m, xsk, xfl, xwt, xnw, xol, xbs, xfs, xhr, xcr, xfx, xms, xt1, xt2)) : wpX_hearAck post (xwl, xst, xcf, xld, xS, xR, nI h, nI m, xsk, xfl, xwt, xnw, xol, xbs, xfs, xhr, xcr, xfx, xms, xt1, xt2) (nI sn) := by
  unfold wpX_hearAck wpX_oldestWith
  dsimp only
  refine ⟨m + 1, hs_xowN W hm hsn hn ?_ m 0 (by omega)⟩
  exact br_f (by decide) hp
theorem hs_msgk {k s : Nat} (hk : k ≤ 2) (hs : s < 4096) : ((nI (k * 4096 + s)).toUInt32 >>> ((12 : Int32).toUInt32 &&& Int32.toUInt32 31)).toInt32 = nI k := by
  rw [pk_ushrN (by omega) 12 12 (by decide)]
  exact congrArg nI (by omega)
theorem hs_msgs {k s : Nat} (hs : s < 4096) : nI (k * 4096 + s) &&& 4095 = nI s := by
  rw [hs_mN]
  exact congrArg nI (by omega)
/-- the part of hear that is alike in all cases: what is asked behind the removal -/
theorem hs_xhear {post : Int32 → SX → Prop} {wt j k s : Nat} (hwt : wt ≤ 8) (hj : j < wt) (hk : k ≤ 2) (hs : s < 4096) (em : xms j = nI (k * 4096 + s))
    (h0 : k = 0 → wpX_hearAck (fun r u => post r u) (xwl, xst, xcf, xld, xS, xR, xh, xm, xsk, xfl, nI (wt - 1), xnw, xol, xbs, xfs, xhr, xcr, xfx, hs_sh xms j (wt - 1) 1, xt1, xt2) (nI s))
    (h2 : k = 2 → post 1 (xwl, xst, xcf, xld, 0, 0, xh, xm, xsk, xfl, nI (wt - 1), xnw, xol, xbs, xfs, xhr, xcr, xfx, hs_sh xms j (wt - 1) 1, xt1, xt2))
    (h1 : k = 1 → (xS = 0 → post 0 (xwl, xst, xcf, xld, xS, xR, xh, xm, xsk, xfl, nI (wt - 1), xnw, xol, xbs, xfs, xhr, xcr, xfx, hs_sh xms j (wt - 1) 1, xt1, xt2)) ∧ (¬ xS = 0 → post 1 (xwl, xst, xcf, xld, 1, 0, xh, xm, xsk, xfl, nI (wt - 1), xnw, xol, xbs, xfs, xhr, xcr, xfx, hs_sh xms j (wt - 1) 1, xt1, xt2))) :
    wpX_hear post (xwl, xst, xcf, xld, xS, xR, xh, xm, xsk, xfl, nI wt, xnw, xol, xbs, xfs, xhr, xcr, xfx, xms, xt1, xt2) (nI j) := by
  unfold wpX_hear
  dsimp only
  refine br_f (nI_pos (by omega)) (br_t (nI_lt hj (by omega)) ⟨vp_in_nI (by omega) (by decide), ?_⟩)
  rw [nI_clamp (by omega), em]
  refine nm_e (hs_xrm hwt hj ?_)
  dsimp only
  refine nm_r (hs_msgk hk hs) ?_
  rw [hs_msgs hs]
  have c : k = 0 ∨ k = 1 ∨ k = 2 := by omega
  rcases c with rfl | rfl | rfl
  · exact br_t rfl (h0 rfl)
  · refine br_f (by decide) (br_f (by decide) ?_)
    exact br_c (h1 rfl).1 (h1 rfl).2
  · exact br_f (by decide) (br_t rfl (h2 rfl))
/-! ===== X: inStep ===== -/
theorem hs_hd_inj {s t d s' t' d' : Nat} (hs : s < 4096) (ht : t < 4096) (hd : d < 4096) (hs' : s' < 4096) (ht' : t' < 4096) (hd' : d' < 4096) :
    lN (hs_hd s t d) = lN (hs_hd s' t' d') ↔ s = s' ∧ t = t' ∧ d = d' := by
  have a := hs_hd_lt hs ht hd
  have b := hs_hd_lt hs' ht' hd'
  rw [pk_lEQ (by omega) (by omega)]
  unfold hs_hd
  omega
def hs_hit3 (w b : Nat → Nat) (i : Nat) : Prop := w (3 * i) = b 0 ∧ w (3 * i + 1) = b 1 ∧ w (3 * i + 2) = b 2
theorem hs_xin {post : Int32 → Prop} {st h m : Nat} {w b : Nat → Nat} (W : hs_W st h m xhr xcr w) (hm : m ≤ 16) (hb : ∀ j, b j < 4096) (h1 : (∃ i, i < m ∧ hs_hit3 w b i) → post 1) (h0 : ¬ (∃ i, i < m ∧ hs_hit3 w b i) → post 0) :
    ∀ d j, j + d = m → (∀ i, i < j → ¬ hs_hit3 w b i) → wX_inStep_11 post xwl xst xcf xld xS xR (nI h) (nI m) xsk xfl xwt (lN (hs_hd (b 0) (b 1) (b 2))) xol xbs xfs xhr xcr xfx xms xt1 xt2 (d + 1) (nI j) := by
  intro d
  induction d with
  | zero =>
    intro j hj hn
    rw [wX_inStep_11]
    exact br_t (nI_le (by omega) (by omega)) (h0 (fun z => by obtain ⟨i, hi, q⟩ := z; exact hn i (by omega) q))
  | succ d ih =>
    intro j hj hn
    rw [wX_inStep_11]
    refine br_f (nI_ge (by omega) (by omega)) ?_
    rw [hs_ring W.1 (by omega), nI_clamp (by omega), W.2.2.1 j (by omega)]
    have l := W.2.1
    have q := hs_hd_inj (l (3 * j)) (l (3 * j + 1)) (l (3 * j + 2)) (hb 0) (hb 1) (hb 2)
    refine ⟨vp_in_nI (by omega) (by decide), br_c (fun z => h1 ⟨j, by omega, q.mp z⟩) (fun z => nm_r (nI_1 j) (ih (j + 1) (by omega) (fun i hi => ?_)))⟩
    by_cases c : i = j
    · subst c
      exact fun y => z (q.mpr y)
    · exact hn i (by omega)
/-! ===== X: the constructor ===== -/
def hs_cl (p a b : Int32) : Int32 := if a ≤ p then (if p ≤ b then p else b) else a
theorem hs_cl_n (p : Int32) {lo hi : Nat} (h : lo ≤ hi) (hh : hi < 2 ^ 31) : ∃ n, lo ≤ n ∧ n ≤ hi ∧ hs_cl p (nI lo) (nI hi) = nI n := by
  unfold hs_cl
  by_cases c : nI lo ≤ p
  · rw [if_pos c]
    by_cases c2 : p ≤ nI hi
    · rw [if_pos c2]
      obtain ⟨j, hj, rfl⟩ := nI_of (x := p) (fun z => by
        have a := Int32.le_iff_toInt_le.mp c
        have b := Int32.lt_iff_toInt_lt.mp z
        rw [nI_toInt (by omega)] at a
        have e : (0 : Int32).toInt = 0 := by decide
        omega)
      rw [nI_leI (by omega) hj] at c
      rw [nI_leI hj hh] at c2
      exact ⟨j, c, c2, rfl⟩
    · rw [if_neg c2]
      exact ⟨hi, h, Nat.le_refl _, rfl⟩
  · rw [if_neg c]
    exact ⟨lo, Nat.le_refl _, h, rfl⟩
theorem hs_xclamp {post : Int32 → Prop} {p a b : Int32} (h : post (hs_cl p a b)) : wpX_clamp post (xwl, xst, xcf, xld, xS, xR, xh, xm, xsk, xfl, xwt, xnw, xol, xbs, xfs, xhr, xcr, xfx, xms, xt1, xt2) p a b := by
  unfold hs_cl at h
  unfold wpX_clamp
  dsimp only
  by_cases c : a ≤ p
  · rw [if_pos c] at h
    by_cases c2 : p ≤ b
    · rw [if_pos c2] at h
      exact br_t c (br_t c2 h)
    · rw [if_neg c2] at h
      exact br_t c (br_f c2 h)
  · rw [if_neg c] at h
    exact br_f c h
theorem hs_yclamp {post : Int32 → Prop} {p a b : Int32} (h : post (hs_cl p a b)) : wpY_clamp post p a b := by
  unfold hs_cl at h
  unfold wpY_clamp
  by_cases c : a ≤ p
  · rw [if_pos c] at h
    by_cases c2 : p ≤ b
    · rw [if_pos c2] at h
      exact br_t c (br_t c2 h)
    · rw [if_neg c2] at h
      exact br_t c (br_f c2 h)
  · rw [if_neg c] at h
    exact br_f c h
theorem hs_xrem7 {post : Int32 → Prop} {g d : Nat} (hd : d ≤ 14) (hg : ∀ n, n + d < 14 → g * 2 ^ n < 2 ^ 14) :
    ∀ (n r : Nat) (x : Int32), x = hs_z ((n : Int) + d - 1) → r < 2 ^ 14 → n + d ≤ 14 → post (nI (hs_dv g d n r)) → wX_remainder_7 post (nI g) (nI d) xwl xst xcf xld xS xR xh xm xsk xfl xwt xnw xol xbs xfs xhr xcr xfx xms xt1 xt2 (n + 1) (nI r) x := by
  intro n
  induction n with
  | zero =>
    intro r x ex hr hn h
    subst ex
    rw [wX_remainder_7]
    refine br_t ?_ h
    rw [Int32.lt_iff_toInt_lt, hs_zt (by omega) (by omega), nI_toInt (by omega)]
    omega
  | succ n ih =>
    intro r x ex hr hn h
    have e : x = nI (d + n) := by
      rw [ex, hs_zn]
      exact congrArg hs_z (by omega)
    subst e
    have e1 : nI (d + n) + (-1) = hs_z ((n : Int) + d - 1) := by
      rw [hs_zn, show (-1 : Int32) = hs_z (-1) from by decide, hs_zadd]
      exact congrArg hs_z (by omega)
    have hb := hs_dv_b (g := g) (d := d) (n := n) (r := r) (N := 14) (hg n (by omega)) hr
    rw [hs_dv_s] at h
    rw [wX_remainder_7]
    refine br_f (nI_nlt (by omega) (by omega)) ?_
    have bit := nx_bit (k := r) (j := d + n) (by omega) (by omega)
    by_cases c : r.testBit (d + n) = true
    · rw [if_pos c] at h hb
      refine br_f (fun z => by rw [bit.mp z] at c; cases c) ?_
      have g1 := hg n (by omega)
      have es : nI r ^^^ (nI g <<< ((nI (d + n) - nI d) &&& 31)) = nI (r ^^^ (g * 2 ^ n)) := by
        rw [pk_sub (by omega), Nat.add_sub_cancel_left, pk_shlN (n := g) (nI n &&& 31) n (s_l n (by omega)) (by omega), nx_xor]
      exact nm_r es (nm_r e1 (ih _ _ rfl hb (by omega) h))
    · rw [if_neg c] at h
      have c' : r.testBit (d + n) = false := by cases q : r.testBit (d + n) <;> first | rfl | exact absurd q c
      exact br_t (bit.mpr c') (nm_r e1 (ih _ _ rfl hr (by omega) h))
theorem hs_xinit {post : SX → Prop} (h : ∀ t1 t2, hs_T t1 t2 → post (xwl, xst, xcf, xld, xS, xR, xh, xm, xsk, xfl, xwt, xnw, xol, xbs, xfs, xhr, xcr, xfx, xms, t1, t2)) :
    ∀ d i t1 t2, i + d = 128 → (∀ t, t < i → t1 t = nI (hs_t1 t) ∧ t2 t = nI (hs_t2 t)) → wX_init_106 post xwl xst xcf xld xS xR xh xm xsk xfl xwt xnw xol xbs xfs (d + 1) (nI i) xhr xcr xfx xms t1 t2 := by
  intro d
  induction d with
  | zero =>
    intro i t1 t2 hi ht
    rw [wX_init_106]
    exact br_t (nI_le (a := 128) (by omega) (by omega)) (h t1 t2 (fun t q => ht t (by omega)))
  | succ d ih =>
    intro i t1 t2 hi ht
    rw [wX_init_106]
    have e7 : nI i <<< ((7 : Int32) &&& 31) = nI (i * 2 ^ 7) := pk_shlN _ 7 (by decide) (by omega)
    refine br_f (nI_ge (b := 128) (by omega) (by decide)) ?_
    rw [e7, nI_clamp (by omega), nI_1]
    unfold wpX_remainder
    dsimp only
    refine ⟨8, hs_xrem7 (g := 207) (d := 7) (by decide) (fun n hn => (by decide +kernel : ∀ n, n < 7 → 207 * 2 ^ n < 2 ^ 14) n (by omega)) 7 _ 13 (by decide) (by omega) (by decide) ⟨vp_in_nI (by omega) (by decide), nm_e ?_⟩⟩
    refine ⟨12, hs_xrem7 (g := 11) (d := 3) (by decide) (fun n hn => (by decide +kernel : ∀ n, n < 11 → 11 * 2 ^ n < 2 ^ 14) n (by omega)) 11 _ 13 (by decide) (by omega) (by decide) ⟨vp_in_nI (by omega) (by decide), nm_e (nm_e ?_)⟩⟩
    refine ih (i + 1) _ _ (by omega) (fun t q => ?_)
    by_cases c : t = i
    · subst c
      rw [pk_us, pk_us]
      exact ⟨rfl, rfl⟩
    · rw [pk_un c, pk_un c]
      exact ht t (by omega)
end
end
section
section
variable {xwl xst xcf xld xS xR xh xm xsk xfl xwt xbs xfs : Int32} {xnw xol : Int64} {xhr xfx : Nat → Int64} {xcr xms xt1 xt2 : Nat → Int32}
variable {ywl yst ycf yld yS yR ym ypk ymg ybs yfs : Int32} {yw yf yb yba ytk ymd : Nat → Int32}

/-! ===== Y: coded, below, inside, read ===== -/
theorem hs_ycoded {post : Int32 → Prop} {st s t d f : Nat} (hf : f < 3) (h : post (nI (hs_cd st f s t d))) : wpY_coded post (ywl, nI st, ycf, yld, yS, yR, ym, ypk, ymg, ybs, yfs, yw, yf, yb, yba, ytk, ymd) (nI f) (nI s) (nI t) (nI d) := by
  unfold wpY_coded
  dsimp only
  rcases hs_i3 hf with rfl | rfl | rfl
  · exact br_t rfl h
  · refine br_f (by decide) (br_t rfl ?_)
    rw [hs_cd1 st s t d]
    exact h
  · refine br_f (by decide) (br_f (by decide) ?_)
    rw [hs_cd2 st s t d]
    exact h
theorem hs_ybelow {post : Int32 → Prop} {ld f k : Nat} (hl : ld ≤ 63) (hf : f < 3) (hk : k ≤ 12) (h : post (nI (hs_bl ld f k))) : wpY_below post (ywl, yst, ycf, nI ld, yS, yR, ym, ypk, ymg, ybs, yfs, yw, yf, yb, yba, ytk, ymd) (nI f) (nI k) := by
  have hp := hs_pw hk
  unfold hs_bl at h
  unfold wpY_below
  dsimp only
  refine nm_r (hs_span hk) ?_
  by_cases c : f = 0
  · rw [if_pos c] at h
    refine br_t ((hs_f0 hf).mpr c) ?_
    by_cases q : 2 ^ k - 1 ≤ ld
    · rw [if_pos q] at h
      exact br_t (nI_le q (by omega)) h
    · rw [if_neg q] at h
      exact br_f (nI_ge (by omega) (by omega)) h
  · rw [if_neg c] at h
    refine br_f (fun z => c ((hs_f0 hf).mp z)) ?_
    by_cases q : k = 0
    · subst q
      exact br_t rfl h
    · refine br_f (nI_ne0 (by omega) (by omega)) ?_
      obtain ⟨k', rfl⟩ : ∃ k', k = k' + 1 := ⟨k - 1, by omega⟩
      rw [nI_pred, hs_span (by omega)]
      have e : (2 ^ (k' + 1) - 1) / 2 = 2 ^ k' - 1 := by
        rw [Nat.pow_succ]
        omega
      rw [e] at h
      exact h
theorem hs_yv (c p j : Nat) : ((nI c - nI p) + nI j) &&& 4095 = nI ((((c : Int) - p + (j : Int)) % 4096).toNat) := by
  rw [hs_zn c, hs_zn p, hs_zn j, hs_zsub, hs_zadd, hs_m12]
theorem hs_yin11 {post : Int32 → Prop} {c k v p : Nat} (hk : k ≤ 12) (hv : v < 4096)
    (h1 : (∃ j : Nat, j < 2 ^ k ∧ (((c : Int) - p + (j : Int)) % 4096).toNat = v) → post 1) (h0 : ¬ (∃ j : Nat, j < 2 ^ k ∧ (((c : Int) - p + (j : Int)) % 4096).toNat = v) → post 0) :
    ∀ d j : Nat, j + d = 2 ^ k → (∀ i : Nat, i < j → ¬ (((c : Int) - p + (i : Int)) % 4096).toNat = v) → wY_inside_11 post (nI c) (nI k) (nI v) (nI p) ywl yst ycf yld yS yR ym ypk ymg ybs yfs yw yf yb yba ytk ymd (d + 1) (nI j) := by
  have hp := hs_pw hk
  intro d
  induction d with
  | zero =>
    intro j hj hn
    rw [wY_inside_11, hs_sh1 k (by omega)]
    have z : post 0 := h0 (fun y => by obtain ⟨i, hi, q⟩ := y; exact hn i (by omega) q)
    exact br_c (fun _ => z) (fun _ => br_t (nI_le (by omega) (by omega)) z)
  | succ d ih =>
    intro j hj hn
    rw [wY_inside_11]
    dsimp only
    rw [hs_sh1 k (by omega), hs_yv]
    refine br_f (nI_ge (b := 4096) (by omega) (by decide)) (br_f (nI_ge (by omega) (by omega)) ?_)
    have q := nI_eq (a := (((c : Int) - p + (j : Int)) % 4096).toNat) (b := v) (by omega) (by omega)
    refine br_c (fun z => h1 ⟨j, by omega, q.mp z⟩) (fun z => nm_r (nI_1 j) (ih (j + 1) (by omega) (fun i hi => ?_)))
    by_cases e : i = j
    · subst e
      exact fun y => z (q.mpr y)
    · exact hn i (by omega)
theorem hs_yinside {post : Int32 → Prop} {ld f c k v : Nat} (hl : ld ≤ 63) (hf : f < 3) (hk : k ≤ 12) (hv : v < 4096)
    (h1 : hs_ex ld f ((v : Int) - c) ≤ 2 ^ k → post 1) (h0 : ¬ hs_ex ld f ((v : Int) - c) ≤ 2 ^ k → post 0) : wpY_inside post (ywl, yst, ycf, nI ld, yS, yR, ym, ypk, ymg, ybs, yfs, yw, yf, yb, yba, ytk, ymd) (nI f) (nI c) (nI k) (nI v) := by
  have q := hs_fit (ld := ld) (f := f) (c := c) hl hk hv
  unfold wpY_inside
  dsimp only
  refine hs_ybelow hl hf hk ⟨2 ^ k + 1, ?_⟩
  exact hs_yin11 hk hv (fun z => h1 (q.mp z)) (fun z => h0 (fun y => z (q.mpr y))) (2 ^ k) 0 (by omega) (fun i hi => absurd hi (by omega))
theorem hs_yrd11 {post : Int32 → Prop} {ld f c k b : Nat} (hk : k ≤ 12) (hb : b < 2 ^ k) (h : post (nI (hs_rd ld f c k b))) :
    ∀ d j : Nat, j + d = (((b : Int) - ((c : Int) - (hs_bl ld f k : Nat))) % ((2 ^ k : Nat) : Int)).toNat → wY_read_11 post (nI c) (nI k) (nI b) (nI (hs_bl ld f k)) ywl yst ycf yld yS yR ym ypk ymg ybs yfs yw yf yb yba ytk ymd (d + 1) (nI j) := by
  have hp := hs_pw hk
  have hlt : (((b : Int) - ((c : Int) - (hs_bl ld f k : Nat))) % ((2 ^ k : Nat) : Int)).toNat < 2 ^ k := by
    have a := Int.emod_lt_of_pos ((b : Int) - ((c : Int) - (hs_bl ld f k : Nat))) (show (0 : Int) < ((2 ^ k : Nat) : Int) by omega)
    have a0 := Int.emod_nonneg ((b : Int) - ((c : Int) - (hs_bl ld f k : Nat))) (show ((2 ^ k : Nat) : Int) ≠ 0 by omega)
    omega
  have h00 := Int.emod_nonneg ((b : Int) - ((c : Int) - (hs_bl ld f k : Nat))) (show ((2 ^ k : Nat) : Int) ≠ 0 by omega)
  have key := fun (j : Nat) (hj : j < 2 ^ k) => hs_rdj ((c : Int) - (hs_bl ld f k : Nat)) hp hb hj
  unfold hs_rd at h
  generalize (((b : Int) - ((c : Int) - (hs_bl ld f k : Nat))) % ((2 ^ k : Nat) : Int)) = J at *
  intro d
  induction d with
  | zero =>
    intro j hj
    rw [wY_read_11]
    dsimp only
    rw [hs_span hk, hs_sh1 k (by omega), hs_yv]
    refine br_f (nI_ge (b := 4096) (by omega) (by decide)) (br_f (nI_ge (by omega) (by omega)) (nm_e ?_))
    rw [hs_maskN hk]
    have e := (key j (by omega)).mpr (by omega)
    rw [e]
    refine br_t rfl ?_
    have ej : (j : Int) = J := by omega
    rw [ej]
    exact h
  | succ d ih =>
    intro j hj
    rw [wY_read_11]
    dsimp only
    rw [hs_span hk, hs_sh1 k (by omega), hs_yv]
    refine br_f (nI_ge (b := 4096) (by omega) (by decide)) (br_f (nI_ge (by omega) (by omega)) (nm_e ?_))
    rw [hs_maskN hk]
    have hx := hs_m2 (c := (((c : Int) - (hs_bl ld f k : Nat) + (j : Int)) % 4096).toNat) hk
    have n : ¬ (((c : Int) - (hs_bl ld f k : Nat) + (j : Int)) % 4096).toNat % 2 ^ k = b := fun z => by
      have := (key j (by omega)).mp z
      omega
    exact br_f (fun z => n ((nI_eq (by omega) (by omega)).mp z)) (nm_r (nI_1 j) (ih (j + 1) (by omega)))
theorem hs_yread {post : Int32 → Prop} {ld f c k b : Nat} (hl : ld ≤ 63) (hf : f < 3) (hk : k ≤ 12) (hb : b < 2 ^ k) (h : post (nI (hs_rd ld f c k b))) : wpY_read post (ywl, yst, ycf, nI ld, yS, yR, ym, ypk, ymg, ybs, yfs, yw, yf, yb, yba, ytk, ymd) (nI f) (nI c) (nI k) (nI b) := by
  unfold wpY_read
  dsimp only
  exact hs_ybelow hl hf hk ⟨_, hs_yrd11 hk hb h _ 0 (Nat.zero_add _)⟩
/-! ===== Y: check ===== -/
theorem hs_lsm {k : Nat} (hk : k < 64) : ((lN k).toBitVec.smod 64).toNat = k := by
  rw [wb_tb, wb_sm k hk, BitVec.toNat_ofNat, Nat.mod_eq_of_lt (by omega)]
theorem hs_lbit {h k : Nat} (hh : h < 2 ^ 36) (hk : k < 64) : ((lN h >>> ((nI k).toInt64 &&& 63)) &&& 1) = 1 ↔ h.testBit k = true := by
  have hd : h / 2 ^ k ≤ h := Nat.div_le_self _ _
  rw [wb_c k hk, pf_shr (hs_lsm hk) (by omega), wb_a1 (by omega), Nat.testBit_eq_decide_div_mod_eq, decide_eq_true_iff]
  exact lN_eq (b := 1) (by omega) (by decide)
theorem hs_yc56 {post : Int32 → Prop} {g d : Nat} (hd : d ≤ 36) (hg : ∀ n, n + d < 36 → g * 2 ^ n < 2 ^ 36) :
    ∀ (n h : Nat) (x : Int32), x = hs_z ((n : Int) + d - 1) → h < 2 ^ 36 → n + d ≤ 36 → post (nI (hs_dv g d n h)) → wY_check_56 post (nI d) (lN g) ywl yst ycf yld yS yR ym ypk ymg ybs yfs yw yf yb yba ytk ymd (n + 1) (lN h) x := by
  intro n
  induction n with
  | zero =>
    intro h x ex hh hn hp
    subst ex
    rw [wY_check_56]
    refine br_t ?_ ?_
    · rw [Int32.lt_iff_toInt_lt, hs_zt (by omega) (by omega), nI_toInt (by omega)]
      omega
    · rw [lN_i]
      exact hp
  | succ n ih =>
    intro h x ex hh hn hp
    have e : x = nI (d + n) := by
      rw [ex, hs_zn]
      exact congrArg hs_z (by omega)
    subst e
    have e1 : nI (d + n) + (-1) = hs_z ((n : Int) + d - 1) := by
      rw [hs_zn, show (-1 : Int32) = hs_z (-1) from by decide, hs_zadd]
      exact congrArg hs_z (by omega)
    have hb := hs_dv_b (g := g) (d := d) (n := n) (r := h) (N := 36) (hg n (by omega)) hh
    rw [hs_dv_s] at hp
    rw [wY_check_56]
    refine br_f (nI_nlt (by omega) (by omega)) ?_
    have bit := hs_lbit (h := h) (k := d + n) hh (by omega)
    by_cases c : h.testBit (d + n) = true
    · rw [if_pos c] at hp hb
      have es : lN h ^^^ (lN g <<< ((nI (d + n) - nI d).toInt64 &&& 63)) = lN (h ^^^ (g * 2 ^ n)) := by
        rw [pk_sub (by omega), Nat.add_sub_cancel_left, wb_shl g (k := n) (by omega), lN_xor]
      exact br_t (bit.mpr c) (nm_r es (nm_r e1 (ih _ _ rfl hb (by omega) hp)))
    · rw [if_neg c] at hp
      exact br_f (fun z => c (bit.mp z)) (nm_r e1 (ih _ _ rfl hh (by omega) hp))
theorem hs_ck_1 (H : Nat) : hs_ck 1 H = hs_dv 207 7 29 H := by
  unfold hs_ck
  rw [if_neg (by decide), if_pos (by decide)]
theorem hs_ck_2 (H : Nat) : hs_ck 2 H = hs_dv 11 3 33 H := by
  unfold hs_ck
  rw [if_neg (by decide), if_neg (by decide)]
theorem hs_ycheck {post : Int32 → Prop} {K s t d : Nat} (hK : K ≤ 2) (hs : s < 4096) (ht : t < 4096) (hd : d < 4096) (h : post (nI (hs_ck K (hs_hd s t d)))) : wpY_check post (ywl, yst, ycf, yld, yS, yR, ym, ypk, ymg, ybs, yfs, yw, yf, yb, yba, ytk, ymd) (nI K) (nI s) (nI t) (nI d) := by
  have hH := hs_hd_lt hs ht hd
  have e : (((nI s).toInt64 <<< ((24 : Int32).toInt64 &&& 63)) + ((nI t).toInt64 <<< ((12 : Int32).toInt64 &&& 63))) + (nI d).toInt64 = lN (hs_hd s t d) := by
    have a1 : lN s <<< ((24 : Int32).toInt64 &&& 63) = lN (s * 2 ^ 24) := wb_shl s (k := 24) (by decide)
    have a2 : lN t <<< ((12 : Int32).toInt64 &&& 63) = lN (t * 2 ^ 12) := wb_shl t (k := 12) (by decide)
    rw [nI_l (by omega), nI_l (by omega), nI_l (by omega), a1, a2, lN_add, lN_add]
    rfl
  have c : K = 0 ∨ K = 1 ∨ K = 2 := by omega
  unfold wpY_check
  dsimp only
  rcases c with rfl | rfl | rfl
  · exact br_t rfl h
  · refine br_f (by decide) (br_t rfl ?_)
    unfold wY_check_17 wY_check_33
    refine br_t rfl (nm_r e ⟨30, ?_⟩)
    rw [hs_ck_1] at h
    exact hs_yc56 (g := 207) (d := 7) (by decide) (fun n hn => (by decide +kernel : ∀ n, n < 29 → 207 * 2 ^ n < 2 ^ 36) n (by omega)) 29 _ 35 (by decide) hH (by decide) h
  · refine br_f (by decide) (br_f (by decide) ?_)
    unfold wY_check_17 wY_check_33
    refine br_f (by decide) (nm_r e ⟨34, ?_⟩)
    rw [hs_ck_2] at h
    exact hs_yc56 (g := 11) (d := 3) (by decide) (fun n hn => (by decide +kernel : ∀ n, n < 33 → 11 * 2 ^ n < 2 ^ 36) n (by omega)) 33 _ 35 (by decide) hH (by decide) h
/-! ===== Y: need ===== -/
theorem hs_y3 {j : Nat} : (3 : Int32) * nI j = nI (3 * j) ∧ (3 : Int32) * nI j + 1 = nI (3 * j + 1) ∧ (3 : Int32) * nI j + 2 = nI (3 * j + 2) := by
  have a : (3 : Int32) * nI j = nI (3 * j) := pk_mul 3 j
  rw [a]
  exact ⟨rfl, nI_add _ 1, nI_add _ 2⟩
theorem hs_yn33z {post : Int32 → Prop} {J : Int32 → Prop} {k n : Nat} {x1 x3 x6 : Int32} (h : J (nI (k + 1))) : wY_need_33 post J x1 x3 (nI k) ywl yst ycf yld yS yR ym ypk ymg ybs yfs yw yf yb yba ytk ymd (n + 1) 0 x6 := by
  rw [wY_need_33]
  unfold wY_need_103
  exact br_c (fun _ => br_t rfl (nm_r (nI_1 k) h)) (fun _ => br_t rfl (br_t rfl (nm_r (nI_1 k) h)))
theorem hs_yn33 {post : Int32 → Prop} {J : Int32 → Prop} {st ld f v k m : Nat} {w : Nat → Nat} (hl : ld ≤ 63) (hf : f < 3) (hk : k ≤ 12) (hv : v < 4096) (hm : m ≤ 16)
    (hp : (∀ i, i < m → hs_ex ld f ((v : Int) - (hs_cw st w f i : Nat)) ≤ 2 ^ k) → post (nI k)) (hJ : ¬ (∀ i, i < m → hs_ex ld f ((v : Int) - (hs_cw st w f i : Nat)) ≤ 2 ^ k) → J (nI (k + 1))) :
    ∀ d j, j + d = m → (∀ i, i < j → hs_ex ld f ((v : Int) - (hs_cw st w f i : Nat)) ≤ 2 ^ k) →
    wY_need_33 post J (nI f) (nI v) (nI k) ywl (nI st) ycf (nI ld) yS yR (nI m) ypk ymg ybs yfs (fun j => nI (w j)) yf yb yba ytk ymd (d + 1) 1 (nI j) := by
  intro d
  induction d with
  | zero =>
    intro j hj hn
    rw [wY_need_33]
    unfold wY_need_103
    exact br_t (nI_le (by omega) (by omega)) (br_f (by decide) (hp (fun i hi => hn i (by omega))))
  | succ d ih =>
    intro j hj hn
    rw [wY_need_33]
    dsimp only
    rw [hs_y3.2.1, hs_y3.2.2, hs_y3.1, nI_clamp (by omega), nI_clamp (by omega), nI_clamp (by omega)]
    refine br_f (nI_ge (by omega) (by omega)) (br_f (by decide) ⟨vp_in_nI (by omega) (by decide), vp_in_nI (by omega) (by decide), vp_in_nI (by omega) (by decide), ?_⟩)
    refine hs_ycoded hf (hs_yinside hl hf hk hv (fun c => nm_r (nI_1 j) (ih (j + 1) (by omega) (fun i hi => ?_))) (fun c => nm_r (nI_1 j) (hs_yn33z (hJ (fun z => c (z j (by omega)))))))
    by_cases e : i = j
    · subst e
      exact c
    · exact hn i (by omega)
theorem hs_yn20 {post : Int32 → Prop} {st ld f v m r : Nat} {w : Nat → Nat} (hl : ld ≤ 63) (hf : f < 3) (hv : v < 4096) (hm : m ≤ 16)
    (hr : hs_least (fun k => ∀ i, i < m → hs_ex ld f ((v : Int) - (hs_cw st w f i : Nat)) ≤ 2 ^ k) r) (h : post (nI r)) :
    ∀ d k, k + d = r → wY_need_20 post (nI f) (nI v) ywl (nI st) ycf (nI ld) yS yR (nI m) ypk ymg ybs yfs (fun j => nI (w j)) yf yb yba ytk ymd (d + 1) (nI k) := by
  obtain ⟨r1, r2, r3⟩ := hr
  intro d
  induction d with
  | zero =>
    intro k hk
    rw [wY_need_20]
    have e : k = r := by omega
    subst e
    by_cases c : k = 12
    · subst c
      exact br_t (nI_le (a := 12) (b := 12) (by decide) (by decide)) h
    · refine br_f (nI_ge (b := 12) (by omega) (by decide)) ⟨m + 1, ?_⟩
      exact hs_yn33 hl hf r1 hv hm (fun _ => h) (fun n => absurd (r3 (by omega)) n) m 0 (by omega) (fun i hi => absurd hi (by omega))
  | succ d ih =>
    intro k hk
    rw [wY_need_20]
    refine br_f (nI_ge (b := 12) (by omega) (by decide)) ⟨m + 1, ?_⟩
    exact hs_yn33 hl hf (by omega) hv hm (fun p => absurd p (r2 k (by omega))) (fun _ => ih (k + 1) (by omega)) m 0 (by omega) (fun i hi => absurd hi (by omega))
theorem hs_yneed {post : Int32 → Prop} {st ld f v m r : Nat} {w : Nat → Nat} {x : Int32} (hl : ld ≤ 63) (hf : f < 3) (ex : x &&& 4095 = nI v) (hv : v < 4096) (hm : m ≤ 16)
    (hr : hs_least (fun k => ∀ i, i < m → hs_ex ld f ((v : Int) - (hs_cw st w f i : Nat)) ≤ 2 ^ k) r) (h : post (nI r)) :
    wpY_need post (ywl, nI st, ycf, nI ld, yS, yR, nI m, ypk, ymg, ybs, yfs, fun j => nI (w j), yf, yb, yba, ytk, ymd) (nI f) x := by
  unfold wpY_need
  dsimp only
  exact br_f (nI_pos (by omega)) (br_t (nI_le (b := 2) (by omega) (by decide)) (nm_r ex ⟨r + 1, hs_yn20 hl hf hv hm hr h r 0 (by omega)⟩))
end
end
section
section
variable {xwl xst xcf xld xS xR xh xm xsk xfl xwt xbs xfs : Int32} {xnw xol : Int64} {xhr xfx : Nat → Int64} {xcr xms xt1 xt2 : Nat → Int32}
variable {ywl yst ycf yld yS yR ym ypk ymg ybs yfs : Int32} {yw yf yb yba ytk ymd : Nat → Int32}

/-! ===== Y: dropOldest ===== -/
theorem hs_yd4 {post : SY → Prop} {m n : Nat} {aw : Nat → Int32} (hm : m ≤ 16) (hn : n ≤ m) (h : post (ywl, yst, ycf, yld, yS, yR, nI (m - n), ypk, ymg, ybs, yfs, hs_sh aw 0 (3 * m - 3 * n) (3 * n), yf, yb, yba, ytk, ymd)) :
    ∀ d p, p + 3 * n + d = 3 * m → wY_dropOldest_4 post (nI n) ywl yst ycf yld yS yR (nI m) ypk ymg ybs yfs (d + 1) (nI (p + 3 * n)) (hs_sh aw 0 p (3 * n)) yf yb yba ytk ymd := by
  have e1 : (3 : Int32) * nI n = nI (3 * n) := pk_mul 3 n
  have e2 : (3 : Int32) * nI m = nI (3 * m) := pk_mul 3 m
  intro d
  induction d with
  | zero =>
    intro p hp
    rw [wY_dropOldest_4]
    dsimp only
    rw [e2]
    have e : 3 * m - 3 * n = p := by omega
    rw [e] at h
    exact br_t (nI_le (by omega) (by omega)) (nm_r (pk_sub hn) h)
  | succ d ih =>
    intro p hp
    rw [wY_dropOldest_4]
    dsimp only
    rw [e2, e1, pk_sub (a := p + 3 * n) (b := 3 * n) (by omega), Nat.add_sub_cancel, nI_clamp (by omega), nI_clamp (by omega), hs_sh_u aw (Nat.zero_le p), nI_1]
    refine br_f (nI_ge (by omega) (by omega)) ⟨vp_in_nI (by omega) (by decide), vp_in_nI (by omega) (by decide), nm_e (nm_e ?_)⟩
    have k := ih (p + 1) (by omega)
    rw [show p + 1 + 3 * n = p + 3 * n + 1 by omega] at k
    exact k
theorem hs_ydrop {post : SY → Prop} {m n : Nat} {w : Nat → Nat} {x : Int32} (ex : x = nI n) (hm : m ≤ 16) (hn : n ≤ m) (h : post (ywl, yst, ycf, yld, yS, yR, nI (m - n), ypk, ymg, ybs, yfs, fun j => nI (hs_sh w 0 (3 * m - 3 * n) (3 * n) j), yf, yb, yba, ytk, ymd)) :
    wpY_dropOldest post (ywl, yst, ycf, yld, yS, yR, nI m, ypk, ymg, ybs, yfs, fun j => nI (w j), yf, yb, yba, ytk, ymd) x := by
  subst ex
  rw [← hs_sh_N] at h
  have e1 : (3 : Int32) * nI n = nI (3 * n) := pk_mul 3 n
  unfold wpY_dropOldest
  dsimp only
  refine nm_r e1 ⟨3 * m - 3 * n + 1, ?_⟩
  have k := hs_yd4 hm hn h (3 * m - 3 * n) 0 (by omega)
  rw [hs_sh_0, Nat.zero_add] at k
  exact k
/-! ===== Y: send ===== -/
theorem hs_ys307 {post : Int32 → SY → Prop} {K : Nat} (h : post (nI K) (ywl, yst, ycf, yld, nI (if yR + 1 = ycf then K + 1 else K), if yR + 1 = ycf then 0 else yR + 1, ym, ypk, ymg, ybs, yfs, yw, yf, yb, yba, ytk, ymd)) : wY_send_307 post (nI K) ywl yst ycf yld (nI K) yR ym ypk ymg ybs yfs yw yf yb yba ytk ymd := by
  unfold wY_send_307
  refine nm_e ?_
  by_cases c : yR + 1 = ycf
  · rw [if_pos c, if_pos c] at h
    refine br_t c ?_
    unfold wpY_become
    dsimp only
    rw [nI_1]
    exact h
  · rw [if_neg c, if_neg c] at h
    exact br_f c h
theorem hs_ysx {post : Int32 → SY → Prop} {K : Nat} {z : Int32} (hK : K ≤ 2) (h : post (nI K) (ywl, yst, ycf, yld, nI (hs_s2 K z yR ycf), hs_r2 K z yR ycf, ym, ypk, ymg, ybs, yfs, yw, yf, yb, yba, ytk, ymd)) :
    (nI K = 0 → wY_send_307 post (nI K) ywl yst ycf yld (nI K) yR ym ypk ymg ybs yfs yw yf yb yba ytk ymd) ∧ (¬ nI K = 0 → (nI K = 1 → (z = 0 → wY_send_339 post (nI K) ywl yst ycf yld (nI K) yR ym ypk ymg ybs yfs yw yf yb yba ytk ymd) ∧ (¬ z = 0 → wY_send_307 post (nI K) ywl yst ycf yld (nI K) yR ym ypk ymg ybs yfs yw yf yb yba ytk ymd)) ∧ (¬ nI K = 1 → wY_send_339 post (nI K) ywl yst ycf yld (nI K) yR ym ypk ymg ybs yfs yw yf yb yba ytk ymd)) := by
  unfold hs_s2 hs_r2 at h
  have c : K = 0 ∨ K = 1 ∨ K = 2 := by omega
  rcases c with rfl | rfl | rfl
  · have n2 : ¬ (0 : Nat) = 2 := by decide
    have n : ¬ ((0 : Nat) = 1 ∧ z = 0) := fun q => absurd q.1 (by decide)
    rw [if_neg n2, if_neg n2, if_neg n, if_neg n] at h
    exact br_t rfl (hs_ys307 h)
  · have n2 : ¬ (1 : Nat) = 2 := by decide
    rw [if_neg n2, if_neg n2] at h
    refine br_f (by decide) (br_t rfl ?_)
    by_cases cz : z = 0
    · rw [if_pos ⟨rfl, cz⟩, if_pos ⟨rfl, cz⟩] at h
      unfold wY_send_339
      exact br_t cz (br_t rfl h)
    · have n : ¬ ((1 : Nat) = 1 ∧ z = 0) := fun q => cz q.2
      rw [if_neg n, if_neg n] at h
      exact br_f cz (hs_ys307 h)
  · rw [if_pos (rfl : (2 : Nat) = 2), if_pos (rfl : (2 : Nat) = 2)] at h
    unfold wY_send_339
    exact br_f (by decide) (br_f (by decide) (br_f (by decide) h))
theorem hs_ys238 {post : Int32 → SY → Prop} {K m s t d : Nat} {z : Int32} {w : Nat → Nat} (hK : K ≤ 2) (hm : m ≤ 15) (h : post (nI K) (ywl, yst, ycf, yld, nI (hs_s2 K z yR ycf), hs_r2 K z yR ycf, nI (m + 1), ypk, ymg, ybs, yfs, fun j => nI (hs_w3 w m s t d j), yf, yb, yba, ytk, ymd)) :
    wY_send_238 post (nI s) (nI t) (nI d) z (nI K) ywl yst ycf yld (nI K) yR (nI m) ypk ymg ybs yfs (fun j => nI (w j)) yf yb yba ytk ymd := by
  unfold wY_send_238
  rw [hs_y3.2.1, hs_y3.2.2, hs_y3.1, nI_clamp (by omega), nI_clamp (by omega), nI_clamp (by omega), nI_1 m]
  refine ⟨vp_in_nI (by omega) (by decide), nm_r (hs_uN _ _ _) ⟨vp_in_nI (by omega) (by decide), nm_r (hs_uN _ _ _) ⟨vp_in_nI (by omega) (by decide), nm_r (hs_uN _ _ _) (nm_e ?_)⟩⟩⟩
  exact hs_ysx hK h
def hs_f3 (F : Nat → Nat) (a : Nat) (wd c : Nat → Nat) : Nat → Nat :=
  hs_u (hs_u (hs_u (hs_u (hs_u (hs_u F (a + 1 + 0) (wd 0)) (a + 4 + 0) (c 0 % 2 ^ wd 0)) (a + 1 + 1) (wd 1)) (a + 4 + 1) (c 1 % 2 ^ wd 1)) (a + 1 + 2) (wd 2)) (a + 4 + 2) (c 2 % 2 ^ wd 2)
def hs_fn (F : Nat → Nat) (a K ck : Nat) (wd c : Nat → Nat) : Nat → Nat := hs_u (hs_u (hs_f3 F a wd c) a K) (a + 7) ck
theorem hs_fn_lo {F : Nat → Nat} {a K ck : Nat} {wd c : Nat → Nat} {j : Nat} (h : j < a) : hs_fn F a K ck wd c j = F j := by
  unfold hs_fn hs_f3
  rw [hs_un (by omega), hs_un (by omega), hs_un (by omega), hs_un (by omega), hs_un (by omega), hs_un (by omega), hs_un (by omega), hs_un (by omega)]
theorem hs_fn_g {F : Nat → Nat} {a K ck : Nat} {wd c : Nat → Nat} {q : Nat} (h : q < 8) : hs_fn F a K ck wd c (a + q) = hs_bg K ck wd c q := by
  unfold hs_fn hs_f3
  have e : q = 0 ∨ q = 1 ∨ q = 2 ∨ q = 3 ∨ q = 4 ∨ q = 5 ∨ q = 6 ∨ q = 7 := by omega
  rcases e with rfl | rfl | rfl | rfl | rfl | rfl | rfl | rfl
  · rw [hs_un (by omega)]
    exact hs_us
  · rw [hs_un (by omega), hs_un (by omega), hs_un (by omega), hs_un (by omega), hs_un (by omega), hs_un (by omega), hs_un (by omega)]
    exact hs_us
  · rw [hs_un (by omega), hs_un (by omega), hs_un (by omega), hs_un (by omega), hs_un (by omega)]
    exact hs_us
  · rw [hs_un (by omega), hs_un (by omega), hs_un (by omega)]
    exact hs_us
  · rw [hs_un (by omega), hs_un (by omega), hs_un (by omega), hs_un (by omega), hs_un (by omega), hs_un (by omega)]
    exact hs_us
  · rw [hs_un (by omega), hs_un (by omega), hs_un (by omega), hs_un (by omega)]
    exact hs_us
  · rw [hs_un (by omega), hs_un (by omega)]
    exact hs_us
  · exact hs_us
theorem hs_f3_w {F : Nat → Nat} {a : Nat} {wd c : Nat → Nat} : hs_f3 F a wd c (a + 2) = wd 1 ∧ hs_f3 F a wd c (a + 3) = wd 2 := by
  unfold hs_f3
  constructor
  · rw [hs_un (by omega), hs_un (by omega), hs_un (by omega)]
    exact hs_us
  · rw [hs_un (by omega)]
    exact hs_us
theorem hs_ys85 {post : Int32 → SY → Prop} {J : Int32 → (Nat → Int32) → (Nat → Int32) → (Nat → Int32) → (Nat → Int32) → (Nat → Int32) → (Nat → Int32) → Prop} {x4 x5 x6 : Int32} {fl f c w : Nat} {F : Nat → Nat} (hw : w ≤ 12) (hfl : fl < 16) (hf : f < 3)
    (h : J (nI (f + 1)) yw (fun j => nI (hs_u (hs_u F (8 * fl + 1 + f) w) (8 * fl + 4 + f) (c % 2 ^ w) j)) yb yba ytk ymd) :
    wY_send_85 post J x4 x5 x6 (nI (8 * fl)) (nI f) (nI c) (nI w) ywl yst ycf yld yS yR ym ypk ymg ybs yfs yw (fun j => nI (F j)) yb yba ytk ymd := by
  have e1 : (nI (8 * fl) + 1) + nI f = nI (8 * fl + 1 + f) := by rw [nI_1, nI_add]
  have e4 : (nI (8 * fl) + 4) + nI f = nI (8 * fl + 4 + f) := by rw [show nI (8 * fl) + 4 = nI (8 * fl + 4) from nI_add _ 4, nI_add]
  unfold wY_send_85
  rw [e1, e4, nI_clamp (by omega), nI_clamp (by omega), hs_mask hw, nI_1 f]
  exact ⟨vp_in_nI (by omega) (by decide), nm_r (hs_uN _ _ _) ⟨vp_in_nI (by omega) (by decide), nm_r (hs_uN _ _ _) (nm_e h)⟩⟩
theorem hs_ys44 {post : Int32 → SY → Prop} {n st ld S m fl s t d f : Nat} {w wd F : Nat → Nat} (hs : s < 4096) (hl : ld ≤ 63) (hw : ∀ f, f < 3 → wd f ≤ 12) (hS : S ≤ 2) (hm : m ≤ 16) (hfl : fl < 16)
    (h0 : S = 0 → ∀ f, f < 3 → wd f = 12)
    (hN : S ≠ 0 → ∀ f, f < 3 → hs_least (fun k => ∀ i, i < m → hs_ex ld f ((hs_cd st f s t d : Nat) - (hs_cw st w f i : Nat) : Int) ≤ 2 ^ k) (wd f)) (hf : f < 3)
    (h : wY_send_44 post (nI s) (nI t) (nI d) (nI (8 * fl)) ywl (nI st) ycf (nI ld) (nI S) yR (nI m) ypk ymg ybs yfs n (nI (f + 1)) (fun j => nI (w j)) (fun j => nI (hs_u (hs_u F (8 * fl + 1 + f) (wd f)) (8 * fl + 4 + f) (hs_cd st f s t d % 2 ^ wd f) j)) yb yba ytk ymd) :
    wY_send_44 post (nI s) (nI t) (nI d) (nI (8 * fl)) ywl (nI st) ycf (nI ld) (nI S) yR (nI m) ypk ymg ybs yfs (n + 1) (nI f) (fun j => nI (w j)) (fun j => nI (F j)) yb yba ytk ymd := by
  rw [wY_send_44]
  refine br_f (nI_ge (b := 3) hf (by decide)) ?_
  refine hs_ycoded hf ?_
  have hc : hs_cd st f s t d < 4096 := hs_cd_lt hs
  by_cases c : S = 0
  · refine br_t (by rw [c]; rfl) ?_
    have e : wd f = 12 := h0 c f hf
    rw [e] at h
    exact hs_ys85 (w := 12) (by decide) hfl hf h
  · refine br_f (nI_ne0 (by omega) (by omega)) ?_
    refine hs_yneed hl hf (by rw [hs_mN, Nat.mod_eq_of_lt hc]) hc hm (hN c f hf) ?_
    exact hs_ys85 (hw f hf) hfl hf h
theorem hs_ys155 {post : Int32 → SY → Prop} {x4 x5 x6 x7 : Int32} {S : Nat} {z : Int32} (hS : S ≤ 2) (h : wY_send_175 post x4 x5 x6 x7 z ywl yst ycf yld (nI (hs_kd S z)) (hs_r1 S z yR) ym ypk ymg ybs yfs yw yf yb yba ytk ymd) :
    wY_send_155 post x4 x5 x6 x7 z ywl yst ycf yld (nI S) yR ym ypk ymg ybs yfs yw yf yb yba ytk ymd := by
  unfold hs_kd hs_r1 at h
  unfold wY_send_155
  by_cases c2 : S = 2
  · subst c2
    refine br_t rfl ?_
    by_cases cz : z = 0
    · rw [if_pos ⟨rfl, cz⟩, if_pos ⟨rfl, cz⟩] at h
      refine br_t cz ?_
      unfold wpY_become
      dsimp only
      exact h
    · have n : ¬ ((2 : Nat) = 2 ∧ z = 0) := fun q => cz q.2
      rw [if_neg n, if_neg n] at h
      exact br_f cz h
  · have n : ¬ (S = 2 ∧ z = 0) := fun q => c2 q.1
    rw [if_neg n, if_neg n] at h
    exact br_f (hs_ne (b := 2) (by omega) (by decide) c2) h
theorem hs_ys175 {post : Int32 → SY → Prop} {wl K m fl s t d : Nat} {z : Int32} {w F : Nat → Nat} (hs : s < 4096) (ht : t < 4096) (hd : d < 4096) (hwl : 1 ≤ wl ∧ wl ≤ 16) (hK : K ≤ 2) (hm : m ≤ wl) (hfl : fl < 16)
    (h : post (nI K) (nI wl, yst, ycf, yld, nI (hs_s2 K z yR ycf), hs_r2 K z yR ycf, nI (hs_m1 wl m + 1), nI (fl + 1), ymg, ybs, yfs, fun j => nI (hs_w3 (hs_wd wl m w) (hs_m1 wl m) s t d j), fun j => nI (hs_u (hs_u F (8 * fl) K) (8 * fl + 7) (hs_ck K (hs_hd s t d)) j), yb, yba, ytk, ymd)) :
    wY_send_175 post (nI s) (nI t) (nI d) (nI (8 * fl)) z (nI wl) yst ycf yld (nI K) yR (nI m) (nI fl) ymg ybs yfs (fun j => nI (w j)) (fun j => nI (F j)) yb yba ytk ymd := by
  have e7 : nI (8 * fl) + 7 = nI (8 * fl + 7) := nI_add _ 7
  unfold wY_send_175
  rw [e7, nI_clamp (by omega), nI_clamp (by omega), nI_1 fl]
  refine ⟨vp_in_nI (by omega) (by decide), nm_r (hs_uN _ _ _) (hs_ycheck hK hs ht hd ⟨vp_in_nI (by omega) (by decide), nm_r (hs_uN _ _ _) (nm_e ?_)⟩)⟩
  by_cases c : m = wl
  · have em : hs_m1 wl m = m - 1 := if_pos c
    have ew : hs_wd wl m w = hs_sh w 0 (3 * m - 3 * 1) (3 * 1) := if_pos c
    rw [em, ew] at h
    refine br_t (congrArg nI c) (hs_ydrop (n := 1) rfl (by omega) (by omega) ?_)
    dsimp only
    exact hs_ys238 hK (by omega) h
  · have em : hs_m1 wl m = m := if_neg c
    have ew : hs_wd wl m w = w := if_neg c
    rw [em, ew] at h
    exact br_f (fun q => c ((nI_eq (by omega) (by omega)).mp q)) (hs_ys238 hK (by omega) h)
theorem hs_ysend {post : Int32 → SY → Prop} {wl st ld S m fl s t d : Nat} {w wd F : Nat → Nat} {p0 p1 p2 : Int32} (q0 : p0 &&& 4095 = nI s) (q1 : p1 &&& 4095 = nI t) (q2 : p2 &&& 4095 = nI d)
    (hs : s < 4096) (ht : t < 4096) (hd : d < 4096) (hwl : 1 ≤ wl ∧ wl ≤ 16) (hm : m ≤ wl) (hl : ld ≤ 63) (hS : S ≤ 2) (hfl : fl < 16)
    (hw : ∀ f, f < 3 → wd f ≤ 12) (h0 : S = 0 → ∀ f, f < 3 → wd f = 12)
    (hN : S ≠ 0 → ∀ f, f < 3 → hs_least (fun k => ∀ i, i < m → hs_ex ld f ((hs_cd st f s t d : Nat) - (hs_cw st w f i : Nat) : Int) ≤ 2 ^ k) (wd f))
    (h : post (nI (hs_kd S (hs_zf (wd 1) (wd 2)))) (nI wl, nI st, ycf, nI ld, nI (hs_s2 (hs_kd S (hs_zf (wd 1) (wd 2))) (hs_zf (wd 1) (wd 2)) (hs_r1 S (hs_zf (wd 1) (wd 2)) yR) ycf), hs_r2 (hs_kd S (hs_zf (wd 1) (wd 2))) (hs_zf (wd 1) (wd 2)) (hs_r1 S (hs_zf (wd 1) (wd 2)) yR) ycf, nI (hs_m1 wl m + 1), nI (fl + 1), ymg, ybs, yfs, fun j => nI (hs_w3 (hs_wd wl m w) (hs_m1 wl m) s t d j), fun j => nI (hs_fn F (8 * fl) (hs_kd S (hs_zf (wd 1) (wd 2))) (hs_ck (hs_kd S (hs_zf (wd 1) (wd 2))) (hs_hd s t d)) wd (fun f => hs_cd st f s t d) j), yb, yba, ytk, ymd)) :
    wpY_send post (nI wl, nI st, ycf, nI ld, nI S, yR, nI m, nI fl, ymg, ybs, yfs, fun j => nI (w j), fun j => nI (F j), yb, yba, ytk, ymd) p0 p1 p2 := by
  have main : wY_send_155 post (nI s) (nI t) (nI d) (nI (8 * fl)) (hs_zf (wd 1) (wd 2)) (nI wl) (nI st) ycf (nI ld) (nI S) yR (nI m) (nI fl) ymg ybs yfs (fun j => nI (w j)) (fun j => nI (hs_f3 F (8 * fl) wd (fun f => hs_cd st f s t d) j)) yb yba ytk ymd :=
    hs_ys155 hS (hs_ys175 hs ht hd hwl (hs_kd_le hS) hm hfl h)
  unfold wpY_send
  dsimp only
  refine br_t (nI_lt (b := 16) hfl (by decide)) (nm_r q0 (nm_r q1 (nm_r q2 (nm_r (e' := nI (8 * fl)) (pk_mul 8 fl) ⟨4, ?_⟩))))
  refine hs_ys44 (f := 0) hs hl hw hS (by omega) hfl h0 hN (by decide) (hs_ys44 (f := 1) hs hl hw hS (by omega) hfl h0 hN (by decide) (hs_ys44 (f := 2) hs hl hw hS (by omega) hfl h0 hN (by decide) ?_))
  rw [wY_send_44]
  refine br_t (by decide) ?_
  have e2 : nI (8 * fl) + 2 = nI (8 * fl + 2) := nI_add _ 2
  have e3 : nI (8 * fl) + 3 = nI (8 * fl + 3) := nI_add _ 3
  have b1 := hw 1 (by decide)
  have b2 := hw 2 (by decide)
  rw [e2, e3, nI_clamp (by omega), nI_clamp (by omega)]
  refine ⟨vp_in_nI (by omega) (by decide), ?_⟩
  have g1 : nI (hs_f3 F (8 * fl) wd (fun f => hs_cd st f s t d) (8 * fl + 2)) = nI (wd 1) := by rw [hs_f3_w.1]
  have g2 : nI (hs_f3 F (8 * fl) wd (fun f => hs_cd st f s t d) (8 * fl + 3)) = nI (wd 2) := by rw [hs_f3_w.2]
  by_cases c1 : wd 1 = 0
  · rw [c1] at g1
    refine br_t g1 ⟨vp_in_nI (by omega) (by decide), ?_⟩
    by_cases c2 : wd 2 = 0
    · have e : hs_zf (wd 1) (wd 2) = 1 := if_pos ⟨c1, c2⟩
      rw [e] at main
      rw [c2] at g2
      exact br_t g2 main
    · have e : hs_zf (wd 1) (wd 2) = 0 := if_neg (fun q => c2 q.2)
      rw [e] at main
      exact br_f (fun z => nI_ne0 (show 0 < wd 2 by omega) (by omega) (g2.symm.trans z)) main
  · have e : hs_zf (wd 1) (wd 2) = 0 := if_neg (fun q => c1 q.1)
    rw [e] at main
    exact br_f (fun z => nI_ne0 (show 0 < wd 1 by omega) (by omega) (g1.symm.trans z)) main
end
end
section
section
variable {xwl xst xcf xld xS xR xh xm xsk xfl xwt xbs xfs : Int32} {xnw xol : Int64} {xhr xfx : Nat → Int64} {xcr xms xt1 xt2 : Nat → Int32}
variable {ywl yst ycf yld yS yR ym ypk ymg ybs yfs : Int32} {yw yf yb yba ytk ymd : Nat → Int32}

/-! ===== Y: the channels ===== -/
theorem hs_yl19 {post : Int32 → SY → Prop} {fl i : Nat} {af : Nat → Int32} (hfl : fl ≤ 16) (hi : i < fl) (h : post 1 (ywl, yst, ycf, yld, yS, yR, ym, nI (fl - 1), ymg, ybs, yfs, yw, hs_sh af (8 * i) (8 * fl - 8) 8, yb, yba, ytk, ymd)) :
    ∀ d p, p + d = 8 * fl - 8 → 8 * i ≤ p → wY_lose_19 post ywl yst ycf yld yS yR ym (nI fl) ymg ybs yfs (d + 1) (nI p) yw (hs_sh af (8 * i) p 8) yb yba ytk ymd := by
  have e1 : (8 : Int32) * nI fl - 8 = nI (8 * fl - 8) := by
    rw [show (8 : Int32) * nI fl = nI (8 * fl) from pk_mul 8 fl]
    exact pk_sub (b := 8) (by omega)
  intro d
  induction d with
  | zero =>
    intro p hp hq
    rw [wY_lose_19]
    dsimp only
    rw [e1]
    have e : 8 * fl - 8 = p := by omega
    rw [e] at h ⊢
    exact br_t (nI_le (Nat.le_refl _) (by omega)) (nm_r (pk_sub (b := 1) (by omega)) h)
  | succ d ih =>
    intro p hp hq
    rw [wY_lose_19]
    dsimp only
    have e8 : nI p + 8 = nI (p + 8) := nI_add _ 8
    rw [e1, e8, nI_clamp (by omega), nI_clamp (by omega), hs_sh_u af hq, nI_1]
    exact br_f (nI_ge (by omega) (by omega)) ⟨vp_in_nI (by omega) (by decide), vp_in_nI (by omega) (by decide), nm_e (nm_e (ih (p + 1) (by omega) (by omega)))⟩
theorem hs_ylose {post : Int32 → SY → Prop} {fl i : Nat} {F : Nat → Nat} (hfl : fl ≤ 16) (hi : i < fl) (h : post 1 (ywl, yst, ycf, yld, yS, yR, ym, nI (fl - 1), ymg, ybs, yfs, yw, fun j => nI (hs_sh F (8 * i) (8 * fl - 8) 8 j), yb, yba, ytk, ymd)) :
    wpY_lose post (ywl, yst, ycf, yld, yS, yR, ym, nI fl, ymg, ybs, yfs, yw, fun j => nI (F j), yb, yba, ytk, ymd) (nI i) := by
  rw [← hs_sh_N] at h
  unfold wpY_lose
  dsimp only
  refine br_f (nI_pos (by omega)) (br_t (nI_lt hi (by omega)) (nm_r (e' := nI (8 * i)) (pk_mul 8 i) ⟨8 * fl - 8 - 8 * i + 1, ?_⟩))
  have k := hs_yl19 hfl hi h (8 * fl - 8 - 8 * i) (8 * i) (by omega) (Nat.le_refl _)
  rw [hs_sh_0] at k
  exact k
theorem hs_ym18 {post : Int32 → SY → Prop} {wt i : Nat} {ab : Nat → Int32} (hwt : wt ≤ 8) (hi : i < wt) (h : post 1 (ywl, yst, ycf, yld, yS, yR, ym, ypk, nI (wt - 1), ybs, yfs, yw, yf, hs_sh ab (2 * i) (2 * wt - 2) 2, yba, ytk, ymd)) :
    ∀ d p, p + d = 2 * wt - 2 → 2 * i ≤ p → wY_miss_18 post ywl yst ycf yld yS yR ym ypk (nI wt) ybs yfs (d + 1) (nI p) yw yf (hs_sh ab (2 * i) p 2) yba ytk ymd := by
  have e1 : (2 : Int32) * nI wt - 2 = nI (2 * wt - 2) := by
    rw [show (2 : Int32) * nI wt = nI (2 * wt) from pk_mul 2 wt]
    exact pk_sub (b := 2) (by omega)
  intro d
  induction d with
  | zero =>
    intro p hp hq
    rw [wY_miss_18]
    dsimp only
    rw [e1]
    have e : 2 * wt - 2 = p := by omega
    rw [e] at h ⊢
    exact br_t (nI_le (Nat.le_refl _) (by omega)) (nm_r (pk_sub (b := 1) (by omega)) h)
  | succ d ih =>
    intro p hp hq
    rw [wY_miss_18]
    dsimp only
    have e8 : nI p + 2 = nI (p + 2) := nI_add _ 2
    rw [e1, e8, nI_clamp (by omega), nI_clamp (by omega), hs_sh_u ab hq, nI_1]
    exact br_f (nI_ge (by omega) (by omega)) ⟨vp_in_nI (by omega) (by decide), vp_in_nI (by omega) (by decide), nm_e (nm_e (ih (p + 1) (by omega) (by omega)))⟩
theorem hs_ymiss {post : Int32 → SY → Prop} {wt i : Nat} {B : Nat → Nat} (hwt : wt ≤ 8) (hi : i < wt) (h : post 1 (ywl, yst, ycf, yld, yS, yR, ym, ypk, nI (wt - 1), ybs, yfs, yw, yf, fun j => nI (hs_sh B (2 * i) (2 * wt - 2) 2 j), yba, ytk, ymd)) :
    wpY_miss post (ywl, yst, ycf, yld, yS, yR, ym, ypk, nI wt, ybs, yfs, yw, yf, fun j => nI (B j), yba, ytk, ymd) (nI i) := by
  rw [← hs_sh_N] at h
  unfold wpY_miss
  dsimp only
  refine br_f (nI_pos (by omega)) (br_t (nI_lt hi (by omega)) (nm_r (e' := nI (2 * i)) (pk_mul 2 i) ⟨2 * wt - 2 - 2 * i + 1, ?_⟩))
  have k := hs_ym18 hwt hi h (2 * wt - 2 - 2 * i) (2 * i) (by omega) (Nat.le_refl _)
  rw [hs_sh_0] at k
  exact k
theorem hs_yemit {post : SY → Prop} {wt k s : Nat} {x y : Int32} {B : Nat → Nat} (hwt : wt ≤ 8) (ex : x = nI k) (ey : y = nI s) (h : post (ywl, yst, ycf, yld, yS, yR, ym, ypk, nI (hs_ew wt), ybs, yfs, yw, yf, fun j => nI (hs_eB B wt k s j), yba, ytk, ymd)) :
    wpY_emit post (ywl, yst, ycf, yld, yS, yR, ym, ypk, nI wt, ybs, yfs, yw, yf, fun j => nI (B j), yba, ytk, ymd) x y := by
  subst ex ey
  unfold hs_ew hs_eB at h
  unfold wpY_emit
  dsimp only
  by_cases c : 8 ≤ wt
  · rw [if_pos c, if_pos c] at h
    exact br_f (nI_nlt (b := 8) c (by omega)) h
  · rw [if_neg c, if_neg c] at h
    have e1 : (2 : Int32) * nI wt = nI (2 * wt) := pk_mul 2 wt
    rw [e1, nI_1, nI_clamp (by omega), nI_clamp (by omega), nI_1]
    exact br_t (nI_lt (b := 8) (by omega) (by decide)) ⟨vp_in_nI (by omega) (by decide), nm_r (hs_uN _ _ _) ⟨vp_in_nI (by omega) (by decide), nm_r (hs_uN _ _ _) (nm_e h)⟩⟩
/-! ===== Y: the decompressor ===== -/
theorem hs_ydecode {post : SY → Prop} {st r0 r1 r2 : Nat} {md : Nat → Int32} (e0 : md 0 = nI r0) (e1 : md 1 = nI r1) (e2 : md 2 = nI r2)
    (h : ∀ md', md' 0 = nI r0 → md' 1 = nI ((r1 + st * r0) % 4096) → md' 2 = nI ((r2 + r0) % 4096) → post (ywl, nI st, ycf, yld, yS, yR, ym, ypk, ymg, ybs, yfs, yw, yf, yb, yba, ytk, md')) : wpY_decode post (ywl, nI st, ycf, yld, yS, yR, ym, ypk, ymg, ybs, yfs, yw, yf, yb, yba, ytk, md) := by
  unfold wpY_decode
  dsimp only
  refine nm_e (nm_e (h _ ?_ ?_ ?_))
  · rw [pk_un (by decide), pk_un (by decide)]
    exact e0
  · rw [pk_un (by decide), pk_us, e0, e1, pk_mul, nI_add, hs_mN]
  · rw [pk_us, pk_un (by decide), pk_un (by decide), e0, e2, nI_add, hs_mN]
theorem hs_yf12s {post : Int32 → SY → Prop} {n st ld o f : Nat} {g bb : Nat → Nat} {md : Nat → Int32} (hl : ld ≤ 63) (ok : hs_ok g) (ho : o ≤ 3) (eb : ∀ j, j < 3 → yba (o + j) = nI (bb j)) (et : ∀ q, q < 8 → ytk q = nI (g q)) (hf : f < 3)
    (h : wY_fits_12 post (nI o) ywl (nI st) ycf (nI ld) yS yR ym ypk ymg ybs yfs n (nI (f + 1)) yw yf yb yba ytk (upd md f (nI (hs_rr st ld g bb f)))) : wY_fits_12 post (nI o) ywl (nI st) ycf (nI ld) yS yR ym ypk ymg ybs yfs (n + 1) (nI f) yw yf yb yba ytk md := by
  have i1 : nI o + 1 = nI (o + 1) := nI_add _ 1
  have i2 : nI o + 2 = nI (o + 2) := nI_add _ 2
  have j1 : (1 : Int32) + nI f = nI (1 + f) := nI_add 1 f
  have j4 : (4 : Int32) + nI f = nI (4 + f) := nI_add 4 f
  have b0 := eb 0 (by decide)
  have b1 := eb 1 (by decide)
  have b2 := eb 2 (by decide)
  rw [Nat.add_zero] at b0
  rw [wY_fits_12]
  dsimp only
  rw [i1, i2, j1, j4, nI_clamp (by omega), nI_clamp (by omega), nI_clamp (by omega), nI_clamp (by omega), nI_clamp (by omega), nI_clamp (by omega), b0, b1, b2, et (1 + f) (by omega), et (4 + f) (by omega)]
  refine br_f (nI_ge (b := 3) hf (by decide)) ⟨vp_in_nI (by omega) (by decide), vp_in_nI (by omega) (by decide), vp_in_nI (by omega) (by decide), ?_⟩
  refine hs_ycoded hf ⟨vp_in_nI (by omega) (by decide), vp_in_nI (by omega) (by decide), ?_⟩
  refine hs_yread hl hf (ok.2.1 f hf).1 (ok.2.1 f hf).2 ⟨vp_in_nI hf (by decide), nm_e (nm_r (nI_1 f) ?_)⟩
  exact h
theorem hs_yf12 {post : Int32 → SY → Prop} {st ld o : Nat} {g bb : Nat → Nat} {x2 : Int32} (ex : x2 = nI o) (hl : ld ≤ 63) (ok : hs_ok g) (ho : o ≤ 3) (eb : ∀ j, j < 3 → yba (o + j) = nI (bb j)) (et : ∀ q, q < 8 → ytk q = nI (g q))
    (h1 : hs_ck (g 0) (hs_H (hs_mm st ld g bb)) = g 7 → ∀ md', (∀ q, q < 3 → md' q = nI (hs_mm st ld g bb q)) → post 1 (ywl, nI st, ycf, nI ld, yS, yR, ym, ypk, ymg, ybs, yfs, yw, yf, yb, yba, ytk, md'))
    (h0 : hs_ck (g 0) (hs_H (hs_mm st ld g bb)) ≠ g 7 → ∀ md', post 0 (ywl, nI st, ycf, nI ld, yS, yR, ym, ypk, ymg, ybs, yfs, yw, yf, yb, yba, ytk, md')) :
    ∃ n, wY_fits_12 post x2 ywl (nI st) ycf (nI ld) yS yR ym ypk ymg ybs yfs n 0 yw yf yb yba ytk ymd := by
  subst ex
  refine ⟨4, hs_yf12s (f := 0) hl ok ho eb et (by decide) (hs_yf12s (f := 1) hl ok ho eb et (by decide) (hs_yf12s (f := 2) hl ok ho eb et (by decide) ?_))⟩
  rw [wY_fits_12]
  refine br_t (by decide) (hs_ydecode (r0 := hs_rr st ld g bb 0) (r1 := hs_rr st ld g bb 1) (r2 := hs_rr st ld g bb 2) ?_ ?_ ?_ (fun md' m0 m1 m2 => ?_))
  · rw [pk_un (by decide), pk_un (by decide), pk_us]
  · rw [pk_un (by decide), pk_us]
  · rw [pk_us]
  · dsimp only
    rw [m0, m1, m2, et 0 (by decide), et 7 (by decide)]
    have hH : hs_H (hs_mm st ld g bb) < 2 ^ 36 := hs_H_lt hs_mm_lt
    have hc := hs_ck_lt (K := g 0) hH
    have h7 := ok.2.2.1
    refine hs_ycheck (s := hs_mm st ld g bb 0) (t := hs_mm st ld g bb 1) (d := hs_mm st ld g bb 2) ok.1 (hs_mm_lt 0) (hs_mm_lt 1) (hs_mm_lt 2) ?_
    show (nI (hs_ck (g 0) (hs_H (hs_mm st ld g bb))) = nI (g 7) → _) ∧ _
    by_cases c : hs_ck (g 0) (hs_H (hs_mm st ld g bb)) = g 7
    · refine br_t (congrArg nI c) (h1 c md' (fun q hq => ?_))
      rcases hs_i3 hq with rfl | rfl | rfl
      · exact m0
      · exact m1
      · exact m2
    · exact br_f (fun z => c ((nI_eq (by omega) (by omega)).mp z)) (h0 c md')
theorem hs_bb6 (a b : Nat → Nat) : hs_u (hs_u (hs_u (hs_u (hs_u (hs_u b 3 (b 0)) 0 (a 0)) 4 (b 1)) 1 (a 1)) 5 (b 2)) 2 (a 2) = hs_bb a b := by
  funext j
  unfold hs_bb
  by_cases c0 : j = 0
  · subst c0; rfl
  by_cases c1 : j = 1
  · subst c1; rfl
  by_cases c2 : j = 2
  · subst c2; rfl
  by_cases c3 : j = 3
  · subst c3; rfl
  by_cases c4 : j = 4
  · subst c4; rfl
  by_cases c5 : j = 5
  · subst c5; rfl
  rw [hs_un c2, hs_un c5, hs_un c1, hs_un c4, hs_un c0, hs_un c3, if_neg (by omega), if_neg (by omega)]
theorem hs_ysucc {post : SY → Prop} {wt bs : Nat} {a b B : Nat → Nat} (hwt : wt ≤ 8) (hbs : bs ≤ 2) (em : ∀ q, q < 3 → ymd q = nI (a q))
    (h : post (ywl, yst, ycf, yld, yS, yR, ym, ypk, nI (hs_ew wt), nI (hs_nb bs), nI 0, yw, yf, fun j => nI (hs_eB B wt 0 (a 0) j), fun j => nI (hs_bb a b j), ytk, ymd)) :
    wpY_success post (ywl, yst, ycf, yld, yS, yR, ym, ypk, nI wt, nI bs, yfs, yw, yf, fun j => nI (B j), fun j => nI (b j), ytk, ymd) := by
  have m0 := em 0 (by decide)
  have m1 := em 1 (by decide)
  have m2 := em 2 (by decide)
  unfold wpY_success
  dsimp only
  refine ⟨4, ?_⟩
  rw [wY_success_2]
  refine br_f (by decide) ⟨vp_in_iff.mpr (by decide), vp_in_iff.mpr (by decide), nm_r (e' := fun j => nI (hs_u b 3 (b 0) j)) (hs_uN b 3 (b 0)) ⟨vp_in_iff.mpr (by decide), vp_in_iff.mpr (by decide), nm_r (e' := fun j => nI (hs_u (hs_u b 3 (b 0)) 0 (a 0) j)) ?_ (nm_r (e' := nI 1) (by decide) ?_)⟩⟩
  · exact (congrArg (upd _ 0) m0).trans (hs_uN _ 0 (a 0))
  rw [wY_success_2]
  refine br_f (by decide) ⟨vp_in_iff.mpr (by decide), vp_in_iff.mpr (by decide), nm_r (e' := fun j => nI (hs_u (hs_u (hs_u b 3 (b 0)) 0 (a 0)) 4 (b 1) j)) (hs_uN _ 4 (b 1)) ⟨vp_in_iff.mpr (by decide), vp_in_iff.mpr (by decide), nm_r (e' := fun j => nI (hs_u (hs_u (hs_u (hs_u b 3 (b 0)) 0 (a 0)) 4 (b 1)) 1 (a 1) j)) ?_ (nm_r (e' := nI 2) (by decide) ?_)⟩⟩
  · exact (congrArg (upd _ 1) m1).trans (hs_uN _ 1 (a 1))
  rw [wY_success_2]
  refine br_f (by decide) ⟨vp_in_iff.mpr (by decide), vp_in_iff.mpr (by decide), nm_r (e' := fun j => nI (hs_u (hs_u (hs_u (hs_u (hs_u b 3 (b 0)) 0 (a 0)) 4 (b 1)) 1 (a 1)) 5 (b 2) j)) (hs_uN _ 5 (b 2)) ⟨vp_in_iff.mpr (by decide), vp_in_iff.mpr (by decide), nm_r (e' := fun j => nI (hs_bb a b j)) ?_ (nm_r (e' := nI 3) (by decide) ?_)⟩⟩
  · rw [← hs_bb6 a b]
    exact (congrArg (upd _ 2) m2).trans (hs_uN _ 2 (a 2))
  rw [wY_success_2]
  unfold wY_success_52
  unfold hs_nb at h
  by_cases c : bs = 0
  · rw [if_pos c] at h
    exact br_t (by decide) (br_t (by rw [c]; rfl) (hs_yemit (k := 0) hwt rfl m0 h))
  · rw [if_neg c] at h
    exact br_t (by decide) (br_f (nI_ne0 (by omega) (by omega)) (hs_yemit (k := 0) hwt rfl m0 h))
theorem hs_yd155 {post : Int32 → SY → Prop} {wt bs fs r bs' fs' k s : Nat} {b b' B : Nat → Nat} (hwt : wt ≤ 8) (hfs : fs ≤ 2) (o : hs_fl bs fs b r bs' fs' k s b')
    (h : post (nI r) (ywl, yst, ycf, yld, yS, yR, ym, ypk, nI (hs_ew wt), nI bs', nI fs', yw, yf, fun j => nI (hs_eB B wt k s j), yba, ytk, ymd)) : wY_deliver_155 post ywl yst ycf yld yS yR ym ypk (nI wt) (nI bs) (nI fs) yw yf (fun j => nI (B j)) yba ytk ymd := by
  unfold wY_deliver_155
  refine nm_r (nI_1 fs) ?_
  rcases o with ⟨c, rfl, rfl, rfl, rfl, rfl, rfl⟩ | ⟨c, rfl, rfl, rfl, rfl, rfl, rfl⟩
  · refine br_f (hs_ne (b := 3) (by omega) (by decide) (by omega)) (hs_yemit (k := 1) (s := 0) hwt rfl rfl ?_)
    exact h
  · have e : fs = 2 := by omega
    subst e
    refine br_t rfl ?_
    unfold wpY_forget
    dsimp only
    exact hs_yemit (k := 2) (s := 0) hwt rfl rfl h
theorem hs_yd16 {post : Int32 → SY → Prop} {i : Nat} {F : Nat → Nat} (hi : i < 16)
    (hx : ∀ n tk, (∀ q, q < 8 → tk q = nI (hs_g F i q)) → wY_deliver_16 post (nI i) ywl yst ycf yld yS yR ym ypk ymg ybs yfs (n + 1) (nI 8) yw (fun j => nI (F j)) yb yba tk ymd) :
    ∀ d q tk, q + d = 8 → (∀ p, p < q → tk p = nI (hs_g F i p)) → wY_deliver_16 post (nI i) ywl yst ycf yld yS yR ym ypk ymg ybs yfs (d + 1) (nI q) yw (fun j => nI (F j)) yb yba tk ymd := by
  intro d
  induction d with
  | zero =>
    intro q tk hq ht
    have e : q = 8 := by omega
    subst e
    exact hx 0 tk ht
  | succ d ih =>
    intro q tk hq ht
    rw [wY_deliver_16]
    dsimp only
    have e1 : (8 : Int32) * nI i + nI q = nI (8 * i + q) := by rw [show (8 : Int32) * nI i = nI (8 * i) from pk_mul 8 i, nI_add]
    rw [e1, nI_clamp (by omega), nI_clamp (by omega), nI_1]
    refine br_f (nI_ge (b := 8) (by omega) (by decide)) ⟨vp_in_nI (by omega) (by decide), vp_in_nI (by omega) (by decide), nm_e (nm_e (ih (q + 1) _ (by omega) (fun p hp => ?_)))⟩
    by_cases c : p = q
    · subst c
      rw [pk_us]
      rfl
    · rw [pk_un c]
      exact ht p (by omega)
theorem hs_yd62 {post : Int32 → SY → Prop} {st ld wt bs : Nat} {g b B : Nat → Nat} (hwt : wt ≤ 8) (hbs : bs ≤ 2) (ok : hs_ok g) (z0 : g 0 = 0) (et : ∀ q, q < 8 → ytk q = nI (g q))
    (h : ∀ md, post 1 (ywl, nI st, ycf, yld, yS, yR, ym, ypk, nI (hs_ew wt), nI (hs_nb bs), nI 0, yw, yf, fun j => nI (hs_eB B wt 0 (hs_mm st ld g b 0) j), fun j => nI (hs_bb (hs_mm st ld g b) b j), ytk, md)) :
    ∃ n, wY_deliver_62 post ywl (nI st) ycf yld yS yR ym ypk (nI wt) (nI bs) yfs n 0 yw yf (fun j => nI (B j)) (fun j => nI (b j)) ytk ymd := by
  have hr : ∀ f, f < 3 → hs_rr st ld g b f = g (4 + f) := by
    intro f hf
    unfold hs_rr
    have e := ok.2.2.2 z0 f hf
    have l := (ok.2.1 f hf).2
    rw [e] at l
    rw [e]
    exact hs_rd12 l
  have r0 := hr 0 (by decide)
  have r1 := hr 1 (by decide)
  have r2 := hr 2 (by decide)
  refine ⟨4, ?_⟩
  rw [wY_deliver_62]
  refine br_f (by decide) ⟨vp_in_iff.mpr (by decide), vp_in_iff.mpr (by decide), nm_e (nm_r (e' := nI 1) (by decide) ?_)⟩
  rw [wY_deliver_62]
  refine br_f (by decide) ⟨vp_in_iff.mpr (by decide), vp_in_iff.mpr (by decide), nm_e (nm_r (e' := nI 2) (by decide) ?_)⟩
  rw [wY_deliver_62]
  refine br_f (by decide) ⟨vp_in_iff.mpr (by decide), vp_in_iff.mpr (by decide), nm_e (nm_r (e' := nI 3) (by decide) ?_)⟩
  rw [wY_deliver_62]
  refine br_t (by decide) (hs_ydecode (r0 := hs_rr st ld g b 0) (r1 := hs_rr st ld g b 1) (r2 := hs_rr st ld g b 2) ?_ ?_ ?_ (fun md' m0 m1 m2 => ?_))
  · rw [r0]
    exact et 4 (by decide)
  · rw [r1]
    exact et 5 (by decide)
  · rw [r2]
    exact et 6 (by decide)
  · dsimp only
    refine hs_ysucc (a := hs_mm st ld g b) hwt hbs (fun q hq => ?_) (h md')
    rcases hs_i3 hq with rfl | rfl | rfl
    · exact m0
    · exact m1
    · exact m2
end
end
section
section
variable {xwl xst xcf xld xS xR xh xm xsk xfl xwt xbs xfs : Int32} {xnw xol : Int64} {xhr xfx : Nat → Int64} {xcr xms xt1 xt2 : Nat → Int32}
variable {ywl yst ycf yld yS yR ym ypk ymg ybs yfs : Int32} {yw yf yb yba ytk ymd : Nat → Int32}

/-! ===== Y: deliver ===== -/
theorem hs_yfits {post : Int32 → SY → Prop} {st ld wh o : Nat} {g bb : Nat → Nat} {x : Int32} (ex : x = nI wh) (c : (wh = 0 ∧ o = 0) ∨ (wh = 1 ∧ o = 3)) (hl : ld ≤ 63) (ok : hs_ok g) (eb : ∀ j, j < 3 → yba (o + j) = nI (bb j)) (et : ∀ q, q < 8 → ytk q = nI (g q))
    (h1 : hs_ck (g 0) (hs_H (hs_mm st ld g bb)) = g 7 → ∀ md', (∀ q, q < 3 → md' q = nI (hs_mm st ld g bb q)) → post 1 (ywl, nI st, ycf, nI ld, yS, yR, ym, ypk, ymg, ybs, yfs, yw, yf, yb, yba, ytk, md'))
    (h0 : hs_ck (g 0) (hs_H (hs_mm st ld g bb)) ≠ g 7 → ∀ md', post 0 (ywl, nI st, ycf, nI ld, yS, yR, ym, ypk, ymg, ybs, yfs, yw, yf, yb, yba, ytk, md')) : wpY_fits post (ywl, nI st, ycf, nI ld, yS, yR, ym, ypk, ymg, ybs, yfs, yw, yf, yb, yba, ytk, ymd) x := by
  subst ex
  unfold wpY_fits
  dsimp only
  rcases c with ⟨rfl, rfl⟩ | ⟨rfl, rfl⟩
  · exact br_t rfl (hs_yf12 (o := 0) rfl hl ok (by decide) eb et h1 h0)
  · exact br_f (by decide) (hs_yf12 (o := 3) rfl hl ok (by decide) eb et h1 h0)
theorem hs_ydel {post : Int32 → SY → Prop} {st ld fl wt bs fs i r bs' fs' k s : Nat} {b b' B F : Nat → Nat} (hl : ld ≤ 63) (hwt : wt ≤ 8) (hbs : bs ≤ 2) (hfs : fs ≤ 2) (hfl : fl ≤ 16) (hi : i < fl) (ok : hs_ok (hs_g F i))
    (o : hs_out st ld bs fs (hs_g F i) b r bs' fs' k s b')
    (h : ∀ tk md, post (nI r) (ywl, nI st, ycf, nI ld, yS, yR, ym, nI (fl - 1), nI (hs_ew wt), nI bs', nI fs', yw, fun j => nI (hs_sh F (8 * i) (8 * fl - 8) 8 j), fun j => nI (hs_eB B wt k s j), fun j => nI (b' j), tk, md)) :
    wpY_deliver post (ywl, nI st, ycf, nI ld, yS, yR, ym, nI fl, nI wt, nI bs, nI fs, yw, fun j => nI (F j), fun j => nI (B j), fun j => nI (b j), ytk, ymd) (nI i) := by
  have g0 : hs_g F i 0 ≤ 2 := ok.1
  have eb0 : ∀ j, j < 3 → (fun j => nI (b j)) (0 + j) = nI (b j) := fun j _ => congrArg (fun q => nI (b q)) (Nat.zero_add j)
  have eb3 : ∀ j, j < 3 → (fun j => nI (b j)) (3 + j) = nI (hs_b3 b j) := fun j _ => rfl
  unfold wpY_deliver
  dsimp only
  refine br_f (nI_pos (by omega)) (br_t (nI_lt hi (by omega)) ⟨9, hs_yd16 (by omega) (fun n tk et => ?_) 8 0 ytk (by omega) (fun p hp => absurd hp (by omega))⟩)
  rw [wY_deliver_16]
  refine br_t (by decide) (hs_ylose hfl hi ?_)
  dsimp only
  have t0 := et 0 (by decide)
  rcases o with ⟨c0, rfl, rfl, rfl, rfl, rfl, rfl⟩ | ⟨c0, c1, rfl, rfl, rfl, rfl, rfl, rfl⟩ | ⟨c0, c1, c2, rfl, rfl, rfl, rfl, rfl, rfl⟩ | ⟨c0, c1, c2, c3, rfl, rfl, rfl, rfl, rfl, rfl⟩ | ⟨c0, c1, c2, c3, o⟩
  · exact br_t (by rw [t0, c0]; rfl) (hs_yd62 hwt hbs ok c0 et (fun md => h tk md))
  · refine br_f (by rw [t0]; exact nI_ne0 (by omega) (by omega)) (br_t (by rw [c1]; rfl) (hs_yemit (k := 2) (s := 0) hwt rfl rfl ?_))
    exact h tk ymd
  · refine br_f (by rw [t0]; exact nI_ne0 (by omega) (by omega)) (br_f (nI_ne0 (by omega) (by omega)) ⟨1, ?_⟩)
    rw [wY_deliver_114]
    refine br_f (by decide) (br_f (nI_nle (by omega) (by omega)) (hs_yfits (wh := 0) (o := 0) (bb := b) rfl (Or.inl ⟨rfl, rfl⟩) hl ok eb0 et (fun _ md' em => ?_) (fun n => absurd c2 n)))
    dsimp only
    refine br_f (by decide) (hs_ysucc (a := hs_mm st ld (hs_g F i) b) hwt hbs em ?_)
    exact br_t rfl (h tk md')
  · refine br_f (by rw [t0]; exact nI_ne0 (by omega) (by omega)) (br_f (nI_ne0 (by omega) (by omega)) ⟨2, ?_⟩)
    rw [wY_deliver_114]
    refine br_f (by decide) (br_f (nI_nle (by omega) (by omega)) (hs_yfits (wh := 0) (o := 0) (bb := b) rfl (Or.inl ⟨rfl, rfl⟩) hl ok eb0 et (fun n => absurd n c2) (fun _ md' => ?_)))
    dsimp only
    refine br_t rfl (nm_r (e' := nI 1) (by decide) ?_)
    rw [wY_deliver_114]
    refine br_f (by decide) (br_f (nI_ge (by omega) (by omega)) (hs_yfits (wh := 1) (o := 3) (bb := hs_b3 b) rfl (Or.inr ⟨rfl, rfl⟩) hl ok eb3 et (fun _ md2 em => ?_) (fun n => absurd c3 n)))
    dsimp only
    refine br_f (by decide) (hs_ysucc (a := hs_mm st ld (hs_g F i) (hs_b3 b)) hwt hbs em ?_)
    exact br_f (by decide) (h tk md2)
  · have eb : b' = b := by
      rcases o with ⟨_, _, _, _, _, _, e⟩ | ⟨_, _, _, _, _, _, e⟩ <;> exact e
    subst eb
    refine br_f (by rw [t0]; exact nI_ne0 (by omega) (by omega)) (br_f (nI_ne0 (by omega) (by omega)) ⟨3, ?_⟩)
    rw [wY_deliver_114]
    refine br_f (by decide) (br_f (nI_nle (by omega) (by omega)) (hs_yfits (wh := 0) (o := 0) (bb := b') rfl (Or.inl ⟨rfl, rfl⟩) hl ok eb0 et (fun n => absurd n c2) (fun _ md' => ?_)))
    dsimp only
    refine br_t rfl (nm_r (e' := nI 1) (by decide) ?_)
    rw [wY_deliver_114]
    refine br_f (by decide) ?_
    by_cases c4 : bs = 2
    · refine br_f (nI_ge (by omega) (by omega)) (hs_yfits (wh := 1) (o := 3) (bb := hs_b3 b') rfl (Or.inr ⟨rfl, rfl⟩) hl ok eb3 et (fun n => absurd ⟨c4, n⟩ c3) (fun _ md2 => ?_))
      dsimp only
      refine br_t rfl (nm_r (e' := nI 2) (by decide) ?_)
      rw [wY_deliver_114]
      exact br_t (by decide) (hs_yd155 hwt hfs o (h tk md2))
    · exact br_t (nI_le (by omega) (by omega)) (hs_yd155 hwt hfs o (h tk md'))
/-! ===== Y: hear ===== -/
theorem hs_yh167 {post : Int32 → SY → Prop} {J : Int32 → Int32 → Prop} {st m f c : Nat} {z : Int32} {w : Nat → Nat} (hf : f < 3) (hm : m ≤ 16) (hw : ∀ j, w j < 4096) (hc : c < 4096)
    (hJ : ∀ z', ((∀ i, i < m → hs_cw st w f i = c) → z' = z) → (¬ (∀ i, i < m → hs_cw st w f i = c) → z' = 0) → J z' (nI (f + 1))) :
    ∀ d j z', j + d = m → ((∀ i, i < j → hs_cw st w f i = c) → z' = z) → (¬ (∀ i, i < j → hs_cw st w f i = c) → z' = 0) → wY_hear_167 post J (nI f) (nI c) ywl (nI st) ycf yld yS yR (nI m) ypk ymg ybs yfs (fun j => nI (w j)) yf yb yba ytk ymd (d + 1) z' (nI j) := by
  intro d
  induction d with
  | zero =>
    intro j z' hj h1 h0
    have e : j = m := by omega
    subst e
    rw [wY_hear_167]
    exact br_t (nI_le (Nat.le_refl _) (by omega)) (nm_r (nI_1 f) (hJ z' h1 h0))
  | succ d ih =>
    intro j z' hj h1 h0
    rw [wY_hear_167]
    dsimp only
    rw [hs_y3.2.1, hs_y3.2.2, hs_y3.1, nI_clamp (by omega), nI_clamp (by omega), nI_clamp (by omega), nI_1 j]
    have hl := hs_cw_lt (st := st) (f := f) (i := j) hw
    refine br_f (nI_ge (by omega) (by omega)) ⟨vp_in_nI (by omega) (by decide), vp_in_nI (by omega) (by decide), vp_in_nI (by omega) (by decide), hs_ycoded hf ?_⟩
    show (nI (hs_cw st w f j) = nI c → _) ∧ _
    by_cases q : hs_cw st w f j = c
    · refine br_t (congrArg nI q) (nm_e (ih (j + 1) z' (by omega) (fun y => h1 (fun i hi => y i (by omega))) (fun y => h0 (fun x => y (fun i hi => ?_)))))
      by_cases e : i = j
      · subst e; exact q
      · exact x i (by omega)
    · refine br_f (fun y => q ((nI_eq (by omega) (by omega)).mp y)) (nm_e (ih (j + 1) 0 (by omega) (fun y => absurd (y j (by omega)) q) (fun _ => rfl)))
theorem hs_yh132 {post : Int32 → SY → Prop} {st S m : Nat} {al : Int32} {w : Nat → Nat} (hS : S ≤ 2) (hm : m ≤ 16) (hw : ∀ j, w j < 4096)
    (a1 : (∀ i, i < m → hs_e st w i = hs_e st w 0) → al = 1) (a0 : ¬ (∀ i, i < m → hs_e st w i = hs_e st w 0) → al = 0)
    (h : post 1 (ywl, nI st, ycf, yld, nI (hs_S3 S al), hs_R3 S al yR, nI m, ypk, ymg, ybs, yfs, fun j => nI (w j), yf, yb, yba, ytk, ymd)) : ∃ n, wY_hear_132 post ywl (nI st) ycf yld (nI S) yR (nI m) ypk ymg ybs yfs (fun j => nI (w j)) yf yb yba ytk ymd n 1 1 := by
  refine ⟨3, ?_⟩
  rw [wY_hear_132]
  refine br_f (by decide) (hs_ycoded (f := 1) (by decide) ⟨m + 1, ?_⟩)
  refine hs_yh167 (c := hs_cw st w 1 0) (z := 1) (by decide) hm hw (hs_cw_lt hw) (fun z1 p1 p0 => ?_) m 0 1 (by omega) (fun _ => rfl) (fun y => absurd (fun i hi => absurd hi (by omega)) y)
  rw [wY_hear_132]
  refine br_f (by decide) (hs_ycoded (f := 2) (by decide) ⟨m + 1, ?_⟩)
  refine hs_yh167 (c := hs_cw st w 2 0) (z := z1) (by decide) hm hw (hs_cw_lt hw) (fun z2 q1 q0 => ?_) m 0 z1 (by omega) (fun _ => rfl) (fun y => absurd (fun i hi => absurd hi (by omega)) y)
  have ez : z2 = al := by
    by_cases c1 : ∀ i, i < m → hs_cw st w 1 i = hs_cw st w 1 0
    · by_cases c2 : ∀ i, i < m → hs_cw st w 2 i = hs_cw st w 2 0
      · rw [q1 c2, p1 c1, a1 (fun i hi => by show (_, _) = (_, _); rw [c1 i hi, c2 i hi])]
      · rw [q0 c2, a0 (fun y => c2 (fun i hi => (Prod.mk.inj (y i hi)).2))]
    · have e0 : al = 0 := a0 (fun y => c1 (fun i hi => (Prod.mk.inj (y i hi)).1))
      rw [e0]
      by_cases c2 : ∀ i, i < m → hs_cw st w 2 i = hs_cw st w 2 0
      · rw [q1 c2, p0 c1]
      · exact q0 c2
  subst ez
  unfold hs_S3 hs_R3 at h
  rw [wY_hear_132]
  refine br_t (by decide) ?_
  by_cases c0 : S = 0
  · rw [if_pos c0, if_pos c0] at h
    refine br_t (by rw [c0]; rfl) ?_
    unfold wpY_become
    dsimp only
    exact h
  · rw [if_neg c0, if_neg c0] at h
    refine br_f (nI_ne0 (by omega) (by omega)) ?_
    by_cases cc : S = 1
    · rw [if_pos cc, if_pos cc] at h
      refine br_t (by rw [cc]; rfl) ?_
      by_cases cs : z2 = 0
      · rw [if_pos cs, if_pos cs] at h
        rw [cc]
        exact br_t cs h
      · rw [if_neg cs, if_neg cs] at h
        refine br_f cs ?_
        unfold wpY_become
        dsimp only
        exact h
    · rw [if_neg cc, if_neg cc] at h
      exact br_f (hs_ne (b := 1) (by omega) (by decide) cc) h
theorem hs_yh85 {post : Int32 → SY → Prop} {m sn i : Nat} {w : Nat → Nat} (hm : m ≤ 16) (hw : ∀ j, w j < 4096) (hsn : sn < 4096) (hi : i < m) (e : w (3 * i) = sn) (hn : ∀ j, j < i → w (3 * j) ≠ sn)
    (h : ∃ n, wY_hear_132 post ywl yst ycf yld yS yR (nI (m - i)) ypk ymg ybs yfs (fun j => nI (hs_sh w 0 (3 * m - 3 * i) (3 * i) j)) yf yb yba ytk ymd n 1 1) :
    ∀ (p : Nat) (x4 x5 : Int32), x5 = hs_z ((p : Int) - 1) → p ≤ m → (p ≤ i → x4 = nI i) → wY_hear_85 post (nI sn) ywl yst ycf yld yS yR (nI m) ypk ymg ybs yfs (fun j => nI (w j)) yf yb yba ytk ymd (p + 1) x4 x5 := by
  intro p
  induction p with
  | zero =>
    intro x4 x5 ex hp h4
    subst ex
    have e4 := h4 (Nat.zero_le _)
    subst e4
    rw [wY_hear_85]
    refine br_t (by decide) (br_t (nI_pos' (by omega)) (hs_ydrop rfl hm (by omega) ?_))
    exact h
  | succ p ih =>
    intro x4 x5 ex hp h4
    have e5 : x5 = nI p := by
      rw [ex, hs_zn]
      exact congrArg hs_z (by omega)
    subst e5
    have e1 : nI p + (-1) = hs_z ((p : Int) - 1) := by
      rw [hs_zn, show (-1 : Int32) = hs_z (-1) from by decide, hs_zadd]
      exact congrArg hs_z (by omega)
    rw [wY_hear_85]
    dsimp only
    rw [hs_y3.1, nI_clamp (by omega)]
    have l := hw (3 * p)
    refine br_f (nI_pos (by omega)) ⟨vp_in_nI (by omega) (by decide), ?_⟩
    by_cases q : w (3 * p) = sn
    · refine br_t (congrArg nI q) (nm_r e1 (ih _ _ rfl (by omega) (fun hpi => ?_)))
      by_cases c : p = i
      · rw [c]
      · exact absurd q (hn p (by omega))
    · refine br_f (fun y => q ((nI_eq (by omega) (by omega)).mp y)) (nm_r e1 (ih _ _ rfl (by omega) (fun hpi => h4 ?_)))
      by_cases c : p = i
      · subst c; exact absurd e q
      · omega
theorem hs_yh85N {post : Int32 → SY → Prop} {m sn : Nat} {w : Nat → Nat} (hm : m ≤ 16) (hw : ∀ j, w j < 4096) (hsn : sn < 4096) (hn : ∀ j, j < m → w (3 * j) ≠ sn)
    (h : post 0 (ywl, yst, ycf, yld, yS, yR, nI m, ypk, ymg, ybs, yfs, fun j => nI (w j), yf, yb, yba, ytk, ymd)) :
    ∀ (p : Nat) (x5 : Int32), x5 = hs_z ((p : Int) - 1) → p ≤ m → wY_hear_85 post (nI sn) ywl yst ycf yld yS yR (nI m) ypk ymg ybs yfs (fun j => nI (w j)) yf yb yba ytk ymd (p + 1) (-1) x5 := by
  intro p
  induction p with
  | zero =>
    intro x5 ex hp
    subst ex
    rw [wY_hear_85]
    exact br_t (by decide) (br_f (by decide) h)
  | succ p ih =>
    intro x5 ex hp
    have e5 : x5 = nI p := by
      rw [ex, hs_zn]
      exact congrArg hs_z (by omega)
    subst e5
    have e1 : nI p + (-1) = hs_z ((p : Int) - 1) := by
      rw [hs_zn, show (-1 : Int32) = hs_z (-1) from by decide, hs_zadd]
      exact congrArg hs_z (by omega)
    rw [wY_hear_85]
    dsimp only
    rw [hs_y3.1, nI_clamp (by omega)]
    have l := hw (3 * p)
    exact br_f (nI_pos (by omega)) ⟨vp_in_nI (by omega) (by decide), br_f (fun y => hn p (by omega) ((nI_eq (by omega) (by omega)).mp y)) (nm_r e1 (ih _ rfl (by omega)))⟩
theorem hs_ym1 (m : Nat) : nI m - 1 = hs_z ((m : Int) - 1) := by
  rw [hs_zn, show (1 : Int32) = hs_z 1 from by decide, hs_zsub]
theorem hs_yhear {post : Int32 → SY → Prop} {wt j k s : Nat} {B : Nat → Nat} (hwt : wt ≤ 8) (hj : j < wt) (hk : k ≤ 2) (ek : B (2 * j) = k) (es : B (2 * j + 1) = s)
    (h0 : k = 0 → ∃ n, wY_hear_85 post (nI s) ywl yst ycf yld yS yR ym ypk (nI (wt - 1)) ybs yfs yw yf (fun q => nI (hs_sh B (2 * j) (2 * wt - 2) 2 q)) yba ytk ymd n (-1) (ym - 1))
    (h2 : k = 2 → post 1 (ywl, yst, ycf, yld, 0, 0, ym, ypk, nI (wt - 1), ybs, yfs, yw, yf, fun q => nI (hs_sh B (2 * j) (2 * wt - 2) 2 q), yba, ytk, ymd))
    (h1 : k = 1 → (yS = 0 → post 0 (ywl, yst, ycf, yld, yS, yR, ym, ypk, nI (wt - 1), ybs, yfs, yw, yf, fun q => nI (hs_sh B (2 * j) (2 * wt - 2) 2 q), yba, ytk, ymd)) ∧ (¬ yS = 0 → post 1 (ywl, yst, ycf, yld, 1, 0, ym, ypk, nI (wt - 1), ybs, yfs, yw, yf, fun q => nI (hs_sh B (2 * j) (2 * wt - 2) 2 q), yba, ytk, ymd))) :
    wpY_hear post (ywl, yst, ycf, yld, yS, yR, ym, ypk, nI wt, ybs, yfs, yw, yf, fun q => nI (B q), yba, ytk, ymd) (nI j) := by
  have e1 : (2 : Int32) * nI j = nI (2 * j) := pk_mul 2 j
  unfold wpY_hear
  dsimp only
  rw [e1, nI_1, nI_clamp (by omega), nI_clamp (by omega), ek, es]
  refine br_f (nI_pos (by omega)) (br_t (nI_lt hj (by omega)) ⟨vp_in_nI (by omega) (by decide), nm_e ⟨vp_in_nI (by omega) (by decide), nm_e (hs_ymiss hwt hj ?_)⟩⟩)
  dsimp only
  have c : k = 0 ∨ k = 1 ∨ k = 2 := by omega
  clear ek
  rcases c with rfl | rfl | rfl
  · refine br_f (by decide) ?_
    unfold wY_hear_54
    exact br_t rfl (nm_e (h0 rfl))
  · refine br_t rfl (br_c (h1 rfl).1 (fun n => ?_))
    unfold wY_hear_54 wY_hear_69 wpY_become
    dsimp only
    exact br_f (by decide) (br_t rfl ((h1 rfl).2 n))
  · refine br_f (by decide) ?_
    unfold wY_hear_54 wY_hear_69 wpY_become
    dsimp only
    exact br_f (by decide) (br_f (by decide) (h2 rfl))
/-! ===== Y: inStep ===== -/
theorem hs_yin {post : Int32 → Prop} {m : Nat} {w b : Nat → Nat} (hm : m ≤ 16) (hw : ∀ j, w j < 4096) (hb : ∀ j, b j < 4096) (h1 : (∃ i, i < m ∧ hs_hit3 w b i) → post 1) (h0 : ¬ (∃ i, i < m ∧ hs_hit3 w b i) → post 0) :
    ∀ d j, j + d = m → (∀ i, i < j → ¬ hs_hit3 w b i) → wY_inStep_11 post ywl yst ycf yld yS yR (nI m) ypk ymg ybs yfs (fun j => nI (w j)) yf yb (fun j => nI (b j)) ytk ymd (d + 1) (nI j) := by
  intro d
  induction d with
  | zero =>
    intro j hj hn
    rw [wY_inStep_11]
    exact br_t (nI_le (by omega) (by omega)) (h0 (fun z => by obtain ⟨i, hi, q⟩ := z; exact hn i (by omega) q))
  | succ d ih =>
    intro j hj hn
    rw [wY_inStep_11]
    dsimp only
    rw [hs_y3.2.1, hs_y3.2.2, hs_y3.1, nI_clamp (by omega), nI_clamp (by omega), nI_clamp (by omega), nI_1 j]
    have l0 := hw (3 * j)
    have l1 := hw (3 * j + 1)
    have l2 := hw (3 * j + 2)
    have k0 := hb 0
    have k1 := hb 1
    have k2 := hb 2
    have nx : ¬ hs_hit3 w b j → ∀ i, i < j + 1 → ¬ hs_hit3 w b i := by
      intro z i hi
      by_cases c : i = j
      · subst c; exact z
      · exact hn i (by omega)
    refine br_f (nI_ge (by omega) (by omega)) ⟨vp_in_nI (by omega) (by decide), ?_⟩
    by_cases c0 : w (3 * j) = b 0
    · refine br_t (congrArg nI c0) ⟨vp_in_nI (by omega) (by decide), ?_⟩
      by_cases c1 : w (3 * j + 1) = b 1
      · refine br_t (congrArg nI c1) ⟨vp_in_nI (by omega) (by decide), ?_⟩
        by_cases c2 : w (3 * j + 2) = b 2
        · exact br_t (congrArg nI c2) (h1 ⟨j, by omega, c0, c1, c2⟩)
        · exact br_f (fun y => c2 ((nI_eq (by omega) (by omega)).mp y)) (nm_e (ih (j + 1) (by omega) (nx (fun z => c2 z.2.2))))
      · exact br_f (fun y => c1 ((nI_eq (by omega) (by omega)).mp y)) (nm_e (ih (j + 1) (by omega) (nx (fun z => c1 z.2.1))))
    · exact br_f (fun y => c0 ((nI_eq (by omega) (by omega)).mp y)) (nm_e (ih (j + 1) (by omega) (nx (fun z => c0 z.1))))
end
end
section
/-! ===== the relation ===== -/
def hs_I (wl st ld S h m sk fl wt bs fs : Nat) (hr fx : Nat → Int64) (cr ms t1 t2 : Nat → Int32) (w F B b : Nat → Nat) : Prop :=
  (1 ≤ wl ∧ wl ≤ 16) ∧ ld ≤ 63 ∧ S ≤ 2 ∧ m ≤ wl ∧ bs ≤ 2 ∧ fs ≤ 2 ∧ (∀ j, b j < 4096) ∧ hs_W st h m hr cr w ∧ hs_K (hs_e st w) m sk ∧ hs_F fl fx F ∧ hs_B wt ms B ∧ hs_T t1 t2
/-- both states by one row of naturals; k isn't used -/
def i_Rel (_ : Nat) (u : SX) (v : SY) : Prop := ∃ wl : Nat, ∃ st : Nat, ∃ ld : Nat, ∃ S : Nat, ∃ h : Nat, ∃ m : Nat, ∃ sk : Nat, ∃ fl : Nat, ∃ wt : Nat, ∃ bs : Nat, ∃ fs : Nat, ∃ cf R : Int32, ∃ hr fx : Nat → Int64, ∃ cr ms t1 t2 : Nat → Int32, ∃ w F B b : Nat → Nat, ∃ tk md : Nat → Int32, u = (nI wl, nI st, cf, nI ld, nI S, R, nI h, nI m, nI sk, nI fl, nI wt, lN (hs_hd (b 0) (b 1) (b 2)), lN (hs_hd (b 3) (b 4) (b 5)), nI bs, nI fs, hr, cr, fx, ms, t1, t2) ∧ v = (nI wl, nI st, cf, nI ld, nI S, R, nI m, nI fl, nI wt, nI bs, nI fs, fun j => nI (w j), fun j => nI (F j), fun j => nI (B j), fun j => nI (b j), tk, md) ∧ hs_I wl st ld S h m sk fl wt bs fs hr fx cr ms t1 t2 w F B b
theorem i_up {k : Nat} {u : SX} {v : SY} (h : i_Rel k u v) : i_Rel (k + 4) u v := h
theorem hs_mkR {k : Nat} {wl st ld S h m sk fl wt bs fs : Nat} {cf R : Int32} {hr fx : Nat → Int64} {cr ms t1 t2 : Nat → Int32} {w F B b : Nat → Nat} {tk md : Nat → Int32} (H : hs_I wl st ld S h m sk fl wt bs fs hr fx cr ms t1 t2 w F B b) : i_Rel k (nI wl, nI st, cf, nI ld, nI S, R, nI h, nI m, nI sk, nI fl, nI wt, lN (hs_hd (b 0) (b 1) (b 2)), lN (hs_hd (b 3) (b 4) (b 5)), nI bs, nI fs, hr, cr, fx, ms, t1, t2) (nI wl, nI st, cf, nI ld, nI S, R, nI m, nI fl, nI wt, nI bs, nI fs, fun j => nI (w j), fun j => nI (F j), fun j => nI (B j), fun j => nI (b j), tk, md) :=
  ⟨wl, st, ld, S, h, m, sk, fl, wt, bs, fs, cf, R, hr, fx, cr, ms, t1, t2, w, F, B, b, tk, md, rfl, rfl, H⟩
theorem hs_el {k : Nat} {u : SX} {v : SY} {P : SX → SY → Prop} (H : ∀ (wl st ld S h m sk fl wt bs fs : Nat) (cf R : Int32) (hr fx : Nat → Int64) (cr ms t1 t2 : Nat → Int32) (w F B b : Nat → Nat) (tk md : Nat → Int32), hs_I wl st ld S h m sk fl wt bs fs hr fx cr ms t1 t2 w F B b → P (nI wl, nI st, cf, nI ld, nI S, R, nI h, nI m, nI sk, nI fl, nI wt, lN (hs_hd (b 0) (b 1) (b 2)), lN (hs_hd (b 3) (b 4) (b 5)), nI bs, nI fs, hr, cr, fx, ms, t1, t2) (nI wl, nI st, cf, nI ld, nI S, R, nI m, nI fl, nI wt, nI bs, nI fs, fun j => nI (w j), fun j => nI (F j), fun j => nI (B j), fun j => nI (b j), tk, md)) (I : i_Rel k u v) : P u v :=
  Exists.elim I fun wl I => Exists.elim I fun st I => Exists.elim I fun ld I => Exists.elim I fun S I => Exists.elim I fun h I => Exists.elim I fun m I => Exists.elim I fun sk I => Exists.elim I fun fl I => Exists.elim I fun wt I => Exists.elim I fun bs I => Exists.elim I fun fs I => Exists.elim I fun cf I => Exists.elim I fun R I => Exists.elim I fun hr I => Exists.elim I fun fx I => Exists.elim I fun cr I => Exists.elim I fun ms I => Exists.elim I fun t1 I => Exists.elim I fun t2 I => Exists.elim I fun w I => Exists.elim I fun F I => Exists.elim I fun B I => Exists.elim I fun b I => Exists.elim I fun tk I => Exists.elim I fun md I => by
    obtain ⟨e1, e2, e3⟩ := I
    subst e1
    subst e2
    exact H wl st ld S h m sk fl wt bs fs cf R hr fx cr ms t1 t2 w F B b tk md e3
end
section
/-! ===== the constructors ===== -/
theorem i_vc0 (k0 : Int32) (k1 : Int32) (k2 : Int32) (k3 : Int32) : wpX_init (fun u => wpY_init (fun v => i_Rel 4 u v) k0 k1 k2 k3) k0 k1 k2 k3 := by
  obtain ⟨wl, a1, a2, e0⟩ := hs_cl_n k0 (lo := 1) (hi := 16) (by decide) (by decide)
  obtain ⟨st, b1, b2, e1⟩ := hs_cl_n k1 (lo := 0) (hi := 4095) (by decide) (by decide)
  obtain ⟨ld, c1, c2, e3⟩ := hs_cl_n k3 (lo := 0) (hi := 63) (by decide) (by decide)
  have e0' : hs_cl k0 1 16 = nI wl := e0
  have e1' : hs_cl k1 0 4095 = nI st := e1
  have e3' : hs_cl k3 0 63 = nI ld := e3
  unfold wpX_init
  refine hs_xclamp (hs_xclamp (hs_xclamp (hs_xclamp ⟨129, ?_⟩)))
  rw [e0', e1', e3']
  refine hs_xinit (fun t1 t2 T => ?_) 128 0 _ _ (by decide) (fun t ht => absurd ht (by omega))
  unfold wpY_init
  refine hs_yclamp (hs_yclamp (hs_yclamp (hs_yclamp ?_)))
  rw [e0', e1', e3']
  have I0 : hs_I wl st ld 0 0 0 0 0 0 0 0 (fun _ => 0) (fun _ => 0) (fun _ => 0) (fun _ => 0) t1 t2 (fun _ => 0) (fun _ => 0) (fun _ => 0) (fun _ => 0) :=
    ⟨⟨a1, a2⟩, c2, by decide, by omega, by decide, by decide, fun _ => Nat.zero_lt_succ 4095,
      ⟨by decide, fun _ => Nat.zero_lt_succ 4095, fun i hi => absurd hi (by omega), fun f i hf hi => absurd hi (by omega)⟩,
      ⟨by decide, fun i hi => absurd hi (by omega), fun hi => absurd hi (by omega)⟩,
      ⟨by decide, fun i hi => absurd hi (by omega)⟩, ⟨by decide, fun i hi => absurd hi (by omega)⟩, T⟩
  exact hs_mkR (cf := hs_cl k2 1 4) (R := 0) (tk := fun _ => 0) (md := fun _ => 0) I0
/-! ===== methods that move no array ===== -/
theorem i_vc_refresh {k : Nat} {u : SX} {v : SY} (I : i_Rel k u v) (hk : k + 4 ≤ 2052) : wpX_refresh (fun u' => wpY_refresh (fun v' => i_Rel (k + 4) u' v') v) u := by
  refine hs_el (P := fun u v => wpX_refresh (fun u' => wpY_refresh (fun v' => i_Rel (k + 4) u' v') v) u) ?_ I
  intro wl st ld S h m sk fl wt bs fs cf R hr fx cr ms t1 t2 w F B b tk md hI
  have hI' := hI
  obtain ⟨hwl, hl, hS, hm, hbs, hfs, hb, W, K, HF, HB, T⟩ := hI'
  have hfl := HF.1
  have hwt := HB.1
  unfold wpX_refresh wpX_enter wpY_refresh wpY_become
  dsimp only
  exact hs_mkR (S := 0) (R := 0) ⟨hwl, hl, by decide, hm, hbs, hfs, hb, W, K, HF, HB, T⟩
theorem i_vc_forget {k : Nat} {u : SX} {v : SY} (I : i_Rel k u v) (hk : k + 4 ≤ 2052) : wpX_forget (fun u' => wpY_forget (fun v' => i_Rel (k + 4) u' v') v) u := by
  refine hs_el (P := fun u v => wpX_forget (fun u' => wpY_forget (fun v' => i_Rel (k + 4) u' v') v) u) ?_ I
  intro wl st ld S h m sk fl wt bs fs cf R hr fx cr ms t1 t2 w F B b tk md hI
  have hI' := hI
  obtain ⟨hwl, hl, hS, hm, hbs, hfs, hb, W, K, HF, HB, T⟩ := hI'
  have hfl := HF.1
  have hwt := HB.1
  unfold wpX_forget wpY_forget
  dsimp only
  exact hs_mkR (bs := 0) (fs := 0) ⟨hwl, hl, hS, hm, by decide, by decide, hb, W, K, HF, HB, T⟩
theorem hs_ge0 {x : Int32} {n : Nat} (hn : n < 2 ^ 31) (h : nI n ≤ x) : ¬ x < 0 := Int32.not_lt.mpr (Int32.le_trans (nI_pos' hn) h)
theorem i_vc_need {k : Nat} {u : SX} {v : SY} (I : i_Rel k u v) (hk : k + 4 ≤ 2052) (v1 : Int32) (v2 : Int32) : wpX_need (fun r => wpY_need (fun r' => r' = r ∧ i_Rel (k + 4) u v) v v1 v2) u v1 v2 := by
  have II : i_Rel (k + 4) u v := I
  revert II
  refine hs_el (P := fun u v => i_Rel (k + 4) u v → wpX_need (fun r => wpY_need (fun r' => r' = r ∧ i_Rel (k + 4) u v) v v1 v2) u v1 v2) ?_ I
  intro wl st ld S h m sk fl wt bs fs cf R hr fx cr ms t1 t2 w F B b tk md hI
  have hI' := hI
  obtain ⟨hwl, hl, hS, hm, hbs, hfs, hb, W, K, HF, HB, T⟩ := hI'
  have hfl := HF.1
  have hwt := HB.1
  intro II
  by_cases c0 : v1 < 0
  · unfold wpX_need wpY_need
    dsimp only
    exact br_t c0 (br_t c0 ⟨rfl, II⟩)
  · by_cases c2 : v1 ≤ 2
    · obtain ⟨f, hf, rfl⟩ := nI_of2 (n := 2) (by decide) c0 c2
      obtain ⟨x, hx, ex⟩ := pk_andE v2 (m := 4095) 12 (by decide)
      have hx' : x < 4096 := hx
      obtain ⟨r, hr⟩ := hs_least_ex (fun k => ∀ i, i < m → hs_ex ld f ((x : Int) - (hs_cw st w f i : Nat)) ≤ 2 ^ k)
      unfold wpX_need
      dsimp only
      rw [ex]
      refine br_f c0 (br_t c2 (hs_xwidth hl (by omega) (by omega) W hr ?_))
      exact hs_yneed hl (by omega) ex hx' (by omega) hr ⟨rfl, II⟩
    · unfold wpX_need wpY_need
      dsimp only
      exact br_f c0 (br_f c2 (br_f c0 (br_f c2 ⟨rfl, II⟩)))
theorem i_vc_window {k : Nat} {u : SX} {v : SY} (I : i_Rel k u v) (hk : k + 4 ≤ 2052) (v1 : Int32) (v2 : Int32) : wpX_window (fun r => wpY_window (fun r' => r' = r ∧ i_Rel (k + 4) u v) v v1 v2) u v1 v2 := by
  have II : i_Rel (k + 4) u v := I
  revert II
  refine hs_el (P := fun u v => i_Rel (k + 4) u v → wpX_window (fun r => wpY_window (fun r' => r' = r ∧ i_Rel (k + 4) u v) v v1 v2) u v1 v2) ?_ I
  intro wl st ld S h m sk fl wt bs fs cf R hr fx cr ms t1 t2 w F B b tk md hI
  have hI' := hI
  obtain ⟨hwl, hl, hS, hm, hbs, hfs, hb, W, K, HF, HB, T⟩ := hI'
  have hfl := HF.1
  have hwt := HB.1
  intro II
  unfold wpX_window wpY_window
  dsimp only
  by_cases c0 : v1 < 0
  · exact br_t c0 (br_t c0 ⟨rfl, II⟩)
  by_cases c1 : nI m ≤ v1
  · exact br_f c0 (br_t c1 (br_f c0 (br_t c1 ⟨rfl, II⟩)))
  by_cases c2 : v2 < 0
  · exact br_f c0 (br_f c1 (br_t c2 (br_f c0 (br_f c1 (br_t c2 ⟨rfl, II⟩)))))
  by_cases c3 : v2 ≤ 2
  · obtain ⟨i, hi, rfl⟩ := nI_of c0
    have him : i < m := by
      by_cases q : i < m
      · exact q
      · exact absurd (nI_le (by omega) hi) c1
    obtain ⟨f, hf, rfl⟩ := nI_of2 (n := 2) (by decide) c2 c3
    have e3 : (3 : Int32) * nI i + nI f = nI (3 * i + f) := by rw [hs_y3.1, nI_add]
    have l := W.2.1
    have ef : hs_fd f (w (3 * i)) (w (3 * i + 1)) (w (3 * i + 2)) = w (3 * i + f) := by
      rcases hs_i3 (show f < 3 by omega) with rfl | rfl | rfl <;> rfl
    rw [hs_ring W.1 (by omega), nI_clamp (by omega), W.2.2.1 i him, e3, nI_clamp (by omega)]
    refine br_f c0 (br_f c1 (br_f c2 (br_t c3 ⟨vp_in_nI (by omega) (by decide), hs_xfh (l _) (l _) (l _) (by omega) ?_⟩)))
    rw [ef]
    exact br_f c0 (br_f c1 (br_f c2 (br_t c3 ⟨vp_in_nI (by omega) (by decide), rfl, II⟩)))
  · exact br_f c0 (br_f c1 (br_f c2 (br_f c3 (br_f c0 (br_f c1 (br_f c2 (br_f c3 ⟨rfl, II⟩)))))))
theorem i_vc_packet {k : Nat} {u : SX} {v : SY} (I : i_Rel k u v) (hk : k + 4 ≤ 2052) (v1 : Int32) (v2 : Int32) : wpX_packet (fun r => wpY_packet (fun r' => r' = r ∧ i_Rel (k + 4) u v) v v1 v2) u v1 v2 := by
  have II : i_Rel (k + 4) u v := I
  revert II
  refine hs_el (P := fun u v => i_Rel (k + 4) u v → wpX_packet (fun r => wpY_packet (fun r' => r' = r ∧ i_Rel (k + 4) u v) v v1 v2) u v1 v2) ?_ I
  intro wl st ld S h m sk fl wt bs fs cf R hr fx cr ms t1 t2 w F B b tk md hI
  have hI' := hI
  obtain ⟨hwl, hl, hS, hm, hbs, hfs, hb, W, K, HF, HB, T⟩ := hI'
  have hfl := HF.1
  have hwt := HB.1
  intro II
  unfold wpX_packet wpY_packet
  dsimp only
  by_cases c0 : v1 < 0
  · exact br_t c0 (br_t c0 ⟨rfl, II⟩)
  by_cases c1 : nI fl ≤ v1
  · exact br_f c0 (br_t c1 (br_f c0 (br_t c1 ⟨rfl, II⟩)))
  by_cases c2 : v2 < 0
  · exact br_f c0 (br_f c1 (br_t c2 (br_f c0 (br_f c1 (br_t c2 ⟨rfl, II⟩)))))
  by_cases c3 : v2 ≤ 7
  · obtain ⟨i, hi, rfl⟩ := nI_of c0
    have him : i < fl := by
      by_cases q : i < fl
      · exact q
      · exact absurd (nI_le (by omega) hi) c1
    obtain ⟨f, hf, rfl⟩ := nI_of2 (n := 7) (by decide) c2 c3
    have e8 : (8 : Int32) * nI i + nI f = nI (8 * i + f) := by rw [show (8 : Int32) * nI i = nI (8 * i) from pk_mul 8 i, nI_add]
    obtain ⟨ok, ex⟩ := HF.2 i him
    rw [e8, nI_clamp hi, nI_clamp (by omega), ex]
    refine br_f c0 (br_f c1 (br_f c2 (br_t c3 ⟨vp_in_nI (by omega) (by decide), hs_xpart (hs_ok_bd ok) (by omega) ?_⟩)))
    exact br_f c0 (br_f c1 (br_f c2 (br_t c3 ⟨vp_in_nI (by omega) (by decide), rfl, II⟩)))
  · exact br_f c0 (br_f c1 (br_f c2 (br_f c3 (br_f c0 (br_f c1 (br_f c2 (br_f c3 ⟨rfl, II⟩)))))))
theorem i_vc_feedback {k : Nat} {u : SX} {v : SY} (I : i_Rel k u v) (hk : k + 4 ≤ 2052) (v1 : Int32) (v2 : Int32) : wpX_feedback (fun r => wpY_feedback (fun r' => r' = r ∧ i_Rel (k + 4) u v) v v1 v2) u v1 v2 := by
  have II : i_Rel (k + 4) u v := I
  revert II
  refine hs_el (P := fun u v => i_Rel (k + 4) u v → wpX_feedback (fun r => wpY_feedback (fun r' => r' = r ∧ i_Rel (k + 4) u v) v v1 v2) u v1 v2) ?_ I
  intro wl st ld S h m sk fl wt bs fs cf R hr fx cr ms t1 t2 w F B b tk md hI
  have hI' := hI
  obtain ⟨hwl, hl, hS, hm, hbs, hfs, hb, W, K, HF, HB, T⟩ := hI'
  have hfl := HF.1
  have hwt := HB.1
  intro II
  unfold wpX_feedback wpY_feedback
  dsimp only
  by_cases c0 : v1 < 0
  · exact br_t c0 (br_t c0 ⟨rfl, II⟩)
  by_cases c1 : nI wt ≤ v1
  · exact br_f c0 (br_t c1 (br_f c0 (br_t c1 ⟨rfl, II⟩)))
  by_cases c2 : v2 < 0
  · exact br_f c0 (br_f c1 (br_t c2 (br_f c0 (br_f c1 (br_t c2 ⟨rfl, II⟩)))))
  by_cases c3 : v2 ≤ 1
  · obtain ⟨i, hi, rfl⟩ := nI_of c0
    have him : i < wt := by
      by_cases q : i < wt
      · exact q
      · exact absurd (nI_le (by omega) hi) c1
    obtain ⟨f, hf, rfl⟩ := nI_of2 (n := 1) (by decide) c2 c3
    have e2 : (2 : Int32) * nI i + nI f = nI (2 * i + f) := by rw [show (2 : Int32) * nI i = nI (2 * i) from pk_mul 2 i, nI_add]
    obtain ⟨hk2, hs2, ex⟩ := HB.2 i him
    rw [e2, nI_clamp hi, nI_clamp (show 2 * i + f < 2 ^ 31 by omega), ex, hs_msgk hk2 hs2, hs_msgs hs2]
    have cf' : f = 0 ∨ f = 1 := by omega
    rcases cf' with rfl | rfl
    · refine br_f c0 (br_f c1 (br_f c2 (br_t c3 (br_t rfl ⟨vp_in_nI (by omega) (by decide), ?_⟩))))
      exact br_f c0 (br_f c1 (br_f c2 (br_t c3 ⟨vp_in_nI (by omega) (by decide), rfl, II⟩)))
    · refine br_f c0 (br_f c1 (br_f c2 (br_t c3 (br_f (by decide) ⟨vp_in_nI (by omega) (by decide), ?_⟩))))
      exact br_f c0 (br_f c1 (br_f c2 (br_t c3 ⟨vp_in_nI (by omega) (by decide), rfl, II⟩)))
  · exact br_f c0 (br_f c1 (br_f c2 (br_f c3 (br_f c0 (br_f c1 (br_f c2 (br_f c3 ⟨rfl, II⟩)))))))
theorem i_vc_context {k : Nat} {u : SX} {v : SY} (I : i_Rel k u v) (hk : k + 4 ≤ 2052) (v1 : Int32) (v2 : Int32) : wpX_context (fun r => wpY_context (fun r' => r' = r ∧ i_Rel (k + 4) u v) v v1 v2) u v1 v2 := by
  have II : i_Rel (k + 4) u v := I
  revert II
  refine hs_el (P := fun u v => i_Rel (k + 4) u v → wpX_context (fun r => wpY_context (fun r' => r' = r ∧ i_Rel (k + 4) u v) v v1 v2) u v1 v2) ?_ I
  intro wl st ld S h m sk fl wt bs fs cf R hr fx cr ms t1 t2 w F B b tk md hI
  have hI' := hI
  obtain ⟨hwl, hl, hS, hm, hbs, hfs, hb, W, K, HF, HB, T⟩ := hI'
  have hfl := HF.1
  have hwt := HB.1
  intro II
  unfold wpX_context wpY_context wX_context_38
  dsimp only
  by_cases c0 : v1 < 0
  · exact br_t c0 (br_t c0 ⟨rfl, II⟩)
  by_cases c1 : nI bs ≤ v1
  · exact br_f c0 (br_t c1 (br_f c0 (br_t c1 ⟨rfl, II⟩)))
  by_cases c2 : v2 < 0
  · exact br_f c0 (br_f c1 (br_t c2 (br_f c0 (br_f c1 (br_t c2 ⟨rfl, II⟩)))))
  by_cases c3 : v2 ≤ 2
  · obtain ⟨i, hi, rfl⟩ := nI_of c0
    have him : i < bs := by
      by_cases q : i < bs
      · exact q
      · exact absurd (nI_le (by omega) hi) c1
    obtain ⟨f, hf, rfl⟩ := nI_of2 (n := 2) (by decide) c2 c3
    have e3 : (3 : Int32) * nI i + nI f = nI (3 * i + f) := by rw [hs_y3.1, nI_add]
    rw [e3, nI_clamp (show 3 * i + f < 2 ^ 31 by omega)]
    have ci : i = 0 ∨ i = 1 := by omega
    rcases ci with rfl | rfl
    · have ef : hs_fd f (b 0) (b 1) (b 2) = b (3 * 0 + f) := by
        rcases hs_i3 (show f < 3 by omega) with rfl | rfl | rfl <;> rfl
      refine br_f c0 (br_f c1 (br_f c2 (br_t c3 (br_t rfl (hs_xfh (hb _) (hb _) (hb _) (by omega) ?_)))))
      rw [ef]
      exact br_f c0 (br_f c1 (br_f c2 (br_t c3 ⟨vp_in_nI (by omega) (by decide), rfl, II⟩)))
    · have ef : hs_fd f (b 3) (b 4) (b 5) = b (3 * 1 + f) := by
        rcases hs_i3 (show f < 3 by omega) with rfl | rfl | rfl <;> rfl
      refine br_f c0 (br_f c1 (br_f c2 (br_t c3 (br_f (by decide) (hs_xfh (hb _) (hb _) (hb _) (by omega) ?_)))))
      rw [ef]
      exact br_f c0 (br_f c1 (br_f c2 (br_t c3 ⟨vp_in_nI (by omega) (by decide), rfl, II⟩)))
  · exact br_f c0 (br_f c1 (br_f c2 (br_f c3 (br_f c0 (br_f c1 (br_f c2 (br_f c3 ⟨rfl, II⟩)))))))
theorem i_vc_inStep {k : Nat} {u : SX} {v : SY} (I : i_Rel k u v) (hk : k + 4 ≤ 2052) : wpX_inStep (fun r => wpY_inStep (fun r' => r' = r ∧ i_Rel (k + 4) u v) v) u := by
  have II : i_Rel (k + 4) u v := I
  revert II
  refine hs_el (P := fun u v => i_Rel (k + 4) u v → wpX_inStep (fun r => wpY_inStep (fun r' => r' = r ∧ i_Rel (k + 4) u v) v) u) ?_ I
  intro wl st ld S h m sk fl wt bs fs cf R hr fx cr ms t1 t2 w F B b tk md hI
  have hI' := hI
  obtain ⟨hwl, hl, hS, hm, hbs, hfs, hb, W, K, HF, HB, T⟩ := hI'
  have hfl := HF.1
  have hwt := HB.1
  intro II
  unfold wpX_inStep wpY_inStep
  dsimp only
  by_cases c0 : bs = 0
  · have e : nI bs = 0 := by rw [c0]; rfl
    exact br_t e (br_t e ⟨rfl, II⟩)
  · have e : ¬ nI bs = 0 := nI_ne0 (by omega) (by omega)
    refine br_f e ⟨m + 1, hs_xin W (by omega) hb (fun z => ?_) (fun z => ?_) m 0 (by omega) (fun i hi => absurd hi (by omega))⟩
    · exact br_f e ⟨m + 1, hs_yin (by omega) W.2.1 hb (fun _ => ⟨rfl, II⟩) (fun n => absurd z n) m 0 (by omega) (fun i hi => absurd hi (by omega))⟩
    · exact br_f e ⟨m + 1, hs_yin (by omega) W.2.1 hb (fun n => absurd n z) (fun _ => ⟨rfl, II⟩) m 0 (by omega) (fun i hi => absurd hi (by omega))⟩
end
section
/-! ===== status ===== -/
theorem i_vc_status {k : Nat} {u : SX} {v : SY} (I : i_Rel k u v) (hk : k + 4 ≤ 2052) (v1 : Int32) : wpX_status (fun r => wpY_status (fun r' => r' = r ∧ i_Rel (k + 4) u v) v v1) u v1 := by
  have II : i_Rel (k + 4) u v := I
  revert II
  refine hs_el (P := fun u v => i_Rel (k + 4) u v → wpX_status (fun r => wpY_status (fun r' => r' = r ∧ i_Rel (k + 4) u v) v v1) u v1) ?_ I
  intro wl st ld S h m sk fl wt bs fs cf R hr fx cr ms t1 t2 w F B b tk md hI
  have hI' := hI
  obtain ⟨hwl, hl, hS, hm, hbs, hfs, hb, W, K, HF, HB, T⟩ := hI'
  have hfl := HF.1
  have hwt := HB.1
  intro II
  unfold wpX_status wpY_status
  dsimp only
  by_cases a : v1 < 0
  · exact br_t a (br_t a ⟨rfl, II⟩)
  by_cases z : 10 < v1
  · exact br_f a (br_t z (br_f a (br_t z ⟨rfl, II⟩)))
  by_cases c0 : v1 = 0
  · exact br_f a (br_f z (br_t c0 (br_f a (br_f z (br_t c0 ⟨rfl, II⟩)))))
  by_cases c1 : v1 = 1
  · exact br_f a (br_f z (br_f c0 (br_t c1 (br_f a (br_f z (br_f c0 (br_t c1 ⟨rfl, II⟩)))))))
  by_cases c2 : v1 = 2
  · exact br_f a (br_f z (br_f c0 (br_f c1 (br_t c2 (br_f a (br_f z (br_f c0 (br_f c1 (br_t c2 ⟨rfl, II⟩)))))))))
  by_cases c3 : v1 = 3
  · exact br_f a (br_f z (br_f c0 (br_f c1 (br_f c2 (br_t c3 (br_f a (br_f z (br_f c0 (br_f c1 (br_f c2 (br_t c3 ⟨rfl, II⟩)))))))))))
  by_cases c4 : v1 = 4
  · exact br_f a (br_f z (br_f c0 (br_f c1 (br_f c2 (br_f c3 (br_t c4 (br_f a (br_f z (br_f c0 (br_f c1 (br_f c2 (br_f c3 (br_t c4 ⟨rfl, II⟩)))))))))))))
  by_cases c5 : v1 = 5
  · exact br_f a (br_f z (br_f c0 (br_f c1 (br_f c2 (br_f c3 (br_f c4 (br_t c5 (br_f a (br_f z (br_f c0 (br_f c1 (br_f c2 (br_f c3 (br_f c4 (br_t c5 ⟨rfl, II⟩)))))))))))))))
  by_cases c6 : v1 = 6
  · exact br_f a (br_f z (br_f c0 (br_f c1 (br_f c2 (br_f c3 (br_f c4 (br_f c5 (br_t c6 (br_f a (br_f z (br_f c0 (br_f c1 (br_f c2 (br_f c3 (br_f c4 (br_f c5 (br_t c6 ⟨rfl, II⟩)))))))))))))))))
  by_cases c7 : v1 = 7
  · exact br_f a (br_f z (br_f c0 (br_f c1 (br_f c2 (br_f c3 (br_f c4 (br_f c5 (br_f c6 (br_t c7 (br_f a (br_f z (br_f c0 (br_f c1 (br_f c2 (br_f c3 (br_f c4 (br_f c5 (br_f c6 (br_t c7 ⟨rfl, II⟩)))))))))))))))))))
  by_cases c8 : v1 = 8
  · exact br_f a (br_f z (br_f c0 (br_f c1 (br_f c2 (br_f c3 (br_f c4 (br_f c5 (br_f c6 (br_f c7 (br_t c8 (br_f a (br_f z (br_f c0 (br_f c1 (br_f c2 (br_f c3 (br_f c4 (br_f c5 (br_f c6 (br_f c7 (br_t c8 ⟨rfl, II⟩)))))))))))))))))))))
  by_cases c9 : v1 = 9
  · exact br_f a (br_f z (br_f c0 (br_f c1 (br_f c2 (br_f c3 (br_f c4 (br_f c5 (br_f c6 (br_f c7 (br_f c8 (br_t c9 (br_f a (br_f z (br_f c0 (br_f c1 (br_f c2 (br_f c3 (br_f c4 (br_f c5 (br_f c6 (br_f c7 (br_f c8 (br_t c9 ⟨rfl, II⟩)))))))))))))))))))))))
  by_cases c10 : v1 = 10
  · exact br_f a (br_f z (br_f c0 (br_f c1 (br_f c2 (br_f c3 (br_f c4 (br_f c5 (br_f c6 (br_f c7 (br_f c8 (br_f c9 (br_t c10 (br_f a (br_f z (br_f c0 (br_f c1 (br_f c2 (br_f c3 (br_f c4 (br_f c5 (br_f c6 (br_f c7 (br_f c8 (br_f c9 (br_t c10 ⟨rfl, II⟩)))))))))))))))))))))))))
  exact br_f a (br_f z (br_f c0 (br_f c1 (br_f c2 (br_f c3 (br_f c4 (br_f c5 (br_f c6 (br_f c7 (br_f c8 (br_f c9 (br_f c10 trivial))))))))))))
/-! ===== lose, miss ===== -/
theorem i_vc_lose {k : Nat} {u : SX} {v : SY} (I : i_Rel k u v) (hk : k + 4 ≤ 2052) (v1 : Int32) : wpX_lose (fun r u' => wpY_lose (fun r' v' => r' = r ∧ i_Rel (k + 4) u' v') v v1) u v1 := by
  refine hs_el (P := fun u v => wpX_lose (fun r u' => wpY_lose (fun r' v' => r' = r ∧ i_Rel (k + 4) u' v') v v1) u v1) ?_ I
  intro wl st ld S h m sk fl wt bs fs cf R hr fx cr ms t1 t2 w F B b tk md hI
  have hI' := hI
  obtain ⟨hwl, hl, hS, hm, hbs, hfs, hb, W, K, HF, HB, T⟩ := hI'
  have hfl := HF.1
  have hwt := HB.1
  rcases pk_ix v1 (n := fl) (by omega) with c | c | ⟨i, hi, rfl⟩
  · unfold wpX_lose wpY_lose
    dsimp only
    exact br_t c (br_t c ⟨rfl, hs_mkR hI⟩)
  · have n0 := hs_ge0 (by omega) c
    have n1 : ¬ v1 < nI fl := Int32.not_lt.mpr c
    unfold wpX_lose wpY_lose
    dsimp only
    exact br_f n0 (br_f n1 (br_f n0 (br_f n1 ⟨rfl, hs_mkR hI⟩)))
  · unfold wpX_lose
    dsimp only
    refine br_f (nI_pos (by omega)) (br_t (nI_lt hi (by omega)) (hs_xrp hfl hi (hs_ylose hfl hi ⟨rfl, ?_⟩)))
    exact hs_mkR ⟨hwl, hl, hS, hm, hbs, hfs, hb, W, K, hs_F_del HF hi, HB, T⟩
theorem i_vc_miss {k : Nat} {u : SX} {v : SY} (I : i_Rel k u v) (hk : k + 4 ≤ 2052) (v1 : Int32) : wpX_miss (fun r u' => wpY_miss (fun r' v' => r' = r ∧ i_Rel (k + 4) u' v') v v1) u v1 := by
  refine hs_el (P := fun u v => wpX_miss (fun r u' => wpY_miss (fun r' v' => r' = r ∧ i_Rel (k + 4) u' v') v v1) u v1) ?_ I
  intro wl st ld S h m sk fl wt bs fs cf R hr fx cr ms t1 t2 w F B b tk md hI
  have hI' := hI
  obtain ⟨hwl, hl, hS, hm, hbs, hfs, hb, W, K, HF, HB, T⟩ := hI'
  have hfl := HF.1
  have hwt := HB.1
  rcases pk_ix v1 (n := wt) (by omega) with c | c | ⟨i, hi, rfl⟩
  · unfold wpX_miss wpY_miss
    dsimp only
    exact br_t c (br_t c ⟨rfl, hs_mkR hI⟩)
  · have n0 := hs_ge0 (by omega) c
    have n1 : ¬ v1 < nI wt := Int32.not_lt.mpr c
    unfold wpX_miss wpY_miss
    dsimp only
    exact br_f n0 (br_f n1 (br_f n0 (br_f n1 ⟨rfl, hs_mkR hI⟩)))
  · unfold wpX_miss
    dsimp only
    refine br_f (nI_pos (by omega)) (br_t (nI_lt hi (by omega)) (hs_xrm hwt hi (hs_ymiss hwt hi ⟨rfl, ?_⟩)))
    exact hs_mkR ⟨hwl, hl, hS, hm, hbs, hfs, hb, W, K, HF, hs_B_del HB hi, T⟩
/-! ===== deliver ===== -/
theorem i_vc_deliver {k : Nat} {u : SX} {v : SY} (I : i_Rel k u v) (hk : k + 4 ≤ 2052) (v1 : Int32) : wpX_deliver (fun r u' => wpY_deliver (fun r' v' => r' = r ∧ i_Rel (k + 4) u' v') v v1) u v1 := by
  refine hs_el (P := fun u v => wpX_deliver (fun r u' => wpY_deliver (fun r' v' => r' = r ∧ i_Rel (k + 4) u' v') v v1) u v1) ?_ I
  intro wl st ld S h m sk fl wt bs fs cf R hr fx cr ms t1 t2 w F B b tk md hI
  have hI' := hI
  obtain ⟨hwl, hl, hS, hm, hbs, hfs, hb, W, K, HF, HB, T⟩ := hI'
  have hfl := HF.1
  have hwt := HB.1
  rcases pk_ix v1 (n := fl) (by omega) with c | c | ⟨i, hi, rfl⟩
  · unfold wpX_deliver wpY_deliver
    dsimp only
    exact br_t c (br_t c ⟨rfl, hs_mkR hI⟩)
  · have n0 := hs_ge0 (by omega) c
    have n1 : ¬ v1 < nI fl := Int32.not_lt.mpr c
    unfold wpX_deliver wpY_deliver
    dsimp only
    exact br_f n0 (br_f n1 (br_f n0 (br_f n1 ⟨rfl, hs_mkR hI⟩)))
  · obtain ⟨r, bs', fs', kk, s, b', o, o1, o2, o3, o4, o5, o6⟩ := hs_out_ex (st := st) (ld := ld) (g := hs_g F i) hbs hfs hb
    refine hs_xdel hl hwt hbs hfs hb T HF hi o (hs_ydel hl hwt hbs hfs hfl hi (HF.2 i hi).1 o (fun tk' md' => ⟨rfl, ?_⟩))
    exact hs_mkR ⟨hwl, hl, hS, hm, o2, o3, o6, W, K, hs_F_del HF hi, hs_B_em HB o4 o5, T⟩
/-! ===== hear ===== -/
theorem i_vc_hear {k : Nat} {u : SX} {v : SY} (I : i_Rel k u v) (hk : k + 4 ≤ 2052) (v1 : Int32) : wpX_hear (fun r u' => wpY_hear (fun r' v' => r' = r ∧ i_Rel (k + 4) u' v') v v1) u v1 := by
  refine hs_el (P := fun u v => wpX_hear (fun r u' => wpY_hear (fun r' v' => r' = r ∧ i_Rel (k + 4) u' v') v v1) u v1) ?_ I
  intro wl st ld S h m sk fl wt bs fs cf R hr fx cr ms t1 t2 w F B b tk md hI
  have hI' := hI
  obtain ⟨hwl, hl, hS, hm, hbs, hfs, hb, W, K, HF, HB, T⟩ := hI'
  have hfl := HF.1
  have hwt := HB.1
  have hm16 : m ≤ 16 := by omega
  rcases pk_ix v1 (n := wt) (by omega) with c | c | ⟨j, hj, rfl⟩
  · unfold wpX_hear wpY_hear
    dsimp only
    exact br_t c (br_t c ⟨rfl, hs_mkR hI⟩)
  · have n0 := hs_ge0 (by omega) c
    have n1 : ¬ v1 < nI wt := Int32.not_lt.mpr c
    unfold wpX_hear wpY_hear
    dsimp only
    exact br_f n0 (br_f n1 (br_f n0 (br_f n1 ⟨rfl, hs_mkR hI⟩)))
  · obtain ⟨hk2, hs2, ex⟩ := HB.2 j hj
    have HB' := hs_B_del HB hj
    refine hs_xhear hwt hj hk2 hs2 ex (fun k0 => ?_) (fun k2 => ?_) (fun k1 => ?_)
    · by_cases q : ∃ i, i < m ∧ w (3 * i) = B (2 * j + 1)
      · obtain ⟨i, ⟨hi, e⟩, hn⟩ := pk_least (fun i => i < m ∧ w (3 * i) = B (2 * j + 1)) q
        have hn' : ∀ p, p < i → w (3 * p) ≠ B (2 * j + 1) := fun p hp z => hn p hp ⟨by omega, z⟩
        have he : ∀ p, p < m - i → hs_e st (hs_sh w 0 (3 * m - 3 * i) (3 * i)) p = hs_e st w (p + i) := by
          intro p hp
          show (_, _) = (_, _)
          rw [hs_cw_sh hp, hs_cw_sh hp]
        have W' := hs_W_drop W (n := i) (by omega)
        have K' := hs_K_drop K (n := i) (by omega) he
        have al := hs_K_all K' (by omega)
        refine hs_xhA (al := if m - i ≤ sk then 1 else 0) W hm16 hs2 hS K.1 hi e hn' (fun y => by rw [if_pos y]; decide) (fun y => if_neg y) ?_
        refine hs_yhear hwt hj hk2 rfl rfl (fun _ => ⟨m + 1, hs_yh85 hm16 W.2.1 hs2 hi e hn' ?_ m (-1) _ (hs_ym1 m) (Nat.le_refl _) (fun y => absurd y (by omega))⟩) (fun y => absurd y (by omega)) (fun y => absurd y (by omega))
        refine hs_yh132 (al := if m - i ≤ sk then 1 else 0) hS (by omega) W'.2.1 (fun y => if_pos (al.mpr y)) (fun y => if_neg (fun x => y (al.mp x))) ⟨rfl, ?_⟩
        exact hs_mkR ⟨hwl, hl, hs_S3_le hS, by omega, hbs, hfs, hb, W', K', HF, HB', T⟩
      · have hn : ∀ p, p < m → w (3 * p) ≠ B (2 * j + 1) := fun p hp z => q ⟨p, hp, z⟩
        refine hs_xhN W hm16 hs2 hn ?_
        refine hs_yhear hwt hj hk2 rfl rfl (fun _ => ⟨m + 1, hs_yh85N hm16 W.2.1 hs2 hn ⟨rfl, ?_⟩ m _ (hs_ym1 m) (Nat.le_refl _)⟩) (fun y => absurd y (by omega)) (fun y => absurd y (by omega))
        exact hs_mkR ⟨hwl, hl, hS, hm, hbs, hfs, hb, W, K, HF, HB', T⟩
    · refine hs_yhear hwt hj hk2 rfl rfl (fun y => absurd y (by omega)) (fun _ => ⟨rfl, ?_⟩) (fun y => absurd y (by omega))
      exact hs_mkR (S := 0) (R := 0) ⟨hwl, hl, by decide, hm, hbs, hfs, hb, W, K, HF, HB', T⟩
    · refine ⟨fun z => ?_, fun z => ?_⟩
      · refine hs_yhear hwt hj hk2 rfl rfl (fun y => absurd y (by omega)) (fun y => absurd y (by omega)) (fun _ => ⟨fun _ => ⟨rfl, ?_⟩, fun n => absurd z n⟩)
        exact hs_mkR ⟨hwl, hl, hS, hm, hbs, hfs, hb, W, K, HF, HB', T⟩
      · refine hs_yhear hwt hj hk2 rfl rfl (fun y => absurd y (by omega)) (fun y => absurd y (by omega)) (fun _ => ⟨fun n => absurd n z, fun _ => ⟨rfl, ?_⟩⟩)
        exact hs_mkR (S := 1) (R := 0) ⟨hwl, hl, by decide, hm, hbs, hfs, hb, W, K, HF, HB', T⟩
/-! ===== send ===== -/
theorem hs_wdex (st ld S m s t d : Nat) (w : Nat → Nat) : ∃ wd : Nat → Nat, (∀ f, f < 3 → wd f ≤ 12) ∧ (S = 0 → ∀ f, f < 3 → wd f = 12) ∧
    (S ≠ 0 → ∀ f, f < 3 → hs_least (fun k => ∀ i, i < m → hs_ex ld f ((hs_cd st f s t d : Nat) - (hs_cw st w f i : Nat) : Int) ≤ 2 ^ k) (wd f)) := by
  by_cases c : S = 0
  · exact ⟨fun _ => 12, fun _ _ => Nat.le_refl _, fun _ _ _ => rfl, fun n => absurd c n⟩
  · have hex : ∀ f, ∃ r, hs_least (fun k => ∀ i, i < m → hs_ex ld f ((hs_cd st f s t d : Nat) - (hs_cw st w f i : Nat) : Int) ≤ 2 ^ k) r := fun f => hs_least_ex _
    exact ⟨fun f => Classical.choose (hex f), fun f _ => (Classical.choose_spec (hex f)).1, fun z => absurd z c, fun _ f _ => Classical.choose_spec (hex f)⟩
theorem i_vc_send {k : Nat} {u : SX} {v : SY} (I : i_Rel k u v) (hk : k + 4 ≤ 2052) (v1 : Int32) (v2 : Int32) (v3 : Int32) : wpX_send (fun r u' => wpY_send (fun r' v' => r' = r ∧ i_Rel (k + 4) u' v') v v1 v2 v3) u v1 v2 v3 := by
  refine hs_el (P := fun u v => wpX_send (fun r u' => wpY_send (fun r' v' => r' = r ∧ i_Rel (k + 4) u' v') v v1 v2 v3) u v1 v2 v3) ?_ I
  intro wl st ld S h m sk fl wt bs fs cf R hr fx cr ms t1 t2 w F B b tk md hI
  have hI' := hI
  obtain ⟨hwl, hl, hS, hm, hbs, hfs, hb, W, K, HF, HB, T⟩ := hI'
  have hfl := HF.1
  have hwt := HB.1
  by_cases c : fl < 16
  · obtain ⟨s, hs, q0⟩ := pk_andE v1 (m := 4095) 12 (by decide)
    obtain ⟨t, ht, q1⟩ := pk_andE v2 (m := 4095) 12 (by decide)
    obtain ⟨d, hd, q2⟩ := pk_andE v3 (m := 4095) 12 (by decide)
    have hs' : s < 4096 := hs
    have ht' : t < 4096 := ht
    have hd' : d < 4096 := hd
    obtain ⟨wd, hw, h0, hN⟩ := hs_wdex st ld S m s t d w
    obtain ⟨h', sk', hr', cr', W', K', hX⟩ := hs_xsend (xcf := cf) (xR := R) (xwt := nI wt) (xbs := nI bs) (xfs := nI fs) (xnw := lN (hs_hd (b 0) (b 1) (b 2))) (xol := lN (hs_hd (b 3) (b 4) (b 5))) (xfx := fx) (xms := ms) q0 q1 q2 hs' ht' hd' hwl hm hl hS c W K T hw h0 hN
    refine hX _ (hs_ysend q0 q1 q2 hs' ht' hd' hwl hm hl hS c hw h0 hN ⟨rfl, ?_⟩)
    have hK := hs_kd_le (z := hs_zf (wd 1) (wd 2)) hS
    have hc := hs_ck_lt (K := hs_kd S (hs_zf (wd 1) (wd 2))) (hs_hd_lt hs' ht' hd')
    have h0' : hs_kd S (hs_zf (wd 1) (wd 2)) = 0 → ∀ f, f < 3 → wd f = 12 := by
      intro y
      unfold hs_kd at y
      split at y
      · omega
      · exact h0 y
    have HF' := hs_F_add (fx' := vp_updL fx fl (lN (hs_pk (hs_bg (hs_kd S (hs_zf (wd 1) (wd 2))) (hs_ck (hs_kd S (hs_zf (wd 1) (wd 2))) (hs_hd s t d)) wd (fun f => hs_cd st f s t d)))))
      (F' := hs_fn F (8 * fl) (hs_kd S (hs_zf (wd 1) (wd 2))) (hs_ck (hs_kd S (hs_zf (wd 1) (wd 2))) (hs_hd s t d)) wd (fun f => hs_cd st f s t d)) HF c
      (hs_ok_c (fun q hq => hs_fn_g hq) (hs_bg_ok hK hw hc h0')) (by rw [hs_pk_c (g' := hs_g (hs_fn F (8 * fl) (hs_kd S (hs_zf (wd 1) (wd 2))) (hs_ck (hs_kd S (hs_zf (wd 1) (wd 2))) (hs_hd s t d)) wd (fun f => hs_cd st f s t d)) fl) (fun q hq => hs_fn_g hq)]) (fun j hj => hs_fn_lo hj)
    exact hs_mkR ⟨hwl, hl, hs_s2_le hK, by unfold hs_m1; split <;> omega, hbs, hfs, hb, W', K', HF', HB, T⟩
  · have n : ¬ nI fl < 16 := nI_nlt (b := 16) (by omega) (by omega)
    unfold wpX_send wpY_send
    dsimp only
    exact br_f n (br_f n ⟨rfl, hs_mkR hI⟩)
end
