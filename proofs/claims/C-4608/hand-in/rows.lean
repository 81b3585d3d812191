section
/-! rows of the kit (kit/rows), pasted -/
theorem pk_us {f : Nat → Int32} {k : Nat} {x : Int32} : upd f k x k = x := if_pos rfl
theorem pk_un {f : Nat → Int32} {k j : Nat} {x : Int32} (h : j ≠ k) : upd f k x j = f j := if_neg h
theorem pk_uLs {f : Nat → Int64} {k : Nat} {x : Int64} : vp_updL f k x k = x := if_pos rfl
theorem pk_uLn {f : Nat → Int64} {k j : Nat} {x : Int64} (h : j ≠ k) : vp_updL f k x j = f j := if_neg h
theorem pk_sub {a b : Nat} (h : b ≤ a) : nI a - nI b = nI (a - b) := by
  obtain ⟨c, rfl⟩ : ∃ c, a = c + b := ⟨a - b, by omega⟩
  rw [← nI_add, Int32.add_sub_cancel, Nat.add_sub_cancel]
theorem pk_m1 (n : Nat) : nI (n + 1) + (-1) = nI n := by
  rw [← nI_1, Int32.add_assoc, show (1 : Int32) + (-1) = 0 from rfl, Int32.add_zero]
theorem pk_mul (a b : Nat) : nI a * nI b = nI (a * b) := (Int32.ofNat_mul a b).symm
theorem pk_div {a d : Nat} (ha : a < 2 ^ 31) (h0 : 0 < d) (hd : d < 2 ^ 31) : nI a / nI d = nI (a / d) := by
  apply Int32.toInt_inj.mp
  rw [lg_idiv_nonneg (by rw [nI_toInt ha]; omega) (by rw [nI_toInt hd]; omega), nI_toInt ha, nI_toInt hd, nI_toInt (Nat.lt_of_le_of_lt (Nat.div_le_self a d) ha)]
  first | rfl | exact (Int.natCast_ediv _ _).symm
theorem pk_rem {a d : Nat} (ha : a < 2 ^ 31) (h0 : 0 < d) (hd : d < 2 ^ 31) : nI a - nI a / nI d * nI d = nI (a % d) := by
  rw [pk_div ha h0 hd, pk_mul, pk_sub (Nat.div_mul_le_self a d)]
  exact congrArg nI (by have := Nat.div_add_mod' a d; omega)
theorem pk_sub_toInt {a b : Nat} (ha : a < 2 ^ 30) (hb : b < 2 ^ 30) : (nI a - nI b).toInt = (a : Int) - b := by
  rw [Int32.toInt_sub, nI_toInt (by omega), nI_toInt (by omega)]
  exact Int.bmod_eq_of_le (by omega) (by omega)
theorem pk_sneg {a b : Nat} (hb : b < 2 ^ 30) (h : a < b) : nI a - nI b < 0 := by
  rw [Int32.lt_iff_toInt_lt, pk_sub_toInt (by omega) hb, show (0 : Int32).toInt = 0 from by decide]
  omega
theorem pk_ix (x : Int32) {n : Nat} (hn : n < 2 ^ 31) : x < 0 ∨ nI n ≤ x ∨ ∃ j : Nat, j < n ∧ x = nI j := by
  by_cases h : x < 0
  · exact Or.inl h
  · obtain ⟨j, hj, rfl⟩ := nI_of h
    by_cases h2 : j < n
    · exact Or.inr (Or.inr ⟨j, h2, rfl⟩)
    · exact Or.inr (Or.inl (nI_le (by omega) hj))
theorem pk_le {x y : Int32} {A B : Prop} (a b : Nat) (f : a ≤ b → A) (g : b < a → B) (hx : x = nI a := by rfl) (hy : y = nI b := by rfl) (ha : a < 2 ^ 31 := by omega) (hb : b < 2 ^ 31 := by omega) : (x ≤ y → A) ∧ (¬ x ≤ y → B) := by
  subst hx hy
  rw [nI_leI ha hb]
  exact ⟨f, fun z => g (by omega)⟩
theorem pk_lt {x y : Int32} {A B : Prop} (a b : Nat) (f : a < b → A) (g : b ≤ a → B) (hx : x = nI a := by rfl) (hy : y = nI b := by rfl) (ha : a < 2 ^ 31 := by omega) (hb : b < 2 ^ 31 := by omega) : (x < y → A) ∧ (¬ x < y → B) := by
  subst hx hy
  rw [nI_ltI ha hb]
  exact ⟨f, fun z => g (by omega)⟩
theorem pk_eq {x y : Int32} {A B : Prop} (a b : Nat) (f : a = b → A) (g : a ≠ b → B) (hx : x = nI a := by rfl) (hy : y = nI b := by rfl) (ha : a < 2 ^ 31 := by omega) (hb : b < 2 ^ 31 := by omega) : (x = y → A) ∧ (¬ x = y → B) := by
  subst hx hy
  rw [nI_eq ha hb]
  exact ⟨f, g⟩
theorem pk_in {x : Int32} (n N : Nat) (h : n < N) (hx : x = nI n := by rfl) (hN : N < 2 ^ 31 := by omega) : vp_in x N := by
  subst hx
  exact vp_in_nI h hN
theorem pk_cl {x : Int32} (n : Nat) (hx : x = nI n := by rfl) (h : n < 2 ^ 31 := by omega) : x.toNatClampNeg = n := by
  subst hx
  exact nI_clamp h
theorem pk_tn {n : Nat} (h : n < 2 ^ 32) : (nI n).toBitVec.toNat = n := Nat.mod_eq_of_lt h
theorem pk_and (x : Int32) {m : Int32} (k : Nat) (hm : m.toBitVec.toNat = 2 ^ k - 1) : x &&& m = nI (x.toBitVec.toNat % 2 ^ k) := by
  apply Int32.toBitVec_inj.mp
  apply BitVec.eq_of_toNat_eq
  rw [Int32.toBitVec_and, BitVec.toNat_and, hm, Nat.and_two_pow_sub_one_eq_mod]
  show _ = (BitVec.ofNat 32 _).toNat
  rw [BitVec.toNat_ofNat]
  exact (Nat.mod_eq_of_lt (Nat.lt_of_le_of_lt (Nat.mod_le _ _) x.toBitVec.isLt)).symm
theorem pk_andN {n : Nat} (h : n < 2 ^ 32) {m : Int32} (k : Nat) (hm : m.toBitVec.toNat = 2 ^ k - 1) : nI n &&& m = nI (n % 2 ^ k) := by
  rw [pk_and _ k hm, pk_tn h]
theorem pk_andE (x : Int32) {m : Int32} (k : Nat) (hm : m.toBitVec.toNat = 2 ^ k - 1) : ∃ j : Nat, j < 2 ^ k ∧ x &&& m = nI j := ⟨_, Nat.mod_lt _ (Nat.two_pow_pos k), pk_and x k hm⟩
theorem pk_andIn (x : Int32) {m : Int32} (k : Nat) (hm : m.toBitVec.toNat = 2 ^ k - 1) (hk : k ≤ 30) : vp_in (x &&& m) (2 ^ k) := by
  obtain ⟨j, hj, e⟩ := pk_andE x k hm
  rw [e]
  exact vp_in_nI hj (Nat.lt_of_le_of_lt (Nat.pow_le_pow_right (by decide) hk) (by decide))
theorem pk_shl (a s : Int32) (k : Nat) (hs : (s.toBitVec.smod 32).toNat = k) : (a <<< s).toBitVec.toNat = a.toBitVec.toNat * 2 ^ k % 2 ^ 32 := by
  show (a.toBitVec <<< (s.toBitVec.smod 32).toNat).toNat = _
  rw [hs, BitVec.toNat_shiftLeft, Nat.shiftLeft_eq]
theorem pk_shlN {n : Nat} (s : Int32) (k : Nat) (hs : (s.toBitVec.smod 32).toNat = k) (h : n * 2 ^ k < 2 ^ 32) : nI n <<< s = nI (n * 2 ^ k) := by
  apply Int32.toBitVec_inj.mp
  apply BitVec.eq_of_toNat_eq
  have hn : n < 2 ^ 32 := Nat.lt_of_le_of_lt (Nat.le_mul_of_pos_right n (Nat.two_pow_pos k)) h
  rw [pk_shl _ _ k hs, pk_tn hn, pk_tn h, Nat.mod_eq_of_lt h]
theorem pk_shr (a s : Int32) (k : Nat) (hs : (s.toBitVec.smod 32).toNat = k) : (a >>> s).toInt = a.toInt >>> k := by
  show (a.toBitVec.sshiftRight (s.toBitVec.smod 32).toNat).toInt = _
  rw [hs, BitVec.toInt_sshiftRight]
  rfl
theorem pk_shrN {n : Nat} (h : n < 2 ^ 31) (s : Int32) (k : Nat) (hs : (s.toBitVec.smod 32).toNat = k) : nI n >>> s = nI (n / 2 ^ k) := by
  apply Int32.toInt_inj.mp
  have h2 : n / 2 ^ k ≤ n := Nat.div_le_self _ _
  rw [pk_shr _ _ k hs, nI_toInt h, nI_toInt (by omega), Int.shiftRight_eq_div_pow]
  rfl
theorem pk_ushr (x s : Int32) (k : Nat) (hs : ((s.toUInt32 &&& Int32.toUInt32 31).toBitVec % 32).toNat = k) : (x.toUInt32 >>> (s.toUInt32 &&& Int32.toUInt32 31)).toInt32.toBitVec.toNat = x.toBitVec.toNat / 2 ^ k := by
  have e : (x.toUInt32 >>> (s.toUInt32 &&& Int32.toUInt32 31)).toInt32.toBitVec = x.toBitVec >>> k := by
    rw [← hs]
    exact UInt32.toBitVec_shiftRight _ _
  rw [e, BitVec.toNat_ushiftRight, Nat.shiftRight_eq_div_pow]
theorem pk_ushrN {n : Nat} (hn : n < 2 ^ 32) (s : Int32) (k : Nat) (hs : ((s.toUInt32 &&& Int32.toUInt32 31).toBitVec % 32).toNat = k) : ((nI n).toUInt32 >>> (s.toUInt32 &&& Int32.toUInt32 31)).toInt32 = nI (n / 2 ^ k) := by
  apply Int32.toBitVec_inj.mp
  apply BitVec.eq_of_toNat_eq
  rw [pk_ushr _ s k hs, pk_tn hn, pk_tn (Nat.lt_of_le_of_lt (Nat.div_le_self _ _) hn)]
theorem pk_lT {n : Nat} (h : n < 2 ^ 63) : (lN n).toInt = (n : Int) := lg_ofNat_toInt h
theorem pk_lLT {a b : Nat} (ha : a < 2 ^ 63) (hb : b < 2 ^ 63) : lN a < lN b ↔ a < b := by
  rw [Int64.lt_iff_toInt_lt, pk_lT ha, pk_lT hb]; omega
theorem pk_lLE {a b : Nat} (ha : a < 2 ^ 63) (hb : b < 2 ^ 63) : lN a ≤ lN b ↔ a ≤ b := by
  rw [Int64.le_iff_toInt_le, pk_lT ha, pk_lT hb]; omega
theorem pk_lEQ {a b : Nat} (ha : a < 2 ^ 63) (hb : b < 2 ^ 63) : lN a = lN b ↔ a = b := by
  rw [← Int64.toInt_inj, pk_lT ha, pk_lT hb]; omega
theorem pk_lOf {x : Int64} (h : ¬ x < 0) : ∃ k : Nat, k < 2 ^ 63 ∧ x = lN k := by
  rw [Int64.lt_iff_toInt_lt] at h
  have h0 : (0 : Int64).toInt = 0 := by decide
  have hx := Int64.toInt_lt x
  refine ⟨x.toInt.toNat, by omega, Int64.toInt_inj.mp ?_⟩
  rw [pk_lT (by omega)]
  omega
theorem pk_lDiv {a b : Nat} (ha : a < 2 ^ 63) (h0 : 0 < b) (hb : b < 2 ^ 63) : lN a / lN b = lN (a / b) := by
  apply Int64.toInt_inj.mp
  rw [lg_ldiv_nonneg (by rw [pk_lT ha]; omega) (by rw [pk_lT hb]; omega), pk_lT ha, pk_lT hb, pk_lT (Nat.lt_of_le_of_lt (Nat.div_le_self a b) ha)]
  rfl
theorem pk_lRem {a b : Nat} (ha : a < 2 ^ 63) (h0 : 0 < b) (hb : b < 2 ^ 63) : lN a - lN a / lN b * lN b = lN (a % b) := by
  rw [pk_lDiv ha h0 hb, lN_mul, lN_sub (Nat.div_mul_le_self a b)]
  exact congrArg lN (by have := Nat.div_add_mod' a b; omega)
theorem pk_loop {σ : Type} (W : Nat → Nat → σ → Prop) (I : Nat → σ → Prop) (e i0 : Nat) (s : σ) (hi : i0 ≤ e) (h0 : I i0 s) (hx : ∀ n s, I e s → W (n + 1) e s)
    (hs : ∀ n i s, i < e → I i s → (∀ s', I (i + 1) s' → W n (i + 1) s') → W (n + 1) i s) : ∃ n, W n i0 s :=
  ⟨e + 1, loop_i W I e hx hs (e + 1) i0 s hi (by omega) h0⟩
theorem pk_loopD {σ : Type} (W : Nat → Nat → σ → Prop) (I : Nat → σ → Prop) (hx : ∀ n s, I 0 s → W (n + 1) 0 s)
    (hs : ∀ n i s, I (i + 1) s → (∀ s', I i s' → W n i s') → W (n + 1) (i + 1) s) : ∀ (e : Nat) (s : σ), I e s → W (e + 1) e s := by
  intro e
  induction e with
  | zero => exact fun s h => hx 0 s h
  | succ e ih => exact fun s h => hs (e + 1) e s h (fun s' h' => ih s' h')
/-! ===== Int32 by its bits: bt x i ===== -/
def bt (x : Int32) (i : Nat) : Bool := x.toBitVec.getLsbD i
theorem b_ext {x y : Int32} (h : ∀ i, i < 32 → bt x i = bt y i) : x = y := Int32.toBitVec_inj.mp (BitVec.eq_of_getLsbD_eq (fun i hi => h i hi))
theorem b_or (x y : Int32) (i : Nat) : bt (x ||| y) i = (bt x i || bt y i) := by unfold bt; rw [Int32.toBitVec_or, BitVec.getLsbD_or]
theorem b_and (x y : Int32) (i : Nat) : bt (x &&& y) i = (bt x i && bt y i) := by unfold bt; rw [Int32.toBitVec_and, BitVec.getLsbD_and]
theorem b_xor (x y : Int32) (i : Nat) : bt (x ^^^ y) i = (bt x i ^^ bt y i) := by unfold bt; rw [Int32.toBitVec_xor, BitVec.getLsbD_xor]
theorem b_big {x : Int32} {i : Nat} (h : 32 ≤ i) : bt x i = false := BitVec.getLsbD_of_ge _ _ h
theorem b_255 (i : Nat) : bt 255 i = decide (i < 8) := by
  rcases Nat.lt_or_ge i 32 with h | h
  · exact (by decide +kernel : ∀ i, i < 32 → bt 255 i = decide (i < 8)) i h
  · rw [b_big h, decide_eq_false (by omega)]
theorem b_65535 (i : Nat) : bt 65535 i = decide (i < 16) := by
  rcases Nat.lt_or_ge i 32 with h | h
  · exact (by decide +kernel : ∀ i, i < 32 → bt 65535 i = decide (i < 16)) i h
  · rw [b_big h, decide_eq_false (by omega)]
theorem b_m1 : ∀ i, i < 32 → bt (-1) i = true := by decide +kernel
theorem b_0 (i : Nat) : bt 0 i = false := BitVec.getLsbD_zero
theorem s_l : ∀ n, n < 32 → ((nI n &&& 31).toBitVec.smod 32).toNat = n := by decide +kernel
theorem s_u : ∀ n, n < 32 → (((nI n).toUInt32 &&& Int32.toUInt32 31).toBitVec % 32).toNat = n := by decide +kernel
theorem b_shl (n : Nat) (hn : n < 32) (x : Int32) {i : Nat} (hi : i < 32) : bt (x <<< (nI n &&& 31)) i = (decide (n ≤ i) && bt x (i - n)) := by
  unfold bt
  rw [Int32.toBitVec_shiftLeft]
  show (x.toBitVec <<< ((nI n &&& 31).toBitVec.smod 32).toNat).getLsbD i = _
  rw [s_l n hn, BitVec.getLsbD_shiftLeft]
  rcases Nat.lt_or_ge i n with h | h
  · simp [h, Nat.not_le.mpr h]
  · simp [hi, h, Nat.not_lt.mpr h]
theorem b_ushr (n : Nat) (hn : n < 32) (x : Int32) (i : Nat) : bt ((x.toUInt32 >>> ((nI n).toUInt32 &&& Int32.toUInt32 31)).toInt32) i = bt x (n + i) := by
  show (x.toUInt32 >>> ((nI n).toUInt32 &&& Int32.toUInt32 31)).toBitVec.getLsbD i = x.toUInt32.toBitVec.getLsbD (n + i)
  rw [UInt32.toBitVec_shiftRight]
  show (x.toUInt32.toBitVec >>> (((nI n).toUInt32 &&& Int32.toUInt32 31).toBitVec % 32).toNat).getLsbD i = _
  rw [s_u n hn, BitVec.getLsbD_ushiftRight]
theorem b_sshr (n : Nat) (hn : n < 32) (x : Int32) {i : Nat} (hi : i < 32) : bt (x >>> (nI n &&& 31)) i = if n + i < 32 then bt x (n + i) else bt x 31 := by
  unfold bt
  rw [Int32.toBitVec_shiftRight]
  show (x.toBitVec.sshiftRight ((nI n &&& 31).toBitVec.smod 32).toNat).getLsbD i = _
  rw [s_l n hn, BitVec.getLsbD_sshiftRight, BitVec.msb_eq_getLsbD_last]
  simp [hi]
theorem b_shl8 (x : Int32) {i : Nat} (hi : i < 32) : bt (x <<< ((8 : Int32) &&& 31)) i = (decide (8 ≤ i) && bt x (i - 8)) := b_shl 8 (by omega) x hi
theorem b_shl16 (x : Int32) {i : Nat} (hi : i < 32) : bt (x <<< ((16 : Int32) &&& 31)) i = (decide (16 ≤ i) && bt x (i - 16)) := b_shl 16 (by omega) x hi
theorem b_shl24 (x : Int32) {i : Nat} (hi : i < 32) : bt (x <<< ((24 : Int32) &&& 31)) i = (decide (24 ≤ i) && bt x (i - 24)) := b_shl 24 (by omega) x hi
theorem b_sshr8 (x : Int32) {i : Nat} (hi : i < 32) : bt (x >>> ((8 : Int32) &&& 31)) i = if 8 + i < 32 then bt x (8 + i) else bt x 31 := b_sshr 8 (by omega) x hi
/-! ===== nI under and, xor, >>>, one bit, 65535 ===== -/
theorem nx_and (a b : Nat) : nI a &&& nI b = nI (a &&& b) := by
  apply Int32.toBitVec_inj.1
  show BitVec.ofNat 32 a &&& BitVec.ofNat 32 b = BitVec.ofNat 32 (a &&& b)
  apply BitVec.eq_of_getLsbD_eq
  intro i hi
  simp [hi]
theorem nx_xor (a b : Nat) : nI a ^^^ nI b = nI (a ^^^ b) := by
  apply Int32.toBitVec_inj.1
  show BitVec.ofNat 32 a ^^^ BitVec.ofNat 32 b = BitVec.ofNat 32 (a ^^^ b)
  apply BitVec.eq_of_getLsbD_eq
  intro i hi
  simp [hi]
theorem nx_cnt : ∀ j : Fin 32, (UInt32.ofNat j.val &&& Int32.toUInt32 31).toNat % 32 = j.val := by decide +kernel
theorem nx_ush {k j : Nat} (hk : k < 65536) (hj : j < 32) : ((nI k).toUInt32 >>> ((nI j).toUInt32 &&& Int32.toUInt32 31)).toInt32 = nI (k >>> j) := by
  have hs : k >>> j ≤ k := by
    rw [Nat.shiftRight_eq_div_pow]
    exact Nat.div_le_self _ _
  have e2 : UInt32.ofNat k >>> (UInt32.ofNat j &&& Int32.toUInt32 31) = UInt32.ofNat (k >>> j) := by
    apply UInt32.toNat_inj.1
    have h1 : (UInt32.ofNat k).toNat = k := Nat.mod_eq_of_lt (by omega)
    have h2 : (UInt32.ofNat (k >>> j)).toNat = k >>> j := Nat.mod_eq_of_lt (by omega)
    rw [UInt32.toNat_shiftRight, nx_cnt ⟨j, hj⟩, h1, h2]
  show (UInt32.ofNat k >>> (UInt32.ofNat j &&& Int32.toUInt32 31)).toInt32 = _
  rw [e2]
  rfl
theorem nx_bit {k j : Nat} (hk : k < 65536) (hj : j < 16) : (((nI k).toUInt32 >>> ((nI j).toUInt32 &&& Int32.toUInt32 31)).toInt32 &&& 1) = 0 ↔ k.testBit j = false := by
  rw [nx_ush hk (by omega)]
  show nI (k >>> j) &&& nI 1 = 0 ↔ _
  rw [nx_and, Nat.and_one_is_mod, ← nI_0, nI_eq (by omega) (by omega), Nat.testBit_eq_decide_div_mod_eq, Nat.shiftRight_eq_div_pow, decide_eq_false_iff_not]
  generalize k / 2 ^ j = z
  omega
theorem nx_mod (k : Nat) : nI k &&& 65535 = nI (k % 65536) := by
  show nI k &&& nI 65535 = _
  rw [nx_and, show (65535 : Nat) = 2 ^ 16 - 1 from rfl, Nat.and_two_pow_sub_one_eq_mod]
theorem nx_m16 {k : Nat} (h : k < 65536) : nI k &&& 65535 = nI k := by rw [nx_mod, Nat.mod_eq_of_lt h]
theorem nx_mask (x : Int32) : ∃ k, k < 65536 ∧ x &&& 65535 = nI k := by
  have e : x = nI x.toBitVec.toNat := by
    apply Int32.toBitVec_inj.1
    show x.toBitVec = BitVec.ofNat 32 x.toBitVec.toNat
    simp
  refine ⟨x.toBitVec.toNat % 65536, Nat.mod_lt _ (by omega), ?_⟩
  rw [← nx_mod, ← e]
/-! ===== lN n to 2^64: shifts, and, or, masks, one bit ===== -/
theorem wb_tb (n : Nat) : (lN n).toBitVec = BitVec.ofNat 64 n := rfl
theorem wb_inj {a b : Int64} (h : a.toBitVec = b.toBitVec) : a = b := Int64.toBitVec_inj.mp h
theorem wb_tn {n : Nat} (h : n < 2 ^ 64) : (lN n).toBitVec.toNat = n := by rw [wb_tb, BitVec.toNat_ofNat, Nat.mod_eq_of_lt h]
theorem wb_of (x : Int64) : ∃ n, n < 2 ^ 64 ∧ x = lN n := ⟨x.toBitVec.toNat, x.toBitVec.isLt, wb_inj (by rw [wb_tb]; simp)⟩
theorem wb_of32 (x : Int32) : ∃ n, n < 2 ^ 32 ∧ x = nI n := ⟨x.toBitVec.toNat, x.toBitVec.isLt, Int32.toBitVec_inj.mp (by show _ = BitVec.ofNat 32 _; simp)⟩
theorem wb_c : ∀ k, k < 64 → ((nI k).toInt64 &&& 63) = lN k := by decide +kernel
theorem wb_cu : ∀ k, k < 64 → ((nI k).toInt64.toUInt64 &&& Int64.toUInt64 63) = UInt64.ofNat k := by decide +kernel
theorem wb_sm : ∀ k, k < 64 → (BitVec.ofNat 64 k).smod 64 = BitVec.ofNat 64 k := by decide +kernel
theorem wb_pw {a b : Nat} (h : a ≤ b) : 2 ^ b = 2 ^ a * 2 ^ (b - a) := by rw [← Nat.pow_add]; congr 1; omega
theorem wb_lt2 {a b : Nat} (h : a < b) : 2 ^ a < 2 ^ b := Nat.pow_lt_pow_right (by decide) h
theorem wb_mod (n : Nat) : lN n = lN (n % 2 ^ 64) := wb_inj (by rw [wb_tb, wb_tb]; apply BitVec.eq_of_toNat_eq; rw [BitVec.toNat_ofNat, BitVec.toNat_ofNat, Nat.mod_mod])
theorem wb_shr {n k : Nat} (hn : n < 2 ^ 64) (hk : k < 64) : ((lN n).toUInt64 >>> ((nI k).toInt64.toUInt64 &&& Int64.toUInt64 63)).toInt64 = lN (n / 2 ^ k) := by
  rw [wb_cu k hk]
  apply wb_inj
  apply BitVec.eq_of_toNat_eq
  show ((lN n).toUInt64 >>> UInt64.ofNat k).toNat = (BitVec.ofNat 64 _).toNat
  have h1 : (UInt64.ofNat k).toNat = k := by
    show (BitVec.ofNat 64 k).toNat = k
    rw [BitVec.toNat_ofNat, Nat.mod_eq_of_lt (by omega)]
  have h2 : (lN n).toUInt64.toNat = n := wb_tn hn
  rw [UInt64.toNat_shiftRight, h1, h2, Nat.mod_eq_of_lt hk, Nat.shiftRight_eq_div_pow, BitVec.toNat_ofNat, Nat.mod_eq_of_lt (Nat.lt_of_le_of_lt (Nat.div_le_self _ _) hn)]
theorem wb_shl (n : Nat) {k : Nat} (hk : k < 64) : lN n <<< ((nI k).toInt64 &&& 63) = lN (n * 2 ^ k) := by
  rw [wb_c k hk]
  apply wb_inj
  rw [Int64.toBitVec_shiftLeft, wb_tb, wb_tb, wb_tb, wb_sm k hk]
  apply BitVec.eq_of_toNat_eq
  rw [BitVec.shiftLeft_eq', BitVec.toNat_shiftLeft, BitVec.toNat_ofNat, BitVec.toNat_ofNat, BitVec.toNat_ofNat, Nat.mod_eq_of_lt (show k < 2 ^ 64 by omega), Nat.shiftLeft_eq, Nat.mul_mod, Nat.mod_mod, ← Nat.mul_mod]
theorem wb_and {a b : Nat} (ha : a < 2 ^ 64) (hb : b < 2 ^ 64) : lN a &&& lN b = lN (a &&& b) := by
  apply wb_inj
  rw [Int64.toBitVec_and, wb_tb, wb_tb, wb_tb]
  apply BitVec.eq_of_toNat_eq
  rw [BitVec.toNat_and, BitVec.toNat_ofNat, BitVec.toNat_ofNat, BitVec.toNat_ofNat, Nat.mod_eq_of_lt ha, Nat.mod_eq_of_lt hb, Nat.mod_eq_of_lt (Nat.and_lt_two_pow _ hb)]
theorem wb_or {a b : Nat} (ha : a < 2 ^ 64) (hb : b < 2 ^ 64) : lN a ||| lN b = lN (a ||| b) := by
  apply wb_inj
  rw [Int64.toBitVec_or, wb_tb, wb_tb, wb_tb]
  apply BitVec.eq_of_toNat_eq
  rw [BitVec.toNat_or, BitVec.toNat_ofNat, BitVec.toNat_ofNat, BitVec.toNat_ofNat, Nat.mod_eq_of_lt ha, Nat.mod_eq_of_lt hb, Nat.mod_eq_of_lt (Nat.or_lt_two_pow ha hb)]
theorem wb_mask {n k : Nat} (hn : n < 2 ^ 64) (hk : k < 64) : lN n &&& lN (2 ^ k - 1) = lN (n % 2 ^ k) := by
  rw [wb_and hn (by have := wb_lt2 hk; omega), Nat.and_two_pow_sub_one_eq_mod]
theorem wb_a1 {n : Nat} (hn : n < 2 ^ 64) : lN n &&& 1 = lN (n % 2) := wb_mask (k := 1) hn (by decide)
theorem wb_bit {n k : Nat} (hn : n < 2 ^ 64) (hk : k < 64) : ((lN n).toUInt64 >>> ((nI k).toInt64.toUInt64 &&& Int64.toUInt64 63)).toInt64 &&& 1 = lN (n / 2 ^ k % 2) := by
  rw [wb_shr hn hk, wb_a1 (Nat.lt_of_le_of_lt (Nat.div_le_self _ _) hn)]
theorem wb_xor {q k : Nat} (hk : k < 63) (h : 2 ^ k ≤ q) (h2 : q < 2 ^ (k + 1)) : lN q ^^^ lN (2 ^ k) = lN (q - 2 ^ k) := by
  obtain ⟨r, rfl⟩ : ∃ r, q = 2 ^ k + r := ⟨q - 2 ^ k, by omega⟩
  have hr : r < 2 ^ k := by rw [Nat.pow_succ] at h2; omega
  have hx : (2 ^ k + r) ^^^ 2 ^ k = r := by
    apply Nat.eq_of_testBit_eq
    intro i
    rw [Nat.testBit_xor, Nat.testBit_two_pow]
    rcases Nat.lt_trichotomy i k with h | h | h
    · rw [Nat.testBit_two_pow_add_gt h]
      simp [show ¬ k = i by omega]
    · subst h
      rw [Nat.testBit_two_pow_add_eq]
      simp
    · have a1 : 2 ^ (k + 1) ≤ 2 ^ i := Nat.pow_le_pow_right (by decide) h
      rw [Nat.testBit_lt_two_pow (show 2 ^ k + r < 2 ^ i by omega), Nat.testBit_lt_two_pow (show r < 2 ^ i by omega)]
      simp [show ¬ k = i by omega]
  have b1 := wb_lt2 (show k + 1 < 64 by omega)
  have b2 := wb_lt2 (show k < 64 by omega)
  apply wb_inj
  rw [Int64.toBitVec_xor, wb_tb, wb_tb, wb_tb]
  apply BitVec.eq_of_toNat_eq
  rw [BitVec.toNat_xor, BitVec.toNat_ofNat, BitVec.toNat_ofNat, BitVec.toNat_ofNat, Nat.mod_eq_of_lt (by omega : 2 ^ k + r < 2 ^ 64), Nat.mod_eq_of_lt b2, hx, Nat.add_sub_cancel_left, Nat.mod_eq_of_lt (by omega)]
/-! ===== lN: masks, 'or' of parts that don't overlap is a sum ===== -/
theorem u_tn {n : Nat} (h : n < 2 ^ 64) : (UInt64.ofNat n).toNat = n := Nat.mod_eq_of_lt h
theorem g_and {a b c : Nat} (ha : a < 2 ^ 64) (hb : b < 2 ^ 64) (hc : a &&& b = c) : lN a &&& lN b = lN c := by
  subst hc
  have h : UInt64.ofNat a &&& UInt64.ofNat b = UInt64.ofNat (a &&& b) := UInt64.toNat_inj.mp (by rw [UInt64.toNat_and, u_tn ha, u_tn hb, u_tn (Nat.and_lt_two_pow a hb)])
  have h2 := congrArg UInt64.toInt64 h
  exact h2
theorem g_and1 {a : Nat} (ha : a < 2 ^ 64) : lN a &&& 1 = lN (a % 2) := g_and (b := 1) ha (by decide) (Nat.and_two_pow_sub_one_eq_mod a 1)
theorem g_mask {a s p : Nat} (hp : 2 ^ s = p) (hs : s < 64) (ha : a < 2 ^ 64) : lN a &&& lN (p - 1) = lN (a % p) := by
  subst hp
  have := Nat.pow_lt_pow_right (show 1 < 2 by decide) hs
  exact g_and ha (by omega) (Nat.and_two_pow_sub_one_eq_mod a s)
theorem g_or {k p a b : Nat} (hp : 2 ^ k = p) (ha : a < p) (h : b * p + a < 2 ^ 64) : lN (b * p) ||| lN a = lN (b * p + a) := by
  subst hp
  have h1 : b * 2 ^ k ||| a = b * 2 ^ k + a := by rw [← Nat.shiftLeft_eq, Nat.shiftLeft_add_eq_or_of_lt ha]
  have h3 : UInt64.ofNat (b * 2 ^ k) ||| UInt64.ofNat a = UInt64.ofNat (b * 2 ^ k + a) := UInt64.toNat_inj.mp (by rw [UInt64.toNat_or, u_tn (by omega), u_tn (by omega), u_tn h, h1])
  have h2 := congrArg UInt64.toInt64 h3
  exact h2
theorem g_or' {k p a b : Nat} (hp : 2 ^ k = p) (ha : a < p) (h : a + b * p < 2 ^ 64) : lN a ||| lN (b * p) = lN (a + b * p) := by
  rw [Int64.or_comm, g_or hp ha (by omega), Nat.add_comm]
theorem g_ushr {a k p : Nat} {y : UInt64} (hy : y = UInt64.ofNat k) (hk : k < 64) (hp : 2 ^ k = p) (ha : a < 2 ^ 64) : ((lN a).toUInt64 >>> y).toInt64 = lN (a / p) := by
  subst hy hp
  have h : UInt64.ofNat a >>> UInt64.ofNat k = UInt64.ofNat (a / 2 ^ k) := UInt64.toNat_inj.mp (by rw [UInt64.toNat_shiftRight, u_tn ha, u_tn (by omega), u_tn (Nat.lt_of_le_of_lt (Nat.div_le_self _ _) ha), Nat.mod_eq_of_lt hk, Nat.shiftRight_eq_div_pow])
  have h2 := congrArg UInt64.toInt64 h
  exact h2
theorem g_shl {a k p : Nat} {y : Int64} (hy : y.toBitVec.smod 64 = BitVec.ofNat 64 k) (hk : k < 64) (hp : 2 ^ k = p) (ha : a < 2 ^ 64) : lN a <<< y = lN (a * p) := by
  subst hp
  apply Int64.toBitVec_inj.mp
  rw [Int64.toBitVec_shiftLeft, hy]
  apply BitVec.eq_of_toNat_eq
  have hb : (lN a).toBitVec.toNat = a := Nat.mod_eq_of_lt ha
  have hk' : (BitVec.ofNat 64 k).toNat = k := Nat.mod_eq_of_lt (by omega)
  have h : ((lN a).toBitVec <<< BitVec.ofNat 64 k).toNat = (a * 2 ^ k) % 2 ^ 64 := by simp only [BitVec.shiftLeft_eq', BitVec.toNat_shiftLeft, hb, hk', Nat.shiftLeft_eq]
  exact h
end
section
/-! masks of cards -/
def og_mk : List Nat → Nat
  | [] => 0
  | c :: l => 2 ^ c ||| og_mk l
theorem og_mk_t (l : List Nat) (i : Nat) : (og_mk l).testBit i = decide (i ∈ l) := by
  induction l with
  | nil => simp [og_mk]
  | cons c l ih =>
    unfold og_mk
    rw [Nat.testBit_or, ih, Nat.testBit_two_pow]
    by_cases h : c = i
    · subst h; simp
    · have h' : ¬ i = c := fun z => h z.symm
      simp [h, h']
def og_fl (f : Nat → Bool) : List Nat := (List.range 12).filter f
def og_mf (f : Nat → Bool) : Nat := og_mk (og_fl f)
theorem og_fl_m {f : Nat → Bool} {i : Nat} : i ∈ og_fl f ↔ i < 12 ∧ f i = true := by
  unfold og_fl
  rw [List.mem_filter, List.mem_range]
theorem og_mf_t (f : Nat → Bool) (i : Nat) : (og_mf f).testBit i = (decide (i < 12) && f i) := by
  unfold og_mf
  rw [og_mk_t]
  by_cases h : i < 12 ∧ f i = true
  · rw [decide_eq_true (og_fl_m.mpr h), decide_eq_true h.1, h.2]; rfl
  · rw [decide_eq_false (fun z => h (og_fl_m.mp z))]
    by_cases h1 : i < 12
    · have h2 : f i = false := by
        cases hf : f i
        · rfl
        · exact absurd ⟨h1, hf⟩ h
      rw [h2, Bool.and_false]
    · rw [decide_eq_false h1, Bool.false_and]
theorem og_lt_of {m n : Nat} (h : ∀ i, n ≤ i → m.testBit i = false) : m < 2 ^ n := Nat.lt_pow_two_of_testBit m (fun i hi => h i hi)
theorem og_mf_lt (f : Nat → Bool) : og_mf f < 4096 := by
  apply og_lt_of (n := 12)
  intro i hi
  rw [og_mf_t, decide_eq_false (by omega), Bool.false_and]
theorem og_mk_lt {l : List Nat} (h : ∀ c ∈ l, c < 12) : og_mk l < 4096 := by
  apply og_lt_of (n := 12)
  intro i hi
  rw [og_mk_t]
  exact decide_eq_false (fun z => absurd (h i z) (by omega))
theorem og_fl_ext {f g : Nat → Bool} (h : ∀ i, i < 12 → f i = g i) : og_fl f = og_fl g := by
  unfold og_fl
  apply List.filter_congr
  intro x hx
  exact h x (List.mem_range.mp hx)
theorem og_mf_ext {f g : Nat → Bool} (h : ∀ i, i < 12 → f i = g i) : og_mf f = og_mf g := by
  unfold og_mf
  rw [og_fl_ext h]
theorem og_mf_inj {f g : Nat → Bool} (h : og_mf f = og_mf g) : ∀ i, i < 12 → f i = g i := by
  intro i hi
  have a := og_mf_t f i
  rw [h, og_mf_t g i, decide_eq_true hi, Bool.true_and, Bool.true_and] at a
  exact a.symm
theorem og_mf_0 {f : Nat → Bool} : og_mf f = 0 ↔ ∀ i, i < 12 → f i = false := by
  constructor
  · intro h i hi
    have a := og_mf_t f i
    rw [h, Nat.zero_testBit, decide_eq_true hi, Bool.true_and] at a
    exact a.symm
  · intro h
    apply Nat.eq_of_testBit_eq
    intro i
    rw [og_mf_t, Nat.zero_testBit]
    by_cases hi : i < 12
    · rw [h i hi, Bool.and_false]
    · rw [decide_eq_false hi, Bool.false_and]
theorem og_z {f : Nat → Bool} : nI (og_mf f) = 0 ↔ ∀ i, i < 12 → f i = false := by
  have := og_mf_lt f
  rw [← nI_0, nI_eq (by omega) (by omega), og_mf_0]
theorem og_fl_nil {f : Nat → Bool} : og_fl f = [] ↔ ∀ i, i < 12 → f i = false := by
  constructor
  · intro h
    apply og_mf_0.mp
    unfold og_mf
    rw [h]
    rfl
  · intro h
    rw [og_fl_ext (g := fun _ => false) h]
    rfl
/-! bits of Int32 masks -/
theorem og_bt {m i : Nat} (hi : i < 32) : bt (nI m) i = m.testBit i := by
  show (BitVec.ofNat 32 m).getLsbD i = _
  rw [BitVec.getLsbD_ofNat, decide_eq_true hi, Bool.true_and]
theorem og_or (a b : Nat) : nI a ||| nI b = nI (a ||| b) := by
  apply b_ext
  intro i hi
  rw [b_or, og_bt hi, og_bt hi, og_bt hi, Nat.testBit_or]
theorem og_s1 : ∀ c, c < 12 → (1 : Int32) <<< (nI c &&& 31) = nI (2 ^ c) := by decide +kernel
theorem og_cl (f : Nat → Bool) {c : Nat} (hc : c < 12) : nI (og_mf f) &&& (((1 : Int32) <<< (nI c &&& 31)) ^^^ (-1)) = nI (og_mf (fun i => f i && !(i == c))) := by
  apply b_ext
  intro i hi
  rw [b_and, b_xor, og_s1 c hc, og_bt hi, og_bt hi, og_bt hi, b_m1 i hi, og_mf_t, og_mf_t, Nat.testBit_two_pow]
  by_cases h : c = i
  · subst h; simp
  · have h' : (i == c) = false := beq_eq_false_iff_ne.mpr (fun z => h z.symm)
    simp [h, h']
theorem og_se (f : Nat → Bool) {c : Nat} (hc : c < 12) : nI (og_mf f) ||| ((1 : Int32) <<< (nI c &&& 31)) = nI (og_mf (fun i => f i || (i == c))) := by
  apply b_ext
  intro i hi
  rw [b_or, og_s1 c hc, og_bt hi, og_bt hi, og_bt hi, og_mf_t, og_mf_t, Nat.testBit_two_pow]
  by_cases h : c = i
  · subst h; simp [hc]
  · have h' : (i == c) = false := beq_eq_false_iff_ne.mpr (fun z => h z.symm)
    simp [h, h']
theorem og_oo (f g : Nat → Bool) : nI (og_mf f) ||| nI (og_mf g) = nI (og_mf (fun i => f i || g i)) := by
  rw [og_or]
  refine congrArg nI (Nat.eq_of_testBit_eq fun i => ?_)
  rw [Nat.testBit_or, og_mf_t, og_mf_t, og_mf_t]
  cases decide (i < 12) <;> simp
theorem og_aa (f g : Nat → Bool) : nI (og_mf f) &&& nI (og_mf g) = nI (og_mf (fun i => f i && g i)) := by
  rw [nx_and]
  refine congrArg nI (Nat.eq_of_testBit_eq fun i => ?_)
  rw [Nat.testBit_and, og_mf_t, og_mf_t, og_mf_t]
  cases decide (i < 12) <;> simp
theorem og_m0 : nI (og_mf (fun _ => false)) = 0 := og_z.mpr (fun _ _ => rfl)
theorem og_b1 (f : Nat → Bool) {c : Nat} (hc : c < 12) : ((nI (og_mf f)) >>> (nI c &&& 31)) &&& 1 = if f c = true then 1 else 0 := by
  have hm := og_mf_lt f
  rw [pk_shrN (by omega) _ c (s_l c (by omega))]
  show nI _ &&& nI 1 = _
  rw [nx_and, Nat.and_one_is_mod]
  have a := og_mf_t f c
  rw [Nat.testBit_eq_decide_div_mod_eq, decide_eq_true hc, Bool.true_and] at a
  cases hf : f c
  · rw [hf] at a
    have b := of_decide_eq_false a
    have e : og_mf f / 2 ^ c % 2 = 0 := by omega
    rw [e]
    rfl
  · rw [hf] at a
    have b := of_decide_eq_true a
    rw [b]
    rfl
theorem og_b1k (m : Nat) (hm : m < 4096) {c : Nat} (hc : c < 12) : ((nI m) >>> (nI c &&& 31)) &&& 1 = if m.testBit c = true then 1 else 0 := by
  rw [pk_shrN (by omega) _ c (s_l c (by omega))]
  show nI _ &&& nI 1 = _
  rw [nx_and, Nat.and_one_is_mod]
  have a : m.testBit c = decide (m / 2 ^ c % 2 = 1) := Nat.testBit_eq_decide_div_mod_eq
  by_cases b : m / 2 ^ c % 2 = 1
  · rw [a, b]; rfl
  · have e : m / 2 ^ c % 2 = 0 := by omega
    rw [a, e]; rfl
theorem og_su : ∀ s, s < 3 → (15 : Int32) <<< ((4 * nI s) &&& 31) = nI (og_mf (fun i => i / 4 == s)) := by decide +kernel
/-! the lowest card of an ascending list -/
theorem og_lw : ∀ c, c < 12 → ∀ q, q < 2 ^ (11 - c) → nI (2 ^ c * (1 + 2 * q)) &&& (-(nI (2 ^ c * (1 + 2 * q)))) = nI (2 ^ c) := by decide +kernel
theorem og_q {c : Nat} {l : List Nat} (hl : ∀ e ∈ l, c < e) : og_mk (c :: l) = 2 ^ c * (1 + 2 * (og_mk (c :: l) / 2 ^ (c + 1))) := by
  have h1 : og_mk (c :: l) % 2 ^ (c + 1) = 2 ^ c := by
    apply Nat.eq_of_testBit_eq
    intro i
    rw [Nat.testBit_mod_two_pow, og_mk_t, Nat.testBit_two_pow]
    by_cases h : c = i
    · subst h; simp
    · have h' : ¬ i = c := fun z => h z.symm
      by_cases h2 : i < c + 1
      · have h3 : ¬ i ∈ l := fun z => absurd (hl i z) (by omega)
        simp [h, h', h3]
      · simp [h, h2]
  have h2 := Nat.div_add_mod (og_mk (c :: l)) (2 ^ (c + 1))
  rw [h1, Nat.pow_succ] at h2
  rw [Nat.pow_succ, Nat.mul_add, Nat.mul_one, ← Nat.mul_assoc]
  omega
theorem og_low {c : Nat} {l : List Nat} (hc : c < 12) (hl : ∀ e ∈ l, c < e) (h12 : ∀ e ∈ l, e < 12) : nI (og_mk (c :: l)) &&& (-(nI (og_mk (c :: l)))) = nI (2 ^ c) := by
  have hm : og_mk (c :: l) < 4096 := og_mk_lt (by
    intro e he
    rcases List.mem_cons.mp he with z | z
    · omega
    · exact h12 e z)
  rw [og_q hl]
  apply og_lw c hc
  rw [Nat.div_lt_iff_lt_mul (Nat.two_pow_pos _), ← Nat.pow_add]
  have e : 11 - c + (c + 1) = 12 := by omega
  rw [e]
  exact hm
theorem og_rest {c : Nat} {l : List Nat} (hc : c < 12) (hl : ∀ e ∈ l, c < e) : nI (og_mk (c :: l)) &&& (nI (2 ^ c) ^^^ (-1)) = nI (og_mk l) := by
  apply b_ext
  intro i hi
  rw [b_and, b_xor, og_bt hi, og_bt hi, og_bt hi, b_m1 i hi, og_mk_t, og_mk_t, Nat.testBit_two_pow]
  by_cases h : c = i
  · subst h
    have h3 : ¬ c ∈ l := fun z => absurd (hl c z) (by omega)
    simp [h3]
  · have h' : ¬ i = c := fun z => h z.symm
    simp [h, h']
theorem og_rest' {c : Nat} {l : List Nat} (hc : c < 12) (hl : ∀ e ∈ l, c < e) : nI (og_mk (c :: l)) &&& (((1 : Int32) <<< (nI c &&& 31)) ^^^ (-1)) = nI (og_mk l) := by
  rw [og_s1 c hc]
  exact og_rest hc hl
theorem og_mk_ne {c : Nat} {l : List Nat} (hc : c < 12) (h12 : ∀ e ∈ l, e < 12) : ¬ nI (og_mk (c :: l)) = 0 := by
  have hm : og_mk (c :: l) < 4096 := og_mk_lt (by
    intro e he
    rcases List.mem_cons.mp he with z | z
    · omega
    · exact h12 e z)
  rw [← nI_0, nI_eq (by omega) (by omega)]
  intro z
  have a := og_mk_t (c :: l) c
  rw [z, Nat.zero_testBit] at a
  simp at a
/-! counts -/
def og_sz (x : Int32) : Nat → Int32
  | 0 => 0
  | n + 1 => og_sz x n + ((x >>> (nI n &&& 31)) &&& 1)
def og_ct (f : Nat → Bool) : Nat → Nat
  | 0 => 0
  | n + 1 => og_ct f n + (if f n = true then 1 else 0)
theorem og_szm (f : Nat → Bool) : ∀ n, n ≤ 12 → og_sz (nI (og_mf f)) n = nI (og_ct f n) := by
  intro n
  induction n with
  | zero => intro _; rfl
  | succ n ih =>
    intro h
    unfold og_sz og_ct
    rw [ih (by omega), og_b1 f (by omega)]
    cases f n
    · simp
    · simp [nI_1]
theorem og_szl : ∀ c, c < 12 → og_sz (nI (2 ^ c) - 1) 12 = nI c := by decide +kernel
theorem og_ct_s {f : Nat → Bool} {n : Nat} : og_ct f (n + 1) = og_ct f n + (if f n = true then 1 else 0) := rfl
theorem og_ct_len (f : Nat → Bool) (n : Nat) : ((List.range n).filter f).length = og_ct f n := by
  induction n with
  | zero => rfl
  | succ n ih =>
    rw [List.range_succ, List.filter_append, List.length_append, ih, og_ct_s]
    cases h : f n <;> simp [h]
theorem og_fl_len (f : Nat → Bool) : (og_fl f).length = og_ct f 12 := og_ct_len f 12
theorem og_ct_ext {f g : Nat → Bool} : ∀ {n : Nat}, (∀ i, i < n → f i = g i) → og_ct f n = og_ct g n := by
  intro n
  induction n with
  | zero => intro _; rfl
  | succ n ih =>
    intro h
    unfold og_ct
    rw [ih (fun i hi => h i (by omega)), h n (by omega)]
theorem og_ct_le {f g : Nat → Bool} : ∀ {n : Nat}, (∀ i, i < n → f i = true → g i = true) → og_ct f n ≤ og_ct g n := by
  intro n
  induction n with
  | zero => intro _; exact Nat.le_refl _
  | succ n ih =>
    intro h
    unfold og_ct
    have a := ih (fun i hi => h i (by omega))
    cases hf : f n
    · simp only [Bool.false_eq_true, if_false]; omega
    · rw [h n (by omega) hf]; simp only [if_true]; omega
theorem og_ct_rm (f : Nat → Bool) (c : Nat) : ∀ n, og_ct (fun i => f i && !(i == c)) n + (if c < n ∧ f c = true then 1 else 0) = og_ct f n := by
  intro n
  induction n with
  | zero => simp [og_ct]
  | succ n ih =>
    unfold og_ct
    by_cases h : n = c
    · subst h
      cases hf : f n
      · simp [hf] at ih ⊢; omega
      · simp [hf] at ih ⊢; omega
    · have h1 : (n == c) = false := by simp [h]
      simp only [h1, Bool.not_false, Bool.and_true]
      have h2 : (c < n + 1 ∧ f c = true) ↔ (c < n ∧ f c = true) := by
        constructor
        · intro ⟨a, b⟩; exact ⟨by omega, b⟩
        · intro ⟨a, b⟩; exact ⟨by omega, b⟩
      simp only [h2]
      omega
theorem og_ct_ad (f : Nat → Bool) (c : Nat) (hf : f c = false) : ∀ n, og_ct (fun i => f i || (i == c)) n = og_ct f n + (if c < n then 1 else 0) := by
  intro n
  induction n with
  | zero => simp [og_ct]
  | succ n ih =>
    unfold og_ct
    by_cases h : n = c
    · subst h
      simp [hf] at ih ⊢; omega
    · have h1 : (n == c) = false := by simp [h]
      simp only [h1, Bool.or_false]
      have h2 : (c < n + 1) ↔ (c < n) := by omega
      simp only [h2]
      omega
theorem og_ct_pos {f : Nat → Bool} : ∀ {n : Nat}, 0 < og_ct f n → ∃ c, c < n ∧ f c = true := by
  intro n
  induction n with
  | zero => intro h; exact absurd h (by simp [og_ct])
  | succ n ih =>
    intro h
    unfold og_ct at h
    cases hf : f n
    · rw [hf] at h
      obtain ⟨c, h1, h2⟩ := ih (by simpa using h)
      exact ⟨c, by omega, h2⟩
    · exact ⟨n, by omega, hf⟩
theorem og_ct_0 {f : Nat → Bool} {n : Nat} : og_ct f n = 0 ↔ ∀ i, i < n → f i = false := by
  constructor
  · intro h i hi
    cases hf : f i
    · rfl
    · have a := og_ct_rm f i n
      rw [if_pos ⟨hi, hf⟩] at a
      omega
  · intro h
    rcases Nat.eq_zero_or_pos (og_ct f n) with z | z
    · exact z
    · obtain ⟨c, h1, h2⟩ := og_ct_pos z
      rw [h c h1] at h2
      exact absurd h2 (by decide)
end
section
/-! the game: ow the owner of a card (4: nobody), ld the leader, tk the trick -/
def og_st (tr : Int32) (l c : Nat) : Nat := if nI (c / 4) = tr then 10 + c % 4 else if c / 4 = l then 1 + c % 4 else 0
def og_bp (tr : Int32) (t : Nat → Nat) : Nat → Nat
  | 0 => 0
  | n + 1 => if og_st tr (t 0 / 4) (t (og_bp tr t n)) < og_st tr (t 0 / 4) (t n) then n else og_bp tr t n
def og_at (tk : List Nat) : Nat → Nat := fun i => tk.getD i 0
def og_mv (ld : Nat) (tk : List Nat) : Nat := (ld + tk.length) % 4
def og_hs (ow : Nat → Nat) (p s : Nat) : Bool := (List.range 12).any (fun e => (ow e == p) && (e / 4 == s))
def og_lg (ow : Nat → Nat) (ld : Nat) (tk : List Nat) (c : Nat) : Bool :=
  (ow c == og_mv ld tk) && ((tk.length == 0) || !(og_hs ow (og_mv ld tk) (og_at tk 0 / 4)) || (c / 4 == og_at tk 0 / 4))
def og_no (ow : Nat → Nat) (c : Nat) : Nat → Nat := fun e => if e = c then 4 else ow e
def og_w (tr : Int32) (ld : Nat) (t : List Nat) : Nat := (ld + og_bp tr (og_at t) t.length) % 4
def og_nl (tr : Int32) (ld : Nat) (tk : List Nat) (c : Nat) : Nat := if tk.length = 3 then og_w tr ld (tk ++ [c]) else ld
def og_nt (tk : List Nat) (c : Nat) : List Nat := if tk.length = 3 then [] else tk ++ [c]
def og_ns (tr : Int32) (ld : Nat) (tk ws : List Nat) (c : Nat) : List Nat := if tk.length = 3 then ws ++ [og_w tr ld (tk ++ [c])] else ws
def og_gn (k : Nat) (tr : Int32) (ld : Nat) (tk : List Nat) (c : Nat) : Int := if k = 2 then 0 else if tk.length = 3 ∧ og_w tr ld (tk ++ [c]) % 2 = 0 then 1 else 0
def og_in (k mv : Nat) : Int := if k = 2 then 0 else if k = 0 ∧ mv % 2 = 0 then -1 else 100
def og_cb (k mv : Nat) (a v : Int) : Int := if k = 2 then a + v else if k = 0 ∧ mv % 2 = 0 then (if a < v then v else a) else (if v < a then v else a)
def og_fd (k mv : Nat) (f : Nat → Int) (l : List Nat) (a : Int) : Int := l.foldl (fun a c => og_cb k mv a (f c)) a
def og_V (k : Nat) (tr : Int32) : Nat → (Nat → Nat) → Nat → List Nat → Int
  | 0, _, _, _ => if k = 2 then 1 else 0
  | n + 1, ow, ld, tk => og_fd k (og_mv ld tk) (fun c => og_gn k tr ld tk c + og_V k tr n (og_no ow c) (og_nl tr ld tk c) (og_nt tk c)) (og_fl (og_lg ow ld tk)) (og_in k (og_mv ld tk))
/-- what comes of a card -/
def og_U (k : Nat) (tr : Int32) (n : Nat) (ow : Nat → Nat) (ld : Nat) (tk : List Nat) (c : Nat) : Int := og_gn k tr ld tk c + og_V k tr n (og_no ow c) (og_nl tr ld tk c) (og_nt tk c)
theorem og_V_0 {k : Nat} {tr : Int32} {ow : Nat → Nat} {ld : Nat} {tk : List Nat} : og_V k tr 0 ow ld tk = if k = 2 then 1 else 0 := rfl
theorem og_V_s {k : Nat} {tr : Int32} {n : Nat} {ow : Nat → Nat} {ld : Nat} {tk : List Nat} : og_V k tr (n + 1) ow ld tk = og_fd k (og_mv ld tk) (og_U k tr n ow ld tk) (og_fl (og_lg ow ld tk)) (og_in k (og_mv ld tk)) := rfl
/-! lists -/
theorem og_at_l {tk : List Nat} {c i : Nat} (h : i < tk.length) : og_at (tk ++ [c]) i = og_at tk i := by
  simp [og_at, List.getD_eq_getElem?_getD, List.getElem?_append_left h]
theorem og_at_r {tk : List Nat} {c : Nat} : og_at (tk ++ [c]) tk.length = c := by
  simp [og_at, List.getD_eq_getElem?_getD]
theorem og_at_mem {tk : List Nat} {i : Nat} (h : i < tk.length) : og_at tk i ∈ tk := by
  simp [og_at, List.getD_eq_getElem?_getD, h]
theorem og_at_map {tk : List Nat} {f : Nat → Nat} {i : Nat} (h : i < tk.length) : og_at (tk.map f) i = f (og_at tk i) := by
  simp [og_at, List.getD_eq_getElem?_getD, h]
theorem og_len1 (tk : List Nat) (c : Nat) : (tk ++ [c]).length = tk.length + 1 := by simp
theorem og_mv_lt (ld : Nat) (tk : List Nat) : og_mv ld tk < 4 := Nat.mod_lt _ (by decide)
theorem og_w_lt (tr : Int32) (ld : Nat) (tk : List Nat) : og_w tr ld tk < 4 := Nat.mod_lt _ (by decide)
/-! the best place -/
theorem og_bp_s {tr : Int32} {t : Nat → Nat} {n : Nat} : og_bp tr t (n + 1) = if og_st tr (t 0 / 4) (t (og_bp tr t n)) < og_st tr (t 0 / 4) (t n) then n else og_bp tr t n := rfl
theorem og_bp_le (tr : Int32) (t : Nat → Nat) : ∀ n, og_bp tr t n ≤ n - 1 := by
  intro n
  induction n with
  | zero => exact Nat.le_refl _
  | succ n ih =>
    rw [og_bp_s]
    split <;> omega
theorem og_bp_lt {tr : Int32} {t : Nat → Nat} {n : Nat} (h : 0 < n) : og_bp tr t n < n := by
  have := og_bp_le tr t n
  omega
theorem og_bp_1 {tr : Int32} {t : Nat → Nat} : og_bp tr t 1 = 0 := by
  have := og_bp_le tr t 1
  omega
theorem og_bp_ext {tr : Int32} {t t' : Nat → Nat} : ∀ {n : Nat}, (∀ i, i < n → t i = t' i) → og_bp tr t n = og_bp tr t' n := by
  intro n
  induction n with
  | zero => intro _; rfl
  | succ n ih =>
    intro h
    have a := ih (fun i hi => h i (by omega))
    have b := og_bp_le tr t n
    rw [og_bp_s, og_bp_s, ← a, ← h 0 (by omega), ← h n (by omega), ← h (og_bp tr t n) (by omega)]
/-! folds -/
theorem og_fd_c {k mv : Nat} {f : Nat → Int} {c : Nat} {l : List Nat} {a : Int} : og_fd k mv f (c :: l) a = og_fd k mv f l (og_cb k mv a (f c)) := rfl
theorem og_fdU {k mv : Nat} (hk : ¬ k = 2) (hu : k = 0 ∧ mv % 2 = 0) (f : Nat → Int) : ∀ (l : List Nat) (a : Int), a ≤ og_fd k mv f l a ∧ (∀ c ∈ l, f c ≤ og_fd k mv f l a) ∧ (og_fd k mv f l a = a ∨ ∃ c ∈ l, og_fd k mv f l a = f c) := by
  intro l
  induction l with
  | nil => intro a; exact ⟨Int.le_refl _, fun c h => absurd h (by simp), Or.inl rfl⟩
  | cons c l ih =>
    intro a
    rw [og_fd_c]
    have e : og_cb k mv a (f c) = if a < f c then f c else a := by unfold og_cb; rw [if_neg hk, if_pos hu]
    obtain ⟨h1, h2, h3⟩ := ih (og_cb k mv a (f c))
    generalize og_fd k mv f l (og_cb k mv a (f c)) = r at h1 h2 h3
    rw [e] at h1 h3
    by_cases z : a < f c
    · rw [if_pos z] at h1 h3
      refine ⟨by omega, ?_, ?_⟩
      · intro d hd
        rcases List.mem_cons.mp hd with y | y
        · subst y; exact h1
        · exact h2 d y
      · rcases h3 with y | ⟨d, hd, y⟩
        · exact Or.inr ⟨c, List.mem_cons_self, y⟩
        · exact Or.inr ⟨d, List.mem_cons_of_mem _ hd, y⟩
    · rw [if_neg z] at h1 h3
      refine ⟨by omega, ?_, ?_⟩
      · intro d hd
        rcases List.mem_cons.mp hd with y | y
        · subst y; omega
        · exact h2 d y
      · rcases h3 with y | ⟨d, hd, y⟩
        · exact Or.inl y
        · exact Or.inr ⟨d, List.mem_cons_of_mem _ hd, y⟩
theorem og_fdD {k mv : Nat} (hk : ¬ k = 2) (hu : ¬ (k = 0 ∧ mv % 2 = 0)) (f : Nat → Int) : ∀ (l : List Nat) (a : Int), og_fd k mv f l a ≤ a ∧ (∀ c ∈ l, og_fd k mv f l a ≤ f c) ∧ (og_fd k mv f l a = a ∨ ∃ c ∈ l, og_fd k mv f l a = f c) := by
  intro l
  induction l with
  | nil => intro a; exact ⟨Int.le_refl _, fun c h => absurd h (by simp), Or.inl rfl⟩
  | cons c l ih =>
    intro a
    rw [og_fd_c]
    have e : og_cb k mv a (f c) = if f c < a then f c else a := by unfold og_cb; rw [if_neg hk, if_neg hu]
    obtain ⟨h1, h2, h3⟩ := ih (og_cb k mv a (f c))
    generalize og_fd k mv f l (og_cb k mv a (f c)) = r at h1 h2 h3
    rw [e] at h1 h3
    by_cases z : f c < a
    · rw [if_pos z] at h1 h3
      refine ⟨by omega, ?_, ?_⟩
      · intro d hd
        rcases List.mem_cons.mp hd with y | y
        · subst y; exact h1
        · exact h2 d y
      · rcases h3 with y | ⟨d, hd, y⟩
        · exact Or.inr ⟨c, List.mem_cons_self, y⟩
        · exact Or.inr ⟨d, List.mem_cons_of_mem _ hd, y⟩
    · rw [if_neg z] at h1 h3
      refine ⟨by omega, ?_, ?_⟩
      · intro d hd
        rcases List.mem_cons.mp hd with y | y
        · subst y; omega
        · exact h2 d y
      · rcases h3 with y | ⟨d, hd, y⟩
        · exact Or.inl y
        · exact Or.inr ⟨d, List.mem_cons_of_mem _ hd, y⟩
theorem og_fd_eq {k mv : Nat} (hk : ¬ k = 2) {f f' : Nat → Int} {l l' : List Nat} (a : Int) (h1 : ∀ c ∈ l, ∃ c' ∈ l', f c = f' c') (h2 : ∀ c' ∈ l', ∃ c ∈ l, f' c' = f c) : og_fd k mv f l a = og_fd k mv f' l' a := by
  by_cases hu : k = 0 ∧ mv % 2 = 0
  · obtain ⟨a1, a2, a3⟩ := og_fdU hk hu f l a
    obtain ⟨b1, b2, b3⟩ := og_fdU hk hu f' l' a
    generalize og_fd k mv f l a = r at *
    generalize og_fd k mv f' l' a = s at *
    have u1 : r ≤ s := by
      rcases a3 with z | ⟨c, hc, z⟩
      · omega
      · obtain ⟨d, hd, e⟩ := h1 c hc
        have := b2 d hd
        omega
    have u2 : s ≤ r := by
      rcases b3 with z | ⟨c, hc, z⟩
      · omega
      · obtain ⟨d, hd, e⟩ := h2 c hc
        have := a2 d hd
        omega
    omega
  · obtain ⟨a1, a2, a3⟩ := og_fdD hk hu f l a
    obtain ⟨b1, b2, b3⟩ := og_fdD hk hu f' l' a
    generalize og_fd k mv f l a = r at *
    generalize og_fd k mv f' l' a = s at *
    have u1 : s ≤ r := by
      rcases a3 with z | ⟨c, hc, z⟩
      · omega
      · obtain ⟨d, hd, e⟩ := h1 c hc
        have := b2 d hd
        omega
    have u2 : r ≤ s := by
      rcases b3 with z | ⟨c, hc, z⟩
      · omega
      · obtain ⟨d, hd, e⟩ := h2 c hc
        have := a2 d hd
        omega
    omega
/-- the value is attained -/
theorem og_fd_at {k mv : Nat} (hk : ¬ k = 2) {f : Nat → Int} {l : List Nat} (hl : l ≠ []) (hb : ∀ c ∈ l, 0 ≤ f c ∧ f c ≤ 99) : ∃ c ∈ l, og_fd k mv f l (og_in k mv) = f c := by
  obtain ⟨d, hd⟩ := List.exists_mem_of_ne_nil l hl
  have := hb d hd
  by_cases hu : k = 0 ∧ mv % 2 = 0
  · obtain ⟨a1, a2, a3⟩ := og_fdU hk hu f l (og_in k mv)
    have e : og_in k mv = -1 := by unfold og_in; rw [if_neg hk, if_pos hu]
    have := a2 d hd
    rcases a3 with z | z
    · omega
    · exact z
  · obtain ⟨a1, a2, a3⟩ := og_fdD hk hu f l (og_in k mv)
    have e : og_in k mv = 100 := by unfold og_in; rw [if_neg hk, if_neg hu]
    have := a2 d hd
    rcases a3 with z | z
    · omega
    · exact z
/-- an offset -/
theorem og_fd_off {k mv : Nat} (hk : ¬ k = 2) {f : Nat → Int} {l : List Nat} (W : Int) (hl : l ≠ []) (hW : 0 ≤ W ∧ W ≤ 20) (hb : ∀ c ∈ l, 0 ≤ f c ∧ f c ≤ 20) : og_fd k mv (fun c => W + f c) l (og_in k mv) = W + og_fd k mv f l (og_in k mv) := by
  obtain ⟨c, hc, ec⟩ := og_fd_at (k := k) (mv := mv) hk (f := f) hl (fun c h => by have := hb c h; omega)
  obtain ⟨d, hd, ed⟩ := og_fd_at (k := k) (mv := mv) hk (f := fun c => W + f c) hl (fun c h => by have := hb c h; omega)
  by_cases hu : k = 0 ∧ mv % 2 = 0
  · obtain ⟨a1, a2, a3⟩ := og_fdU hk hu f l (og_in k mv)
    obtain ⟨b1, b2, b3⟩ := og_fdU hk hu (fun c => W + f c) l (og_in k mv)
    have x1 := a2 d hd
    have x2 : W + f c ≤ _ := b2 c hc
    omega
  · obtain ⟨a1, a2, a3⟩ := og_fdD hk hu f l (og_in k mv)
    obtain ⟨b1, b2, b3⟩ := og_fdD hk hu (fun c => W + f c) l (og_in k mv)
    have x1 := a2 d hd
    have x2 : _ ≤ W + f c := b2 c hc
    omega
theorem og_fd_2 {mv : Nat} (f : Nat → Int) : ∀ (l : List Nat) (a : Int), og_fd 2 mv f l a = a + (l.map f).sum := by
  intro l
  induction l with
  | nil => intro a; simp [og_fd]
  | cons c l ih =>
    intro a
    rw [og_fd_c, ih, List.map_cons, List.sum_cons]
    have e : og_cb 2 mv a (f c) = a + f c := by unfold og_cb; rw [if_pos rfl]
    rw [e]
    omega
theorem og_fd_ext {k mv : Nat} {f f' : Nat → Int} : ∀ {l : List Nat} {a : Int}, (∀ c ∈ l, f c = f' c) → og_fd k mv f l a = og_fd k mv f' l a := by
  intro l
  induction l with
  | nil => intro a _; rfl
  | cons c l ih =>
    intro a h
    rw [og_fd_c, og_fd_c, h c List.mem_cons_self]
    exact ih (fun d hd => h d (List.mem_cons_of_mem _ hd))
end
section
/-! two cards of one suit and one owner, no card of others between them: they may be swapped -/
def og_sg (x y e : Nat) : Nat := if e = x then y else if e = y then x else e
theorem og_sg_sg (x y e : Nat) : og_sg x y (og_sg x y e) = e := by
  unfold og_sg
  by_cases h1 : e = x
  · subst h1
    rw [if_pos rfl]
    by_cases h2 : y = e
    · rw [if_pos h2, h2]
    · rw [if_neg h2, if_pos rfl]
  · rw [if_neg h1]
    by_cases h2 : e = y
    · subst h2
      rw [if_pos rfl, if_pos rfl]
    · rw [if_neg h2, if_neg h1, if_neg h2]
theorem og_sg_x (x y : Nat) : og_sg x y x = y := if_pos rfl
theorem og_sg_n {x y e : Nat} (h1 : e ≠ x) (h2 : e ≠ y) : og_sg x y e = e := by
  unfold og_sg
  rw [if_neg h1, if_neg h2]
theorem og_sg_4 {x y : Nat} (h : x / 4 = y / 4) (e : Nat) : og_sg x y e / 4 = e / 4 := by
  unfold og_sg
  split
  · next z => subst z; exact h.symm
  · split
    · next z => subst z; exact h
    · rfl
theorem og_sg_12 {x y e : Nat} (hx : x < 12) (hy : y < 12) (he : e < 12) : og_sg x y e < 12 := by
  unfold og_sg
  split
  · exact hy
  · split
    · exact hx
    · exact he
theorem og_sg_i {x y e : Nat} (hxy : x ≤ y) (h : x ≤ e ∧ e ≤ y) : x ≤ og_sg x y e ∧ og_sg x y e ≤ y := by
  unfold og_sg
  split
  · omega
  · split <;> omega
theorem og_sg_o {x y e : Nat} (hxy : x ≤ y) (h : ¬ (x ≤ e ∧ e ≤ y)) : og_sg x y e = e := og_sg_n (by omega) (by omega)
/-- strengths: a card against one outside -/
theorem og_st_c {tr : Int32} {l e e' f : Nat} (he : e < 12) (hf : f < 12) (h4 : e' / 4 = e / 4) (h1 : e' < f ↔ e < f) (h2 : f < e' ↔ f < e) : (og_st tr l e' < og_st tr l f ↔ og_st tr l e < og_st tr l f) ∧ (og_st tr l f < og_st tr l e' ↔ og_st tr l f < og_st tr l e) := by
  unfold og_st
  rw [h4]
  by_cases ht : nI (e / 4) = tr
  · by_cases hs : nI (f / 4) = tr
    · have hh : e / 4 = f / 4 := (nI_eq (by omega) (by omega)).mp (ht.trans hs.symm)
      simp only [if_pos ht, if_pos hs]
      omega
    · simp only [if_pos ht, if_neg hs]
      split <;> omega
  · by_cases hs : nI (f / 4) = tr
    · simp only [if_neg ht, if_pos hs]
      split <;> omega
    · simp only [if_neg ht, if_neg hs]
      split
      · split <;> omega
      · split <;> omega
theorem og_st_sg {tr : Int32} {x y l e f : Nat} (hxy : x ≤ y) (h4 : x / 4 = y / 4) (he : e < 12) (hf : f < 12) (h : ¬ ((x ≤ e ∧ e ≤ y) ∧ (x ≤ f ∧ f ≤ y))) : og_st tr l (og_sg x y e) < og_st tr l (og_sg x y f) ↔ og_st tr l e < og_st tr l f := by
  by_cases hi : x ≤ e ∧ e ≤ y
  · have ho : ¬ (x ≤ f ∧ f ≤ y) := fun z => h ⟨hi, z⟩
    rw [og_sg_o hxy ho]
    have a := og_sg_i hxy hi
    exact (og_st_c he hf (og_sg_4 h4 e) (by omega) (by omega)).1
  · rw [og_sg_o hxy hi]
    by_cases hj : x ≤ f ∧ f ≤ y
    · have a := og_sg_i hxy hj
      exact (og_st_c hf he (og_sg_4 h4 f) (by omega) (by omega)).2
    · rw [og_sg_o hxy hj]
/-- the trick's owner condition -/
def og_Ti (x y p ld : Nat) (tk : List Nat) : Prop := ∀ i, i < tk.length → x ≤ og_at tk i → og_at tk i ≤ y → (ld + i) % 4 = p
theorem og_bp_sg {tr : Int32} {x y p ld : Nat} {tk : List Nat} (hxy : x ≤ y) (h4 : x / 4 = y / 4) (h12 : ∀ c ∈ tk, c < 12) (ht : og_Ti x y p ld tk) (hlen : tk.length ≤ 4) : ∀ n, n ≤ tk.length → og_bp tr (og_at (tk.map (og_sg x y))) n = og_bp tr (og_at tk) n := by
  intro n
  induction n with
  | zero => intro _; rfl
  | succ n ih =>
    intro hn
    have a := ih (by omega)
    have b := og_bp_le tr (og_at tk) n
    rw [og_bp_s, og_bp_s, a, og_at_map (by omega), og_at_map (i := n) (by omega), og_at_map (i := og_bp tr (og_at tk) n) (by omega), og_sg_4 h4]
    generalize hB : og_bp tr (og_at tk) n = B at *
    by_cases hz : n = 0
    · subst hz
      have hB0 : B = 0 := by omega
      subst hB0
      rw [if_neg (by omega), if_neg (by omega)]
    · have hne : ¬ ((x ≤ og_at tk B ∧ og_at tk B ≤ y) ∧ (x ≤ og_at tk n ∧ og_at tk n ≤ y)) := by
        rintro ⟨⟨u1, u2⟩, u3, u4⟩
        have v1 := ht B (by omega) u1 u2
        have v2 := ht n (by omega) u3 u4
        omega
      have c := og_st_sg (tr := tr) (l := og_at tk 0 / 4) hxy h4 (h12 _ (og_at_mem (show B < tk.length by omega))) (h12 _ (og_at_mem (show n < tk.length by omega))) hne
      simp only [c]
theorem og_w_sg {tr : Int32} {x y p ld : Nat} {tk : List Nat} (hxy : x ≤ y) (h4 : x / 4 = y / 4) (h12 : ∀ c ∈ tk, c < 12) (ht : og_Ti x y p ld tk) (hlen : tk.length ≤ 4) : og_w tr ld (tk.map (og_sg x y)) = og_w tr ld tk := by
  unfold og_w
  rw [List.length_map, og_bp_sg hxy h4 h12 ht hlen _ (Nat.le_refl _)]
def og_Si (x y p : Nat) (ow ow' : Nat → Nat) (ld : Nat) (tk tk' : List Nat) : Prop :=
  (∀ e, ow' e = ow (og_sg x y e)) ∧ tk' = tk.map (og_sg x y) ∧ (∀ e, x ≤ e → e ≤ y → ow e = p ∨ ow e = 4) ∧ og_Ti x y p ld tk ∧ (∀ c ∈ tk, c < 12) ∧ tk.length < 4
theorem og_hs_iff {ow : Nat → Nat} {p s : Nat} : og_hs ow p s = true ↔ ∃ e, e < 12 ∧ ow e = p ∧ e / 4 = s := by
  unfold og_hs
  rw [List.any_eq_true]
  constructor
  · rintro ⟨e, h1, h2⟩
    rw [List.mem_range] at h1
    rw [Bool.and_eq_true, beq_iff_eq, beq_iff_eq] at h2
    exact ⟨e, h1, h2.1, h2.2⟩
  · rintro ⟨e, h1, h2, h3⟩
    exact ⟨e, List.mem_range.mpr h1, by rw [Bool.and_eq_true, beq_iff_eq, beq_iff_eq]; exact ⟨h2, h3⟩⟩
theorem og_beq {a b : Bool} (h : a = true ↔ b = true) : a = b := by
  cases a <;> cases b <;> simp at h ⊢
theorem og_lg_iff {ow : Nat → Nat} {ld : Nat} {tk : List Nat} {c : Nat} : og_lg ow ld tk c = true ↔ ow c = og_mv ld tk ∧ (tk.length = 0 ∨ (¬ ∃ e, e < 12 ∧ ow e = og_mv ld tk ∧ e / 4 = og_at tk 0 / 4) ∨ c / 4 = og_at tk 0 / 4) := by
  unfold og_lg
  rw [Bool.and_eq_true, Bool.or_eq_true, Bool.or_eq_true, beq_iff_eq, beq_iff_eq, beq_iff_eq, ← og_hs_iff]
  cases og_hs ow (og_mv ld tk) (og_at tk 0 / 4) <;> simp [or_assoc]
theorem og_lg_ow {ow : Nat → Nat} {ld : Nat} {tk : List Nat} {c : Nat} (h : og_lg ow ld tk c = true) : ow c = og_mv ld tk := (og_lg_iff.mp h).1
section
variable {x y p : Nat} {ow ow' : Nat → Nat} {ld : Nat} {tk tk' : List Nat}
theorem og_Si_lg (hxy : x ≤ y) (h4 : x / 4 = y / 4) (hy : y < 12) (S : og_Si x y p ow ow' ld tk tk') {c : Nat} (h : og_lg ow ld tk c = true) : og_lg ow' ld tk' (og_sg x y c) = true := by
  obtain ⟨s1, s2, s3, s4, s5, s6⟩ := S
  subst s2
  have hm : og_mv ld (tk.map (og_sg x y)) = og_mv ld tk := by unfold og_mv; rw [List.length_map]
  obtain ⟨h1, h2⟩ := og_lg_iff.mp h
  rw [og_lg_iff, hm, s1, og_sg_sg, List.length_map, og_sg_4 h4]
  refine ⟨h1, ?_⟩
  by_cases hz : tk.length = 0
  · exact Or.inl hz
  · have ha : og_at (tk.map (og_sg x y)) 0 / 4 = og_at tk 0 / 4 := by rw [og_at_map (by omega), og_sg_4 h4]
    rw [ha]
    rcases h2 with h2 | h2 | h2
    · exact Or.inl h2
    · refine Or.inr (Or.inl ?_)
      rintro ⟨e, e1, e2, e3⟩
      apply h2
      rw [s1] at e2
      exact ⟨og_sg x y e, og_sg_12 (by omega) hy e1, e2, by rw [og_sg_4 h4]; exact e3⟩
    · exact Or.inr (Or.inr h2)
theorem og_Si_sym (hxy : x ≤ y) (h4 : x / 4 = y / 4) (hy : y < 12) (S : og_Si x y p ow ow' ld tk tk') : og_Si x y p ow' ow ld tk' tk := by
  obtain ⟨s1, s2, s3, s4, s5, s6⟩ := S
  subst s2
  refine ⟨?_, ?_, ?_, ?_, ?_, by rw [List.length_map]; exact s6⟩
  · intro e; rw [s1, og_sg_sg]
  · rw [List.map_map]
    have e : (og_sg x y ∘ og_sg x y) = id := funext (fun e => og_sg_sg x y e)
    rw [e, List.map_id]
  · intro e h1 h2
    rw [s1]
    have := og_sg_i hxy ⟨h1, h2⟩
    exact s3 _ this.1 this.2
  · intro i hi h1 h2
    rw [List.length_map] at hi
    rw [og_at_map hi] at h1 h2
    have a := og_sg_i hxy ⟨h1, h2⟩
    rw [og_sg_sg] at a
    exact s4 i hi a.1 a.2
  · intro c hc
    rw [List.mem_map] at hc
    obtain ⟨d, hd, e⟩ := hc
    subst e
    exact og_sg_12 (by omega) hy (s5 d hd)
theorem og_Ti_ap (S : og_Si x y p ow ow' ld tk tk') {c : Nat} (h : og_lg ow ld tk c = true) : og_Ti x y p ld (tk ++ [c]) := by
  obtain ⟨s1, s2, s3, s4, s5, s6⟩ := S
  have h1 := og_lg_ow h
  intro i hi u1 u2
  rw [og_len1] at hi
  by_cases hz : i < tk.length
  · rw [og_at_l hz] at u1 u2
    exact s4 i hz u1 u2
  · have hi : i = tk.length := by omega
    subst hi
    rw [og_at_r] at u1 u2
    have hm := og_mv_lt ld tk
    rcases s3 c u1 u2 with z | z
    · unfold og_mv at h1; omega
    · omega
theorem og_Si_w (hxy : x ≤ y) (h4 : x / 4 = y / 4) (S : og_Si x y p ow ow' ld tk tk') {c : Nat} (hc : c < 12) (h : og_lg ow ld tk c = true) (tr : Int32) : og_w tr ld (tk' ++ [og_sg x y c]) = og_w tr ld (tk ++ [c]) := by
  have T := og_Ti_ap S h
  obtain ⟨s1, s2, s3, s4, s5, s6⟩ := S
  subst s2
  have e : tk.map (og_sg x y) ++ [og_sg x y c] = (tk ++ [c]).map (og_sg x y) := by simp
  rw [e]
  apply og_w_sg hxy h4 ?_ T (by rw [og_len1]; omega)
  intro d hd
  rcases List.mem_append.mp hd with z | z
  · exact s5 d z
  · rw [List.mem_singleton] at z; omega
theorem og_Si_nx (hxy : x ≤ y) (h4 : x / 4 = y / 4) (S : og_Si x y p ow ow' ld tk tk') {c : Nat} (hc : c < 12) (h : og_lg ow ld tk c = true) (tr : Int32) : og_nl tr ld tk' (og_sg x y c) = og_nl tr ld tk c ∧ og_Si x y p (og_no ow c) (og_no ow' (og_sg x y c)) (og_nl tr ld tk c) (og_nt tk c) (og_nt tk' (og_sg x y c)) := by
  have hw := og_Si_w hxy h4 S hc h tr
  have T := og_Ti_ap S h
  obtain ⟨s1, s2, s3, s4, s5, s6⟩ := S
  have hl : tk'.length = tk.length := by rw [s2, List.length_map]
  have o1 : ∀ e, og_no ow' (og_sg x y c) e = og_no ow c (og_sg x y e) := by
    intro e
    unfold og_no
    by_cases he : e = og_sg x y c
    · rw [if_pos he, if_pos (by rw [he, og_sg_sg])]
    · rw [if_neg he, if_neg (fun z => he (by rw [← z, og_sg_sg])), s1]
  have o3 : ∀ e, x ≤ e → e ≤ y → og_no ow c e = p ∨ og_no ow c e = 4 := by
    intro e h1 h2
    unfold og_no
    split
    · exact Or.inr rfl
    · exact s3 e h1 h2
  unfold og_nl og_nt
  rw [hl, hw]
  by_cases hz : tk.length = 3
  · simp only [if_pos hz]
    refine ⟨trivial, o1, rfl, o3, ?_, ?_, by decide⟩
    · intro i hi; exact absurd hi (Nat.not_lt_zero _)
    · intro d hd; exact absurd hd (by simp)
  · simp only [if_neg hz]
    refine ⟨trivial, o1, by rw [s2]; simp, o3, T, ?_, by rw [og_len1]; omega⟩
    intro d hd
    rcases List.mem_append.mp hd with z | z
    · exact s5 d z
    · rw [List.mem_singleton] at z; omega
end
theorem og_V_si {k : Nat} (hk : ¬ k = 2) (tr : Int32) {x y p : Nat} (hxy : x ≤ y) (h4 : x / 4 = y / 4) (hy : y < 12) : ∀ (n : Nat) (ow ow' : Nat → Nat) (ld : Nat) (tk tk' : List Nat), og_Si x y p ow ow' ld tk tk' → og_V k tr n ow ld tk = og_V k tr n ow' ld tk' := by
  intro n
  induction n with
  | zero => intro ow ow' ld tk tk' _; rfl
  | succ n ih =>
    have U : ∀ (ow ow' : Nat → Nat) (ld : Nat) (tk tk' : List Nat), og_Si x y p ow ow' ld tk tk' → ∀ c, c < 12 → og_lg ow ld tk c = true → og_U k tr n ow ld tk c = og_U k tr n ow' ld tk' (og_sg x y c) := by
      intro ow ow' ld tk tk' S c hc h
      obtain ⟨e1, S'⟩ := og_Si_nx hxy h4 S hc h tr
      have hw := og_Si_w hxy h4 S hc h tr
      have hl : tk'.length = tk.length := by rw [S.2.1, List.length_map]
      unfold og_U
      rw [e1, ← ih _ _ _ _ _ S']
      unfold og_gn
      rw [hw, hl]
    intro ow ow' ld tk tk' S
    have S2 := og_Si_sym hxy h4 hy S
    have hl : tk'.length = tk.length := by rw [S.2.1, List.length_map]
    have hm : og_mv ld tk' = og_mv ld tk := by unfold og_mv; rw [hl]
    rw [og_V_s, og_V_s, hm]
    apply og_fd_eq hk
    · intro c hc
      obtain ⟨h1, h2⟩ := og_fl_m.mp hc
      exact ⟨og_sg x y c, og_fl_m.mpr ⟨og_sg_12 (by omega) hy h1, og_Si_lg hxy h4 hy S h2⟩, U _ _ _ _ _ S c h1 h2⟩
    · intro c hc
      obtain ⟨h1, h2⟩ := og_fl_m.mp hc
      exact ⟨og_sg x y c, og_fl_m.mpr ⟨og_sg_12 (by omega) hy h1, og_Si_lg hxy h4 hy S2 h2⟩, U _ _ _ _ _ S2 c h1 h2⟩
/-- equal cards -/
theorem og_U_eq {k : Nat} (hk : ¬ k = 2) (tr : Int32) {x y : Nat} (hxy : x ≤ y) (h4 : x / 4 = y / 4) (hy : y < 12) {n : Nat} {ow : Nat → Nat} {ld : Nat} {tk : List Nat} (hlg : og_lg ow ld tk x = true) (hoy : ow y = og_mv ld tk) (hin : ∀ e, x ≤ e → e ≤ y → ow e = og_mv ld tk ∨ ow e = 4) (htk : ∀ c ∈ tk, c < 12 ∧ ow c = 4 ∧ ¬ (x ≤ c ∧ c ≤ y)) (hlen : tk.length < 4) : og_U k tr n ow ld tk x = og_U k tr n ow ld tk y := by
  have hox := og_lg_ow hlg
  have S : og_Si x y (og_mv ld tk) ow ow ld tk tk := by
    refine ⟨?_, ?_, hin, ?_, fun c hc => (htk c hc).1, hlen⟩
    · intro e
      unfold og_sg
      split
      · next z => rw [z, hox, hoy]
      · split
        · next z => rw [z, hox, hoy]
        · rfl
    · have e : tk.map (og_sg x y) = tk.map id := by
        apply List.map_congr_left
        intro c hc
        exact og_sg_o hxy (htk c hc).2.2
      rw [e, List.map_id]
    · intro i hi h1 h2
      exact absurd ⟨h1, h2⟩ (htk _ (og_at_mem hi)).2.2
  have hx : x < 12 := by omega
  obtain ⟨e1, S'⟩ := og_Si_nx hxy h4 S hx hlg tr
  have hw := og_Si_w hxy h4 S hx hlg tr
  rw [og_sg_x] at e1 S' hw
  unfold og_U
  rw [e1, og_V_si hk tr hxy h4 hy _ _ _ _ _ _ S']
  unfold og_gn
  rw [hw]
/-! fewer -/
def og_fw (set oth : Nat → Bool) : Nat → Bool
  | 0 => false
  | n + 1 => set n || (if n % 4 = 0 ∨ oth n = true then false else og_fw set oth n)
def og_fo (set oth : Nat → Bool) (c : Nat) : Bool := set c && !(if c % 4 = 0 ∨ oth c = true then false else og_fw set oth c)
theorem og_fw_s {set oth : Nat → Bool} {n : Nat} : og_fw set oth (n + 1) = (set n || (if n % 4 = 0 ∨ oth n = true then false else og_fw set oth n)) := rfl
theorem og_fw_p {set oth : Nat → Bool} : ∀ n, og_fw set oth n = true → ∃ c, c < n ∧ og_fo set oth c = true ∧ c / 4 = (n - 1) / 4 ∧ ∀ e, c < e → e < n → oth e = false := by
  intro n
  induction n with
  | zero => intro h; exact absurd h Bool.false_ne_true
  | succ n ih =>
    intro h
    rw [og_fw_s] at h
    by_cases hb : n % 4 = 0 ∨ oth n = true
    · rw [if_pos hb, Bool.or_false] at h
      refine ⟨n, by omega, ?_, rfl, fun e h1 h2 => by omega⟩
      unfold og_fo
      rw [if_pos hb, h]; rfl
    · rw [if_neg hb] at h
      have h4 : ¬ n % 4 = 0 := fun z => hb (Or.inl z)
      have ho : oth n = false := by
        cases hh : oth n
        · rfl
        · exact absurd (Or.inr hh) hb
      cases hf : og_fw set oth n
      · rw [hf, Bool.or_false] at h
        refine ⟨n, by omega, ?_, rfl, fun e h1 h2 => by omega⟩
        unfold og_fo
        rw [if_neg hb, h, hf]; rfl
      · obtain ⟨c, c1, c2, c3, c4⟩ := ih hf
        refine ⟨c, by omega, c2, by omega, ?_⟩
        intro e h1 h2
        by_cases hz : e = n
        · rw [hz]; exact ho
        · exact c4 e h1 (by omega)
theorem og_fo_s {set oth : Nat → Bool} {c : Nat} (h : og_fo set oth c = true) : set c = true := by
  unfold og_fo at h
  rw [Bool.and_eq_true] at h
  exact h.1
theorem og_fo_p {set oth : Nat → Bool} {c : Nat} (h : set c = true) : ∃ d, d ≤ c ∧ og_fo set oth d = true ∧ d / 4 = c / 4 ∧ ∀ e, d < e → e ≤ c → oth e = false := by
  by_cases hb : c % 4 = 0 ∨ oth c = true
  · refine ⟨c, by omega, ?_, rfl, fun e h1 h2 => by omega⟩
    unfold og_fo
    rw [if_pos hb, h]; rfl
  · have h4 : ¬ c % 4 = 0 := fun z => hb (Or.inl z)
    have ho : oth c = false := by
      cases hh : oth c
      · rfl
      · exact absurd (Or.inr hh) hb
    cases hf : og_fw set oth c
    · refine ⟨c, by omega, ?_, rfl, fun e h1 h2 => by omega⟩
      unfold og_fo
      rw [if_neg hb, h, hf]; rfl
    · obtain ⟨d, c1, c2, c3, c4⟩ := og_fw_p c hf
      refine ⟨d, by omega, c2, by omega, ?_⟩
      intro e h1 h2
      by_cases hz : e = c
      · rw [hz]; exact ho
      · exact c4 e h1 (by omega)
/-- others' cards: in the other hands, or in the trick -/
def og_ot (ow : Nat → Nat) (ld : Nat) (tk : List Nat) (e : Nat) : Bool := (decide (ow e < 4) && !(ow e == og_mv ld tk)) || decide (e ∈ tk)
theorem og_V_fo {k : Nat} (hk : ¬ k = 2) (tr : Int32) {n : Nat} {ow : Nat → Nat} {ld : Nat} {tk : List Nat} (how : ∀ c, ow c ≤ 4) (htk : ∀ c ∈ tk, c < 12 ∧ ow c = 4) (hlen : tk.length < 4) (a : Int) : og_fd k (og_mv ld tk) (og_U k tr n ow ld tk) (og_fl (og_fo (og_lg ow ld tk) (og_ot ow ld tk))) a = og_fd k (og_mv ld tk) (og_U k tr n ow ld tk) (og_fl (og_lg ow ld tk)) a := by
  apply og_fd_eq hk
  · intro c hc
    obtain ⟨h1, h2⟩ := og_fl_m.mp hc
    exact ⟨c, og_fl_m.mpr ⟨h1, og_fo_s h2⟩, rfl⟩
  · intro c hc
    obtain ⟨h1, h2⟩ := og_fl_m.mp hc
    obtain ⟨d, d1, d2, d3, d4⟩ := og_fo_p (oth := og_ot ow ld tk) h2
    have hd := og_fo_s d2
    have hod := og_lg_ow hd
    have hoc := og_lg_ow h2
    have hm := og_mv_lt ld tk
    refine ⟨d, og_fl_m.mpr ⟨by omega, d2⟩, ?_⟩
    symm
    apply og_U_eq hk tr d1 d3 h1 hd hoc ?_ ?_ hlen
    · intro e h3 h4
      by_cases hz : e = d
      · rw [hz]; exact Or.inl hod
      · have ho := d4 e (by omega) h4
        unfold og_ot at ho
        rw [Bool.or_eq_false_iff, Bool.and_eq_false_iff] at ho
        rcases ho.1 with z | z
        · have := of_decide_eq_false z
          have := how e
          exact Or.inr (by omega)
        · left
          simpa using z
    · intro e he
      obtain ⟨e1, e2⟩ := htk e he
      refine ⟨e1, e2, ?_⟩
      rintro ⟨e3, e4⟩
      by_cases hz : e = d
      · rw [hz, hod] at e2; omega
      · have ho := d4 e (by omega) e4
        unfold og_ot at ho
        rw [Bool.or_eq_false_iff] at ho
        exact of_decide_eq_false ho.2 he
end
section
/-! hand sizes -/
def og_cn (ow : Nat → Nat) (p : Nat) : Nat := og_ct (fun c => ow c == p) 12
def og_I (n : Nat) (ow : Nat → Nat) (ld : Nat) (tk : List Nat) : Prop :=
  (∀ c, ow c ≤ 4) ∧ (∀ c, 12 ≤ c → ow c = 4) ∧ ld < 4 ∧ tk.length < 4 ∧ (∀ c ∈ tk, c < 12 ∧ ow c = 4) ∧ ∃ m, m ≤ 3 ∧ n + tk.length = 4 * m ∧ ∀ i, i < 4 → og_cn ow ((ld + i) % 4) = if i < tk.length then m - 1 else m
theorem og_cn_no {ow : Nat → Nat} {c q : Nat} (hq : q < 4) (hc : c < 12) : og_cn (og_no ow c) q + (if ow c = q then 1 else 0) = og_cn ow q := by
  unfold og_cn
  have e : og_ct (fun e => og_no ow c e == q) 12 = og_ct (fun e => (ow e == q) && !(e == c)) 12 := by
    apply og_ct_ext
    intro i hi
    unfold og_no
    by_cases h : i = c
    · rw [if_pos h]
      have h2 : (4 == q) = false := by simp; omega
      simp [h, h2]
    · rw [if_neg h]
      simp [h]
  rw [e]
  have a := og_ct_rm (fun e => ow e == q) c 12
  have b : (c < 12 ∧ (ow c == q) = true) ↔ ow c = q := by simp [hc]
  simp only [b] at a
  exact a
theorem og_rot {ld q : Nat} (hl : ld < 4) (hq : q < 4) : ∃ j, j < 4 ∧ q = (ld + j) % 4 := ⟨(q + 4 - ld) % 4, by omega, by omega⟩
theorem og_I_mv {n : Nat} {ow : Nat → Nat} {ld : Nat} {tk : List Nat} (H : og_I n ow ld tk) : ∃ m, m ≤ 3 ∧ n + tk.length = 4 * m ∧ og_cn ow (og_mv ld tk) = m := by
  obtain ⟨h1, h2, h3, h4, h5, m, h6, h7, h8⟩ := H
  refine ⟨m, h6, h7, ?_⟩
  have := h8 tk.length h4
  rw [if_neg (by omega)] at this
  exact this
theorem og_I_12 {n : Nat} {ow : Nat → Nat} {ld : Nat} {tk : List Nat} (H : og_I n ow ld tk) : n ≤ 12 := by
  obtain ⟨m, a, b, _⟩ := og_I_mv H
  omega
theorem og_cn_pos {ow : Nat → Nat} {c p : Nat} (hc : c < 12) (h : ow c = p) : 0 < og_cn ow p := by
  rcases Nat.eq_zero_or_pos (og_cn ow p) with z | z
  · have := og_ct_0.mp z c hc
    simp [h] at this
  · exact z
theorem og_I_pos {n : Nat} {ow : Nat → Nat} {ld : Nat} {tk : List Nat} (H : og_I n ow ld tk) {c : Nat} (hc : c < 12) (h : ow c = og_mv ld tk) : 0 < n := by
  obtain ⟨m, a, b, e⟩ := og_I_mv H
  have := og_cn_pos hc h
  have := H.2.2.2.1
  omega
/-- all hands are empty, or the mover's is not -/
theorem og_I_0 {ow : Nat → Nat} {ld : Nat} {tk : List Nat} (H : og_I 0 ow ld tk) : tk = [] ∧ ∀ c, ow c = 4 := by
  obtain ⟨h1, h2, h3, h4, h5, m, h6, h7, h8⟩ := H
  have hm : m = 0 := by omega
  have hl : tk.length = 0 := by omega
  refine ⟨List.length_eq_zero_iff.mp hl, ?_⟩
  intro c
  by_cases hc : c < 12
  · by_cases hq : ow c < 4
    · obtain ⟨j, j1, j2⟩ := og_rot h3 hq
      have a := h8 j j1
      have b := og_cn_pos hc j2
      rw [a] at b
      split at b <;> omega
    · have := h1 c
      omega
  · exact h2 c (by omega)
theorem og_I_ex {n : Nat} {ow : Nat → Nat} {ld : Nat} {tk : List Nat} (H : og_I (n + 1) ow ld tk) : ∃ c, c < 12 ∧ ow c = og_mv ld tk := by
  obtain ⟨m, a, b, e⟩ := og_I_mv H
  have hp : 0 < og_cn ow (og_mv ld tk) := by omega
  obtain ⟨c, c1, c2⟩ := og_ct_pos hp
  exact ⟨c, c1, by simpa using c2⟩
theorem og_I_lg {n : Nat} {ow : Nat → Nat} {ld : Nat} {tk : List Nat} (H : og_I (n + 1) ow ld tk) : ∃ c, c < 12 ∧ og_lg ow ld tk c = true := by
  obtain ⟨c, c1, c2⟩ := og_I_ex H
  by_cases h : ∃ e, e < 12 ∧ ow e = og_mv ld tk ∧ e / 4 = og_at tk 0 / 4
  · obtain ⟨e, e1, e2, e3⟩ := h
    exact ⟨e, e1, og_lg_iff.mpr ⟨e2, Or.inr (Or.inr e3)⟩⟩
  · exact ⟨c, c1, og_lg_iff.mpr ⟨c2, Or.inr (Or.inl h)⟩⟩
theorem og_I_ne {n : Nat} {ow : Nat → Nat} {ld : Nat} {tk : List Nat} (H : og_I (n + 1) ow ld tk) : og_fl (og_lg ow ld tk) ≠ [] := by
  obtain ⟨c, c1, c2⟩ := og_I_lg H
  intro z
  have := og_fl_nil.mp z c c1
  rw [this] at c2
  exact absurd c2 (by decide)
theorem og_I_len {n : Nat} {ow : Nat → Nat} {ld : Nat} {tk : List Nat} (H : og_I (n + 1) ow ld tk) : (og_fl (og_lg ow ld tk)).length ≤ (n + 4) / 4 := by
  obtain ⟨m, a, b, e⟩ := og_I_mv H
  have h4 := H.2.2.2.1
  rw [og_fl_len]
  have h : og_ct (og_lg ow ld tk) 12 ≤ og_cn ow (og_mv ld tk) := by
    apply og_ct_le
    intro i _ h
    rw [og_lg_ow h]
    simp
  omega
theorem og_I_nx {n : Nat} {ow : Nat → Nat} {ld : Nat} {tk : List Nat} (tr : Int32) (H : og_I (n + 1) ow ld tk) {c : Nat} (hc : c < 12) (hl : og_lg ow ld tk c = true) : og_I n (og_no ow c) (og_nl tr ld tk c) (og_nt tk c) := by
  obtain ⟨h1, h2, h3, h4, h5, m, h6, h7, h8⟩ := H
  have ho := og_lg_ow hl
  have o1 : ∀ e, og_no ow c e ≤ 4 := by
    intro e; unfold og_no; split
    · omega
    · exact h1 e
  have o2 : ∀ e, 12 ≤ e → og_no ow c e = 4 := by
    intro e he; unfold og_no; split
    · rfl
    · exact h2 e he
  have hq : ∀ j, j < 4 → og_cn (og_no ow c) ((ld + j) % 4) = if j < tk.length + 1 then m - 1 else m := by
    intro j hj
    have a := og_cn_no (ow := ow) (c := c) (q := (ld + j) % 4) (Nat.mod_lt _ (by decide)) hc
    rw [h8 j hj, ho] at a
    unfold og_mv at a
    by_cases z : j = tk.length
    · subst z
      rw [if_pos rfl, if_neg (by omega)] at a
      rw [if_pos (by omega)]
      omega
    · rw [if_neg (by omega)] at a
      rw [Nat.add_zero] at a
      rw [a]
      by_cases y : j < tk.length
      · rw [if_pos y, if_pos (by omega)]
      · rw [if_neg y, if_neg (by omega)]
  by_cases z : tk.length = 3
  · unfold og_nl og_nt
    rw [if_pos z, if_pos z]
    refine ⟨o1, o2, og_w_lt _ _ _, by decide, fun d hd => absurd hd (by simp), m - 1, by omega, ?_, ?_⟩
    · show n + 0 = _
      omega
    · intro i hi
      rw [if_neg (by simp)]
      obtain ⟨j, j1, j2⟩ := og_rot (q := (og_w tr ld (tk ++ [c]) + i) % 4) h3 (Nat.mod_lt _ (by decide))
      rw [j2, hq j j1, if_pos (by omega)]
  · unfold og_nl og_nt
    rw [if_neg z, if_neg z]
    refine ⟨o1, o2, h3, by rw [og_len1]; omega, ?_, m, h6, by rw [og_len1]; omega, ?_⟩
    · intro d hd
      rcases List.mem_append.mp hd with y | y
      · obtain ⟨a, b⟩ := h5 d y
        refine ⟨a, ?_⟩
        unfold og_no
        split
        · rfl
        · exact b
      · rw [List.mem_singleton] at y
        subst y
        exact ⟨hc, if_pos rfl⟩
    · intro i hi
      rw [og_len1]
      exact hq i hi
/-! bounds -/
def og_B : Nat → Nat
  | 0 => 1
  | n + 1 => ((n + 4) / 4) * og_B n
def og_R : Nat → Nat
  | 0 => 0
  | n + 1 => ((n + 4) / 4) * (2 + og_R n)
theorem og_B12 : ∀ n, n ≤ 12 → og_B n ≤ 1296 := by
  intro n h
  have : ∀ n, n < 13 → og_B n ≤ 1296 := by decide +kernel
  exact this n (by omega)
theorem og_R12 : ∀ n, n ≤ 12 → og_R n ≤ 20000 := by
  intro n h
  have : ∀ n, n < 13 → og_R n ≤ 20000 := by decide +kernel
  exact this n (by omega)
theorem og_gn_b (k : Nat) (tr : Int32) (ld : Nat) (tk : List Nat) (c : Nat) : 0 ≤ og_gn k tr ld tk c ∧ og_gn k tr ld tk c ≤ 1 := by
  unfold og_gn
  split
  · omega
  · split <;> omega
theorem og_V_b1 {k : Nat} (hk : ¬ k = 2) (tr : Int32) : ∀ (n : Nat) (ow : Nat → Nat) (ld : Nat) (tk : List Nat), og_I n ow ld tk → 0 ≤ og_V k tr n ow ld tk ∧ og_V k tr n ow ld tk ≤ (n : Int) := by
  intro n
  induction n with
  | zero =>
    intro ow ld tk _
    rw [og_V_0, if_neg hk]
    omega
  | succ n ih =>
    intro ow ld tk H
    have h12 := og_I_12 H
    have hb : ∀ c ∈ og_fl (og_lg ow ld tk), 0 ≤ og_U k tr n ow ld tk c ∧ og_U k tr n ow ld tk c ≤ (n : Int) + 1 := by
      intro c hc
      obtain ⟨c1, c2⟩ := og_fl_m.mp hc
      have a := ih _ _ _ (og_I_nx tr H c1 c2)
      have b := og_gn_b k tr ld tk c
      unfold og_U
      omega
    obtain ⟨c, c1, c2⟩ := og_fd_at (k := k) (mv := og_mv ld tk) hk (f := og_U k tr n ow ld tk) (og_I_ne H) (fun c hc => by have := hb c hc; omega)
    rw [og_V_s, c2]
    have := hb c c1
    omega
theorem og_sum_b {f : Nat → Int} {b : Nat} : ∀ {l : List Nat}, (∀ c ∈ l, 1 ≤ f c ∧ f c ≤ (b : Int)) → (l.length : Int) ≤ (l.map f).sum ∧ (l.map f).sum ≤ ((l.length * b : Nat) : Int) := by
  intro l
  induction l with
  | nil => intro _; simp
  | cons c l ih =>
    intro h
    have a := ih (fun d hd => h d (List.mem_cons_of_mem _ hd))
    have e := h c List.mem_cons_self
    rw [List.map_cons, List.sum_cons, List.length_cons, Nat.add_mul, Nat.one_mul]
    omega
theorem og_V_b2 (tr : Int32) : ∀ (n : Nat) (ow : Nat → Nat) (ld : Nat) (tk : List Nat), og_I n ow ld tk → 1 ≤ og_V 2 tr n ow ld tk ∧ og_V 2 tr n ow ld tk ≤ (og_B n : Int) := by
  intro n
  induction n with
  | zero =>
    intro ow ld tk _
    rw [og_V_0, if_pos rfl]
    exact ⟨by omega, by decide⟩
  | succ n ih =>
    intro ow ld tk H
    have hb : ∀ c ∈ og_fl (og_lg ow ld tk), 1 ≤ og_U 2 tr n ow ld tk c ∧ og_U 2 tr n ow ld tk c ≤ (og_B n : Int) := by
      intro c hc
      obtain ⟨c1, c2⟩ := og_fl_m.mp hc
      have a := ih _ _ _ (og_I_nx tr H c1 c2)
      have b : og_gn 2 tr ld tk c = 0 := if_pos rfl
      unfold og_U
      omega
    obtain ⟨a1, a2⟩ := og_sum_b hb
    have hl := og_I_len H
    have h0 : 0 < (og_fl (og_lg ow ld tk)).length := List.length_pos_iff.mpr (og_I_ne H)
    have e : og_in 2 (og_mv ld tk) = 0 := if_pos rfl
    have hm : (og_fl (og_lg ow ld tk)).length * og_B n ≤ og_B (n + 1) := Nat.mul_le_mul_right _ hl
    rw [og_V_s, og_fd_2, e]
    omega
theorem og_V_b {k : Nat} {tr : Int32} {n : Nat} {ow : Nat → Nat} {ld : Nat} {tk : List Nat} (H : og_I n ow ld tk) : 0 ≤ og_V k tr n ow ld tk ∧ og_V k tr n ow ld tk ≤ 1296 := by
  have h12 := og_I_12 H
  by_cases hk : k = 2
  · subst hk
    have a := og_V_b2 tr n ow ld tk H
    have b := og_B12 n h12
    omega
  · have a := og_V_b1 hk tr n ow ld tk H
    omega
theorem og_U_b {k : Nat} {tr : Int32} {n : Nat} {ow : Nat → Nat} {ld : Nat} {tk : List Nat} (H : og_I (n + 1) ow ld tk) {c : Nat} (hc : c < 12) (hl : og_lg ow ld tk c = true) : 0 ≤ og_U k tr n ow ld tk c ∧ og_U k tr n ow ld tk c ≤ 1297 := by
  have a := og_V_b (k := k) (tr := tr) (og_I_nx tr H hc hl)
  have b := og_gn_b k tr ld tk c
  unfold og_U
  omega
theorem og_U_b1 {k : Nat} (hk : ¬ k = 2) {tr : Int32} {n : Nat} {ow : Nat → Nat} {ld : Nat} {tk : List Nat} (H : og_I (n + 1) ow ld tk) {c : Nat} (hc : c < 12) (hl : og_lg ow ld tk c = true) : 0 ≤ og_U k tr n ow ld tk c ∧ og_U k tr n ow ld tk c ≤ 13 := by
  have a := og_V_b1 hk tr _ _ _ _ (og_I_nx tr H hc hl)
  have b := og_gn_b k tr ld tk c
  have h12 := og_I_12 H
  unfold og_U
  omega
/-! keys -/
def og_ky (ow : Nat → Nat) (ld : Nat) : Nat := ((((ld + 1) * 4096 + og_mf (fun c => ow c == 0)) * 4096 + og_mf (fun c => ow c == 1)) * 4096 + og_mf (fun c => ow c == 2)) * 4096 + og_mf (fun c => ow c == 3)
theorem og_ky_lt {ow : Nat → Nat} {ld : Nat} (h : ld < 4) : og_ky ow ld < 2 ^ 62 ∧ 0 < og_ky ow ld := by
  unfold og_ky
  have a0 := og_mf_lt (fun c => ow c == 0)
  have a1 := og_mf_lt (fun c => ow c == 1)
  have a2 := og_mf_lt (fun c => ow c == 2)
  have a3 := og_mf_lt (fun c => ow c == 3)
  omega
theorem og_ky_inj {ow ow' : Nat → Nat} {ld ld' : Nat} (h1 : ∀ c, ow c ≤ 4) (h2 : ∀ c, 12 ≤ c → ow c = 4) (h1' : ∀ c, ow' c ≤ 4) (h2' : ∀ c, 12 ≤ c → ow' c = 4) (h : og_ky ow ld = og_ky ow' ld') : ow = ow' ∧ ld = ld' := by
  unfold og_ky at h
  have a0 := og_mf_lt (fun c => ow c == 0)
  have a1 := og_mf_lt (fun c => ow c == 1)
  have a2 := og_mf_lt (fun c => ow c == 2)
  have a3 := og_mf_lt (fun c => ow c == 3)
  have b0 := og_mf_lt (fun c => ow' c == 0)
  have b1 := og_mf_lt (fun c => ow' c == 1)
  have b2 := og_mf_lt (fun c => ow' c == 2)
  have b3 := og_mf_lt (fun c => ow' c == 3)
  have e3 : og_mf (fun c => ow c == 3) = og_mf (fun c => ow' c == 3) := by omega
  have e2 : og_mf (fun c => ow c == 2) = og_mf (fun c => ow' c == 2) := by omega
  have e1 : og_mf (fun c => ow c == 1) = og_mf (fun c => ow' c == 1) := by omega
  have e0 : og_mf (fun c => ow c == 0) = og_mf (fun c => ow' c == 0) := by omega
  refine ⟨?_, by omega⟩
  funext c
  by_cases hc : c < 12
  · have f0 := og_mf_inj e0 c hc
    have f1 := og_mf_inj e1 c hc
    have f2 := og_mf_inj e2 c hc
    have f3 := og_mf_inj e3 c hc
    have g : ∀ p, (ow c == p) = (ow' c == p) → (ow c = p ↔ ow' c = p) := by
      intro p hp
      rw [← beq_iff_eq, hp, beq_iff_eq]
    have g0 := g 0 f0
    have g1 := g 1 f1
    have g2 := g 2 f2
    have g3 := g 3 f3
    have := h1 c
    have := h1' c
    omega
  · rw [h2 c (by omega), h2' c (by omega)]
end
section
/-! the history: the cards played, the newest first -/
def og_ps (tr : Int32) (o : Nat → Nat) (l : Nat) : List Nat → (Nat → Nat) × Nat × List Nat × List Nat
  | [] => (o, l, [], [])
  | c :: cs => (og_no (og_ps tr o l cs).1 c, og_nl tr (og_ps tr o l cs).2.1 (og_ps tr o l cs).2.2.1 c, og_nt (og_ps tr o l cs).2.2.1 c, og_ns tr (og_ps tr o l cs).2.1 (og_ps tr o l cs).2.2.1 (og_ps tr o l cs).2.2.2 c)
def og_hO (tr : Int32) (o : Nat → Nat) (l : Nat) (cs : List Nat) : Nat → Nat := (og_ps tr o l cs).1
def og_hL (tr : Int32) (o : Nat → Nat) (l : Nat) (cs : List Nat) : Nat := (og_ps tr o l cs).2.1
def og_hT (tr : Int32) (o : Nat → Nat) (l : Nat) (cs : List Nat) : List Nat := (og_ps tr o l cs).2.2.1
def og_hW (tr : Int32) (o : Nat → Nat) (l : Nat) (cs : List Nat) : List Nat := (og_ps tr o l cs).2.2.2
section
variable {tr : Int32} {o : Nat → Nat} {l : Nat}
theorem og_hO_c (c : Nat) (cs : List Nat) : og_hO tr o l (c :: cs) = og_no (og_hO tr o l cs) c := rfl
theorem og_hL_c (c : Nat) (cs : List Nat) : og_hL tr o l (c :: cs) = og_nl tr (og_hL tr o l cs) (og_hT tr o l cs) c := rfl
theorem og_hT_c (c : Nat) (cs : List Nat) : og_hT tr o l (c :: cs) = og_nt (og_hT tr o l cs) c := rfl
theorem og_hW_c (c : Nat) (cs : List Nat) : og_hW tr o l (c :: cs) = og_ns tr (og_hL tr o l cs) (og_hT tr o l cs) (og_hW tr o l cs) c := rfl
/-- cards played by the rules -/
def og_ok (tr : Int32) (o : Nat → Nat) (l : Nat) : List Nat → Prop
  | [] => True
  | c :: cs => (c < 12 ∧ og_lg (og_hO tr o l cs) (og_hL tr o l cs) (og_hT tr o l cs) c = true) ∧ og_ok tr o l cs
theorem og_ok_I {N : Nat} (H : og_I N o l []) : ∀ cs, og_ok tr o l cs → ∃ n, n + cs.length = N ∧ og_I n (og_hO tr o l cs) (og_hL tr o l cs) (og_hT tr o l cs) := by
  intro cs
  induction cs with
  | nil => intro _; exact ⟨N, rfl, H⟩
  | cons c cs ih =>
    rintro ⟨⟨h1, h2⟩, h3⟩
    obtain ⟨n, n1, n2⟩ := ih h3
    have hp := og_I_pos n2 h1 (og_lg_ow h2)
    obtain ⟨k, rfl⟩ : ∃ k, n = k + 1 := ⟨n - 1, by omega⟩
    refine ⟨k, by rw [List.length_cons]; omega, ?_⟩
    rw [og_hO_c, og_hL_c, og_hT_c]
    exact og_I_nx tr n2 h1 h2
theorem og_hlen : ∀ cs, (og_hT tr o l cs).length < 4 ∧ cs.length = 4 * (og_hW tr o l cs).length + (og_hT tr o l cs).length := by
  intro cs
  induction cs with
  | nil => exact ⟨show 0 < 4 by decide, rfl⟩
  | cons c cs ih =>
    obtain ⟨a, b⟩ := ih
    rw [og_hT_c, og_hW_c, List.length_cons]
    unfold og_nt og_ns
    split
    · simp only [List.length_append, List.length_cons, List.length_nil]
      omega
    · simp only [List.length_append, List.length_cons, List.length_nil]
      omega
def og_wc (s : Nat) (ws : List Nat) : Nat := ws.countP (fun w => w % 2 == s)
theorem og_wc_a (s : Nat) (ws : List Nat) (w : Nat) : og_wc s (ws ++ [w]) = og_wc s ws + if w % 2 = s then 1 else 0 := by
  unfold og_wc
  rw [List.countP_append]
  by_cases h : w % 2 = s
  · simp [h]
  · simp [h]
theorem og_wc_le (s : Nat) (ws : List Nat) : og_wc s ws ≤ ws.length := List.countP_le_length
/-- tricks of side 0 after a card: its gain -/
theorem og_wc_g {k : Nat} (hk : ¬ k = 2) (c : Nat) (cs : List Nat) : (og_wc 0 (og_hW tr o l (c :: cs)) : Int) = og_wc 0 (og_hW tr o l cs) + og_gn k tr (og_hL tr o l cs) (og_hT tr o l cs) c := by
  rw [og_hW_c]
  unfold og_ns og_gn
  rw [if_neg hk]
  by_cases z : (og_hT tr o l cs).length = 3
  · rw [if_pos z, og_wc_a]
    by_cases y : og_w tr (og_hL tr o l cs) (og_hT tr o l cs ++ [c]) % 2 = 0
    · rw [if_pos y, if_pos ⟨z, y⟩]; omega
    · rw [if_neg y, if_neg (fun q => y q.2)]; omega
  · rw [if_neg z, if_neg (fun q => z q.1)]; omega
end
end
section
/-! X: small methods -/
theorem og_and3 {n : Nat} (h : n < 2 ^ 32) : nI n &&& 3 = nI (n % 4) := pk_andN h (m := 3) 2 (by decide)
theorem og_and1 {n : Nat} (h : n < 2 ^ 32) : nI n &&& 1 = nI (n % 2) := pk_andN h (m := 1) 1 (by decide)
theorem og_d4 {c : Nat} (h : c < 2 ^ 31) : nI c / 4 = nI (c / 4) := pk_div (d := 4) h (by decide) (by decide)
theorem og_r4 {c : Nat} (h : c < 2 ^ 31) : nI c - nI c / 4 * 4 = nI (c % 4) := pk_rem (d := 4) h (by decide) (by decide)
theorem og_d2 {c : Nat} (h : c < 2 ^ 31) : nI c / 2 = nI (c / 2) := pk_div (d := 2) h (by decide) (by decide)
theorem og_r2 {c : Nat} (h : c < 2 ^ 31) : nI c - nI c / 2 * 2 = nI (c % 2) := pk_rem (d := 2) h (by decide) (by decide)
theorem og_st_lt (tr : Int32) (l c : Nat) : og_st tr l c < 20 := by
  unfold og_st
  split
  · omega
  · split <;> omega
theorem og_n4 : ¬ (4 : Int32) = 0 := by decide
theorem og_n2 : ¬ (2 : Int32) = 0 := by decide
/-- the current position in X's fields -/
def og_CX (ow : Nat → Nat) (ld : Nat) (tk : List Nat) (f_lead f_played : Int32) (a_hand a_trick : Nat → Int32) : Prop :=
  f_lead = nI ld ∧ f_played = nI tk.length ∧ (∀ p, p < 4 → a_hand p = nI (og_mf (fun c => ow c == p))) ∧ (∀ i, i < tk.length → a_trick i = nI (og_at tk i))
section
variable {f_on f_trump f_lead f_played f_firstWon f_secondWon f_steps f_kind f_entered : Int32} {a_dealt a_hand a_trick a_pastCard a_pastLead a_pastTrick a_pastPlayed a_pastFirst a_pastSecond a_choices a_found a_base : Nat → Int32} {a_tableKey : Nat → Int64} {a_tableValue : Nat → Int32}
variable {ow : Nat → Nat} {ld : Nat} {tk : List Nat} {n : Nat}
theorem ox_size {post : Int32 → Prop} {x : Int32} (h : post (og_sz x 12)) : wpX_sizeOf post (f_on, f_trump, f_lead, f_played, f_firstWon, f_secondWon, f_steps, f_kind, f_entered, a_dealt, a_hand, a_trick, a_pastCard, a_pastLead, a_pastTrick, a_pastPlayed, a_pastFirst, a_pastSecond, a_choices, a_found, a_base, a_tableKey, a_tableValue) x := by
  have L : ∀ d i, i + d = 12 → wX_sizeOf_4 post x f_on f_trump f_lead f_played f_firstWon f_secondWon f_steps f_kind f_entered a_dealt a_hand a_trick a_pastCard a_pastLead a_pastTrick a_pastPlayed a_pastFirst a_pastSecond a_choices a_found a_base a_tableKey a_tableValue (d + 1) (og_sz x i) (nI i) := by
    intro d
    induction d with
    | zero =>
      intro i hi
      obtain rfl : i = 12 := by omega
      exact br_t (show (12 : Int32) ≤ nI 12 from Int32.le_refl _) h
    | succ d ih =>
      intro i hi
      refine br_f (show ¬ (12 : Int32) ≤ nI i from nI_ge (b := 12) (by omega) (by decide)) (nm_e (nm_r (nI_1 i) ?_))
      exact ih (i + 1) (by omega)
  exact ⟨13, L 12 0 rfl⟩
theorem ox_mover {post : Int32 → Prop} (C : og_CX ow ld tk f_lead f_played a_hand a_trick) (hl : ld < 4) (ht : tk.length < 4) (h : post (nI (og_mv ld tk))) : wpX_mover post (f_on, f_trump, f_lead, f_played, f_firstWon, f_secondWon, f_steps, f_kind, f_entered, a_dealt, a_hand, a_trick, a_pastCard, a_pastLead, a_pastTrick, a_pastPlayed, a_pastFirst, a_pastSecond, a_choices, a_found, a_base, a_tableKey, a_tableValue) := by
  show post ((f_lead + f_played) &&& 3)
  rw [C.1, C.2.1, nI_add, og_and3 (by omega)]
  exact h
theorem ox_suit {post : Int32 → Prop} {x : Int32} {s : Nat} (hx : x = nI s) (hs : s < 3) (h : post (nI (og_mf (fun i => i / 4 == s)))) : wpX_suitCards post (f_on, f_trump, f_lead, f_played, f_firstWon, f_secondWon, f_steps, f_kind, f_entered, a_dealt, a_hand, a_trick, a_pastCard, a_pastLead, a_pastTrick, a_pastPlayed, a_pastFirst, a_pastSecond, a_choices, a_found, a_base, a_tableKey, a_tableValue) x := by
  subst hx
  show post ((15 : Int32) <<< ((4 * nI s) &&& 31))
  rw [og_su s hs]
  exact h
theorem ox_legal {post : Int32 → Prop} (C : og_CX ow ld tk f_lead f_played a_hand a_trick) (H : og_I n ow ld tk) (h : post (nI (og_mf (og_lg ow ld tk)))) : wpX_legalNow post (f_on, f_trump, f_lead, f_played, f_firstWon, f_secondWon, f_steps, f_kind, f_entered, a_dealt, a_hand, a_trick, a_pastCard, a_pastLead, a_pastTrick, a_pastPlayed, a_pastFirst, a_pastSecond, a_choices, a_found, a_base, a_tableKey, a_tableValue) := by
  have hm := og_mv_lt ld tk
  unfold wpX_legalNow
  dsimp only
  refine ox_mover C H.2.2.1 H.2.2.2.1 ⟨vp_in_nI hm (by decide), nm_r (e' := nI (og_mf (fun c => ow c == og_mv ld tk))) (by rw [nI_clamp (by omega)]; exact C.2.2.1 _ hm) ?_⟩
  have h4 := H.2.2.2.1
  by_cases hz : tk.length = 0
  · refine br_t (by rw [C.2.1, hz]; rfl) ?_
    have e : og_mf (fun c => ow c == og_mv ld tk) = og_mf (og_lg ow ld tk) := by
      apply og_mf_ext
      intro i hi
      unfold og_lg
      simp [hz]
    rw [e]
    exact h
  · refine br_f (by rw [C.2.1]; exact nI_ne0 (by omega) (by omega)) ⟨og_n4, ?_⟩
    have h12 := (H.2.2.2.2.1 _ (og_at_mem (tk := tk) (i := 0) (by omega))).1
    refine ox_suit (s := og_at tk 0 / 4) (by rw [C.2.2.2 0 (by omega), og_d4 (by omega)]) (by omega) (nm_r (og_aa _ _) ?_)
    by_cases hh : ∃ e, e < 12 ∧ ow e = og_mv ld tk ∧ e / 4 = og_at tk 0 / 4
    · have e : og_mf (fun i => (ow i == og_mv ld tk) && (i / 4 == og_at tk 0 / 4)) = og_mf (og_lg ow ld tk) := by
        apply og_mf_ext
        intro i hi
        apply og_beq
        rw [og_lg_iff, Bool.and_eq_true, beq_iff_eq, beq_iff_eq]
        constructor
        · rintro ⟨a, b⟩; exact ⟨a, Or.inr (Or.inr b)⟩
        · rintro ⟨a, b | b | b⟩
          · exact absurd b hz
          · exact absurd hh b
          · exact ⟨a, b⟩
      refine br_f ?_ (by rw [e]; exact h)
      rw [og_z]
      intro z
      obtain ⟨e, e1, e2, e3⟩ := hh
      have := z e e1
      simp [e2, e3] at this
    · have e : og_mf (fun c => ow c == og_mv ld tk) = og_mf (og_lg ow ld tk) := by
        apply og_mf_ext
        intro i hi
        apply og_beq
        rw [og_lg_iff, beq_iff_eq]
        constructor
        · intro a; exact ⟨a, Or.inr (Or.inl hh)⟩
        · rintro ⟨a, _⟩; exact a
      refine br_t ?_ (by rw [e]; exact h)
      rw [og_z]
      intro i hi
      cases hc : (ow i == og_mv ld tk) && (i / 4 == og_at tk 0 / 4)
      · rfl
      · rw [Bool.and_eq_true, beq_iff_eq, beq_iff_eq] at hc
        exact absurd ⟨i, hi, hc.1, hc.2⟩ hh
theorem ox_str {post : Int32 → Prop} {c l0 : Nat} (hc : c < 12) (hl : l0 < 12) (h0 : a_trick 0 = nI l0) (h : post (nI (og_st f_trump (l0 / 4) c))) : wpX_strength post (f_on, f_trump, f_lead, f_played, f_firstWon, f_secondWon, f_steps, f_kind, f_entered, a_dealt, a_hand, a_trick, a_pastCard, a_pastLead, a_pastTrick, a_pastPlayed, a_pastFirst, a_pastSecond, a_choices, a_found, a_base, a_tableKey, a_tableValue) (nI c) := by
  unfold wpX_strength
  dsimp only
  have e4 : nI c / 4 = nI (c / 4) := og_d4 (by omega)
  have el : a_trick 0 / 4 = nI (l0 / 4) := by rw [h0]; exact og_d4 (by omega)
  refine ⟨og_n4, br_c (fun hT => ⟨og_n4, ?_⟩) (fun hT => ⟨og_n4, og_n4, br_c (fun hL => ⟨og_n4, ?_⟩) (fun hL => ?_)⟩)⟩
  · rw [e4] at hT
    unfold og_st at h
    rw [if_pos hT] at h
    rw [og_r4 (by omega)]
    have e : (10 : Int32) + nI (c % 4) = nI (10 + c % 4) := nI_add 10 _
    rw [e]
    exact h
  · rw [e4] at hT hL
    rw [el, nI_eq (by omega) (by omega)] at hL
    unfold og_st at h
    rw [if_neg hT, if_pos hL] at h
    rw [og_r4 (by omega)]
    have e : (1 : Int32) + nI (c % 4) = nI (1 + c % 4) := nI_add 1 _
    rw [e]
    exact h
  · rw [e4] at hT hL
    rw [el, nI_eq (by omega) (by omega)] at hL
    unfold og_st at h
    rw [if_neg hT, if_neg hL] at h
    exact h
theorem ox_best {post : Int32 → Prop} {t : Nat → Nat} {k : Nat} (hk : 1 ≤ k) (hk4 : k ≤ 4) (hp : f_played = nI k) (ht : ∀ i, i < k → t i < 12 ∧ a_trick i = nI (t i)) (h : post (nI (og_bp f_trump t k))) : wpX_bestPlace post (f_on, f_trump, f_lead, f_played, f_firstWon, f_secondWon, f_steps, f_kind, f_entered, a_dealt, a_hand, a_trick, a_pastCard, a_pastLead, a_pastTrick, a_pastPlayed, a_pastFirst, a_pastSecond, a_choices, a_found, a_base, a_tableKey, a_tableValue) := by
  have L : ∀ d i, 1 ≤ i → i + d = k → wX_bestPlace_4 post f_on f_trump f_lead f_played f_firstWon f_secondWon f_steps f_kind f_entered a_dealt a_hand a_trick a_pastCard a_pastLead a_pastTrick a_pastPlayed a_pastFirst a_pastSecond a_choices a_found a_base a_tableKey a_tableValue (d + 1) (nI (og_bp f_trump t i)) (nI i) := by
    intro d
    induction d with
    | zero =>
      intro i _ hi
      obtain rfl : i = k := by omega
      exact br_t (by rw [hp]; exact Int32.le_refl _) h
    | succ d ih =>
      intro i h1 hi
      have hb := og_bp_le f_trump t i
      have t0 := ht 0 (by omega)
      have ti := ht i (by omega)
      have tb := ht (og_bp f_trump t i) (by omega)
      refine br_f (by rw [hp]; exact nI_ge (by omega) (by omega)) ⟨vp_in_nI (by omega) (by decide), ?_⟩
      rw [nI_clamp (n := i) (by omega), ti.2]
      refine ox_str ti.1 t0.1 t0.2 ⟨vp_in_nI (by omega) (by decide), ?_⟩
      rw [nI_clamp (n := og_bp f_trump t i) (by omega), tb.2]
      refine ox_str tb.1 t0.1 t0.2 ?_
      have s1 := og_st_lt f_trump (t 0 / 4) (t i)
      have s2 := og_st_lt f_trump (t 0 / 4) (t (og_bp f_trump t i))
      refine pk_le (og_st f_trump (t 0 / 4) (t i)) (og_st f_trump (t 0 / 4) (t (og_bp f_trump t i))) (fun z => nm_r (nI_1 i) ?_) (fun z => nm_r (nI_1 i) ?_)
      · have e := ih (i + 1) (by omega) (by omega)
        rw [og_bp_s, if_neg (by omega)] at e
        exact e
      · have e := ih (i + 1) (by omega) (by omega)
        rw [og_bp_s, if_pos (by omega)] at e
        exact e
  have e := L (k - 1) 1 (by omega) (by omega)
  rw [og_bp_1] at e
  exact ⟨_, e⟩
theorem ox_bad {post : Int32 → Prop} {p : Nat} (hp : p < 4) (h : post 0) : wpX_badPlayer post (f_on, f_trump, f_lead, f_played, f_firstWon, f_secondWon, f_steps, f_kind, f_entered, a_dealt, a_hand, a_trick, a_pastCard, a_pastLead, a_pastTrick, a_pastPlayed, a_pastFirst, a_pastSecond, a_choices, a_found, a_base, a_tableKey, a_tableValue) (nI p) := by
  unfold wpX_badPlayer
  exact br_f (nI_pos (by omega)) (br_t (nI_lt (b := 4) (by omega) (by decide)) h)
theorem ox_bad' {post : Int32 → Prop} {x : Int32} (hp : x < 0 ∨ ¬ x < 4) (h : post 1) : wpX_badPlayer post (f_on, f_trump, f_lead, f_played, f_firstWon, f_secondWon, f_steps, f_kind, f_entered, a_dealt, a_hand, a_trick, a_pastCard, a_pastLead, a_pastTrick, a_pastPlayed, a_pastFirst, a_pastSecond, a_choices, a_found, a_base, a_tableKey, a_tableValue) x := by
  unfold wpX_badPlayer
  by_cases hx : x < 0
  · exact br_t hx h
  · exact br_f hx (br_f (hp.resolve_left hx) h)
end
end
section
/-! X: push and pop -/
def og_PX (tr : Int32) (o : Nat → Nat) (l : Nat) (a_pastCard a_pastLead a_pastTrick a_pastPlayed a_pastFirst a_pastSecond : Nat → Int32) : List Nat → Prop
  | [] => True
  | c :: cs => (a_pastCard cs.length = nI c ∧ a_pastLead cs.length = nI (og_hL tr o l cs) ∧ a_pastPlayed cs.length = nI (og_hT tr o l cs).length ∧ a_pastFirst cs.length = nI (og_wc 0 (og_hW tr o l cs)) ∧ a_pastSecond cs.length = nI (og_wc 1 (og_hW tr o l cs)) ∧ (∀ i, i < (og_hT tr o l cs).length → a_pastTrick (4 * cs.length + i) = nI (og_at (og_hT tr o l cs) i))) ∧ og_PX tr o l a_pastCard a_pastLead a_pastTrick a_pastPlayed a_pastFirst a_pastSecond cs
def og_RX (tr : Int32) (o : Nat → Nat) (l : Nat) (cs : List Nat) (f_lead f_played f_firstWon f_secondWon f_steps : Int32) (a_hand a_trick a_pastCard a_pastLead a_pastTrick a_pastPlayed a_pastFirst a_pastSecond : Nat → Int32) : Prop :=
  og_CX (og_hO tr o l cs) (og_hL tr o l cs) (og_hT tr o l cs) f_lead f_played a_hand a_trick ∧ f_firstWon = nI (og_wc 0 (og_hW tr o l cs)) ∧ f_secondWon = nI (og_wc 1 (og_hW tr o l cs)) ∧ f_steps = nI cs.length ∧ og_PX tr o l a_pastCard a_pastLead a_pastTrick a_pastPlayed a_pastFirst a_pastSecond cs
section
variable {f_on f_trump f_lead f_played f_firstWon f_secondWon f_steps f_kind f_entered : Int32} {a_dealt a_hand a_trick a_pastCard a_pastLead a_pastTrick a_pastPlayed a_pastFirst a_pastSecond a_choices a_found a_base : Nat → Int32} {a_tableKey : Nat → Int64} {a_tableValue : Nat → Int32}
variable {tr : Int32} {o : Nat → Nat} {l : Nat}
theorem og_PX_fr {pc pl pt pp pf ps pc' pl' pt' pp' pf' ps' : Nat → Int32} : ∀ (cs : List Nat), (∀ i, i < cs.length → pc' i = pc i ∧ pl' i = pl i ∧ pp' i = pp i ∧ pf' i = pf i ∧ ps' i = ps i) → (∀ j, j < 4 * cs.length → pt' j = pt j) → og_PX tr o l pc pl pt pp pf ps cs → og_PX tr o l pc' pl' pt' pp' pf' ps' cs := by
  intro cs
  induction cs with
  | nil => intro _ _ _; trivial
  | cons c cs ih =>
    rintro h1 h2 ⟨⟨a1, a2, a3, a4, a5, a6⟩, b⟩
    obtain ⟨e1, e2, e3, e4, e5⟩ := h1 cs.length (by rw [List.length_cons]; omega)
    have hl := (og_hlen (tr := tr) (o := o) (l := l) cs).1
    refine ⟨⟨by rw [e1]; exact a1, by rw [e2]; exact a2, by rw [e3]; exact a3, by rw [e4]; exact a4, by rw [e5]; exact a5, ?_⟩, ?_⟩
    · intro i hi
      rw [h2 _ (by rw [List.length_cons]; omega)]
      exact a6 i hi
    · exact ih (fun i hi => h1 i (by rw [List.length_cons]; omega)) (fun j hj => h2 j (by rw [List.length_cons]; omega)) b
/-- the loop that copies the trick -/
theorem ox_push_l {post : SX → Prop} {x1 : Int32} {s : Nat} (hs : f_steps = nI s) (h12 : s < 13) (K : ∀ pt : Nat → Int32, (∀ j, j < 4 → pt (4 * s + j) = a_trick j) → (∀ j, j < 4 * s → pt j = a_pastTrick j) → wX_push_64 post x1 f_on f_trump f_lead f_played f_firstWon f_secondWon f_steps f_kind f_entered 1 (nI 4) a_dealt a_hand a_trick a_pastCard a_pastLead pt a_pastPlayed a_pastFirst a_pastSecond a_choices a_found a_base a_tableKey a_tableValue) : ∃ n, wX_push_64 post x1 f_on f_trump f_lead f_played f_firstWon f_secondWon f_steps f_kind f_entered n 0 a_dealt a_hand a_trick a_pastCard a_pastLead a_pastTrick a_pastPlayed a_pastFirst a_pastSecond a_choices a_found a_base a_tableKey a_tableValue := by
  have L : ∀ (d i : Nat) (pt : Nat → Int32), i + d = 4 → (∀ j, j < i → pt (4 * s + j) = a_trick j) → (∀ j, j < 4 * s → pt j = a_pastTrick j) → wX_push_64 post x1 f_on f_trump f_lead f_played f_firstWon f_secondWon f_steps f_kind f_entered (d + 1) (nI i) a_dealt a_hand a_trick a_pastCard a_pastLead pt a_pastPlayed a_pastFirst a_pastSecond a_choices a_found a_base a_tableKey a_tableValue := by
    intro d
    induction d with
    | zero =>
      intro i pt hi h1 h2
      obtain rfl : i = 4 := by omega
      exact K pt h1 h2
    | succ d ih =>
      intro i pt hi h1 h2
      have e : 4 * f_steps + nI i = nI (4 * s + i) := by
        rw [hs]
        have : (4 : Int32) * nI s = nI (4 * s) := pk_mul 4 s
        rw [this, nI_add]
      refine br_f (show ¬ (4 : Int32) ≤ nI i from nI_ge (b := 4) (by omega) (by decide)) ⟨vp_in_nI (by omega) (by decide), ?_⟩
      rw [e]
      refine ⟨vp_in_nI (by omega) (by decide), nm_e (nm_r (nI_1 i) ?_)⟩
      rw [nI_clamp (n := i) (by omega), nI_clamp (n := 4 * s + i) (by omega)]
      apply ih (i + 1) _ (by omega)
      · intro j hj
        by_cases z : j = i
        · rw [z, pk_us]
        · rw [pk_un (by omega)]
          exact h1 j (by omega)
      · intro j hj
        rw [pk_un (by omega)]
        exact h2 j hj
  exact ⟨5, L 4 0 a_pastTrick rfl (fun j hj => absurd hj (Nat.not_lt_zero _)) (fun j _ => rfl)⟩
theorem ox_hand_no {ow : Nat → Nat} {c q : Nat} (hc : c < 12) (hq : q < 4) : og_mf (fun i => (ow i == q) && !(i == c)) = og_mf (fun i => og_no ow c i == q) := by
  apply og_mf_ext
  intro i hi
  unfold og_no
  by_cases h : i = c
  · have h2 : (4 == q) = false := by simp; omega
    simp [h, h2]
  · simp [h]
theorem ox_hand_no' {ow : Nat → Nat} {c q : Nat} (hq : ow c ≠ q) (hq4 : q < 4) : og_mf (fun i => ow i == q) = og_mf (fun i => og_no ow c i == q) := by
  apply og_mf_ext
  intro i hi
  unfold og_no
  by_cases h : i = c
  · have h2 : (4 == q) = false := by simp; omega
    have h3 : (ow c == q) = false := by simp [hq]
    rw [if_pos h, h2, h, h3]
  · simp [h]
theorem ox_hand_up {ow : Nat → Nat} {c m : Nat} {a_hand : Nat → Int32} (hm : m < 4) (hc : c < 12) (ho : ow c = m) (hh : ∀ p, p < 4 → a_hand p = nI (og_mf (fun i => ow i == p))) : ∀ p, p < 4 → upd a_hand m (a_hand m &&& (((1 : Int32) <<< (nI c &&& 31)) ^^^ (-1))) p = nI (og_mf (fun i => og_no ow c i == p)) := by
  intro p hp
  by_cases z : p = m
  · rw [z, pk_us, hh m hm, og_cl _ hc, ox_hand_no hc hm]
  · rw [pk_un z, hh p hp, ox_hand_no' (c := c) (by omega) hp]
/-- the end of push: the trick goes on -/
theorem ox_push_e {post : SX → Prop} {n c s : Nat} {ow : Nat → Nat} {ld : Nat} {tk : List Nat} (C : og_CX ow ld tk f_lead f_played a_hand a_trick) (H : og_I n ow ld tk) (hc : c < 12) (hl : og_lg ow ld tk c = true) (hs : f_steps = nI s) (hf : ∃ z, f_firstWon = nI z) (K : ∀ (f_lead_1 f_played_1 f_firstWon_1 f_secondWon_1 : Int32) (a_hand_1 a_trick_1 : Nat → Int32), og_CX (og_no ow c) (og_nl f_trump ld tk c) (og_nt tk c) f_lead_1 f_played_1 a_hand_1 a_trick_1 → f_firstWon_1 = f_firstWon + nI (if tk.length = 3 ∧ og_w f_trump ld (tk ++ [c]) % 2 = 0 then 1 else 0) → f_secondWon_1 = f_secondWon + nI (if tk.length = 3 ∧ og_w f_trump ld (tk ++ [c]) % 2 = 1 then 1 else 0) → post (f_on, f_trump, f_lead_1, f_played_1, f_firstWon_1, f_secondWon_1, nI (s + 1), f_kind, f_entered, a_dealt, a_hand_1, a_trick_1, a_pastCard, a_pastLead, a_pastTrick, a_pastPlayed, a_pastFirst, a_pastSecond, a_choices, a_found, a_base, a_tableKey, a_tableValue)) : wX_push_64 post (nI c) f_on f_trump f_lead f_played f_firstWon f_secondWon f_steps f_kind f_entered 1 (nI 4) a_dealt a_hand a_trick a_pastCard a_pastLead a_pastTrick a_pastPlayed a_pastFirst a_pastSecond a_choices a_found a_base a_tableKey a_tableValue := by
  have hm := og_mv_lt ld tk
  have h4 := H.2.2.2.1
  have hld := H.2.2.1
  refine br_t (show (4 : Int32) ≤ nI 4 from Int32.le_refl _) (nm_r (e' := nI (s + 1)) (by rw [hs, nI_1]) ?_)
  refine ox_mover C hld h4 ⟨vp_in_nI hm (by decide), vp_in_nI hm (by decide), nm_e ?_⟩
  rw [nI_clamp (n := og_mv ld tk) (by omega), C.2.1]
  refine ⟨vp_in_nI h4 (by decide), nm_e (nm_r (nI_1 _) ?_)⟩
  rw [nI_clamp (n := tk.length) (by omega)]
  have HU := ox_hand_up hm hc (og_lg_ow hl) C.2.2.1
  have TU : ∀ i, i < (tk ++ [c]).length → upd a_trick tk.length (nI c) i = nI (og_at (tk ++ [c]) i) := by
    intro i hi
    rw [og_len1] at hi
    by_cases z : i = tk.length
    · rw [z, pk_us, og_at_r]
    · rw [pk_un z, og_at_l (by omega)]
      exact C.2.2.2 i (by omega)
  generalize upd a_hand (og_mv ld tk) (a_hand (og_mv ld tk) &&& (((1 : Int32) <<< (nI c &&& 31)) ^^^ (-1))) = ha at HU
  generalize upd a_trick tk.length (nI c) = ta at TU
  by_cases z : tk.length = 3
  · refine br_t (by rw [z]; rfl) ?_
    have L4 : (tk ++ [c]).length = 4 := by rw [og_len1]; omega
    have T12 : ∀ i, i < 4 → og_at (tk ++ [c]) i < 12 ∧ ta i = nI (og_at (tk ++ [c]) i) := by
      intro i hi
      refine ⟨?_, TU i (by omega)⟩
      have := og_at_mem (tk := tk ++ [c]) (i := i) (by omega)
      rcases List.mem_append.mp this with y | y
      · exact (H.2.2.2.2.1 _ y).1
      · rw [List.mem_singleton] at y; omega
    have hb := og_bp_le f_trump (og_at (tk ++ [c])) 4
    have hw : og_w f_trump ld (tk ++ [c]) = (ld + og_bp f_trump (og_at (tk ++ [c])) 4) % 4 := by unfold og_w; rw [L4]
    have hw4 := og_w_lt f_trump ld (tk ++ [c])
    refine ox_best (k := 4) (t := og_at (tk ++ [c])) (by omega) (by omega) (by rw [z]) T12 (nm_r (e' := nI (og_w f_trump ld (tk ++ [c]))) (by rw [C.1, nI_add, og_and3 (by omega), hw]) ?_)
    have CC : og_CX (og_no ow c) (og_nl f_trump ld tk c) (og_nt tk c) (nI (og_w f_trump ld (tk ++ [c]))) 0 ha ta := by
      unfold og_nl og_nt
      rw [if_pos z, if_pos z]
      exact ⟨rfl, rfl, HU, fun i hi => absurd hi (Nat.not_lt_zero _)⟩
    generalize og_w f_trump ld (tk ++ [c]) = w at *
    have KK := K (nI w) 0
    rw [og_and1 (by omega)]
    rcases Nat.mod_two_eq_zero_or_one w with y | y
    · rw [y]
      refine br_t rfl ?_
      unfold wX_push_187
      rw [og_and1 (by omega), y]
      refine br_f (by decide) ?_
      unfold wX_push_211
      exact KK _ _ _ _ CC (by rw [if_pos ⟨z, y⟩]; rfl) (by rw [if_neg (fun q => by omega)]; exact (Int32.add_zero _).symm)
    · rw [y]
      refine br_f (by decide) ?_
      unfold wX_push_187
      rw [og_and1 (by omega), y]
      refine br_t rfl ?_
      unfold wX_push_211
      exact KK _ _ _ _ CC (by rw [if_neg (fun q => by omega)]; exact (Int32.add_zero _).symm) (by rw [if_pos ⟨z, y⟩]; rfl)
  · refine br_f (by rw [show (4 : Int32) = nI 4 from rfl, nI_eq (by omega) (by omega)]; omega) ?_
    refine K _ _ _ _ _ _ ?_ ?_ ?_
    · unfold og_nl og_nt
      rw [if_neg z, if_neg z]
      exact ⟨C.1, by rw [og_len1], HU, TU⟩
    · rw [if_neg (fun q => z q.1)]; exact (Int32.add_zero _).symm
    · rw [if_neg (fun q => z q.1)]; exact (Int32.add_zero _).symm
theorem ox_push {post : SX → Prop} {n c : Nat} {cs : List Nat} (R : og_RX f_trump o l cs f_lead f_played f_firstWon f_secondWon f_steps a_hand a_trick a_pastCard a_pastLead a_pastTrick a_pastPlayed a_pastFirst a_pastSecond) (H : og_I n (og_hO f_trump o l cs) (og_hL f_trump o l cs) (og_hT f_trump o l cs)) (hc : c < 12) (hl : og_lg (og_hO f_trump o l cs) (og_hL f_trump o l cs) (og_hT f_trump o l cs) c = true) (h12 : cs.length < 12) (K : ∀ (f_lead_1 f_played_1 f_firstWon_1 f_secondWon_1 f_steps_1 : Int32) (a_hand_1 a_trick_1 a_pastCard_1 a_pastLead_1 a_pastTrick_1 a_pastPlayed_1 a_pastFirst_1 a_pastSecond_1 : Nat → Int32), og_RX f_trump o l (c :: cs) f_lead_1 f_played_1 f_firstWon_1 f_secondWon_1 f_steps_1 a_hand_1 a_trick_1 a_pastCard_1 a_pastLead_1 a_pastTrick_1 a_pastPlayed_1 a_pastFirst_1 a_pastSecond_1 → post (f_on, f_trump, f_lead_1, f_played_1, f_firstWon_1, f_secondWon_1, f_steps_1, f_kind, f_entered, a_dealt, a_hand_1, a_trick_1, a_pastCard_1, a_pastLead_1, a_pastTrick_1, a_pastPlayed_1, a_pastFirst_1, a_pastSecond_1, a_choices, a_found, a_base, a_tableKey, a_tableValue)) : wpX_push post (f_on, f_trump, f_lead, f_played, f_firstWon, f_secondWon, f_steps, f_kind, f_entered, a_dealt, a_hand, a_trick, a_pastCard, a_pastLead, a_pastTrick, a_pastPlayed, a_pastFirst, a_pastSecond, a_choices, a_found, a_base, a_tableKey, a_tableValue) (nI c) := by
  obtain ⟨C, r1, r2, r3, P⟩ := R
  have hv : vp_in f_steps 13 := by rw [r3]; exact vp_in_nI (by omega) (by decide)
  have hq : f_steps.toNatClampNeg = cs.length := by rw [r3]; exact nI_clamp (by omega)
  unfold wpX_push
  dsimp only
  rw [hq]
  refine ⟨hv, nm_e ⟨hv, nm_e ⟨hv, nm_e ⟨hv, nm_e ⟨hv, nm_e ?_⟩⟩⟩⟩⟩
  refine ox_push_l r3 (by omega) ?_
  intro pt q1 q2
  have ht := (og_hlen (tr := f_trump) (o := o) (l := l) cs).1
  refine ox_push_e C H hc hl r3 ⟨_, r1⟩ ?_
  intro f_lead_1 f_played_1 f_firstWon_1 f_secondWon_1 a_hand_1 a_trick_1 C1 e1 e2
  apply K
  refine ⟨C1, ?_, ?_, rfl, ?_, ?_⟩
  · rw [e1, r1, nI_add, og_hW_c]
    unfold og_ns
    by_cases z : (og_hT f_trump o l cs).length = 3
    · simp only [z, true_and, if_true]
      rw [og_wc_a]
    · simp only [z, false_and, if_false]
      rfl
  · rw [e2, r2, nI_add, og_hW_c]
    unfold og_ns
    by_cases z : (og_hT f_trump o l cs).length = 3
    · simp only [z, true_and, if_true]
      rw [og_wc_a]
    · simp only [z, false_and, if_false]
      rfl
  · refine ⟨pk_us, by rw [pk_us]; exact C.1, by rw [pk_us]; exact C.2.1, by rw [pk_us]; exact r1, by rw [pk_us]; exact r2, ?_⟩
    intro i hi
    rw [q1 i (by omega)]
    exact C.2.2.2 i hi
  · exact og_PX_fr cs (fun i hi => ⟨pk_un (by omega), pk_un (by omega), pk_un (by omega), pk_un (by omega), pk_un (by omega)⟩) q2 P
/-! pop -/
theorem ox_pop_l {post : Int32 → SX → Prop} {x1 : Int32} {s : Nat} (hs : f_steps = nI s) (h12 : s < 13) (K : ∀ tr : Nat → Int32, (∀ j, j < 4 → tr j = a_pastTrick (4 * s + j)) → wX_pop_74 post x1 f_on f_trump f_lead f_played f_firstWon f_secondWon f_steps f_kind f_entered 1 (nI 4) a_dealt a_hand tr a_pastCard a_pastLead a_pastTrick a_pastPlayed a_pastFirst a_pastSecond a_choices a_found a_base a_tableKey a_tableValue) : ∃ n, wX_pop_74 post x1 f_on f_trump f_lead f_played f_firstWon f_secondWon f_steps f_kind f_entered n 0 a_dealt a_hand a_trick a_pastCard a_pastLead a_pastTrick a_pastPlayed a_pastFirst a_pastSecond a_choices a_found a_base a_tableKey a_tableValue := by
  have L : ∀ (d i : Nat) (tr : Nat → Int32), i + d = 4 → (∀ j, j < i → tr j = a_pastTrick (4 * s + j)) → wX_pop_74 post x1 f_on f_trump f_lead f_played f_firstWon f_secondWon f_steps f_kind f_entered (d + 1) (nI i) a_dealt a_hand tr a_pastCard a_pastLead a_pastTrick a_pastPlayed a_pastFirst a_pastSecond a_choices a_found a_base a_tableKey a_tableValue := by
    intro d
    induction d with
    | zero =>
      intro i tr hi h1
      obtain rfl : i = 4 := by omega
      exact K tr h1
    | succ d ih =>
      intro i tr hi h1
      have e : 4 * f_steps + nI i = nI (4 * s + i) := by
        rw [hs]
        have : (4 : Int32) * nI s = nI (4 * s) := pk_mul 4 s
        rw [this, nI_add]
      refine br_f (show ¬ (4 : Int32) ≤ nI i from nI_ge (b := 4) (by omega) (by decide)) ?_
      rw [e]
      refine ⟨vp_in_nI (by omega) (by decide), vp_in_nI (by omega) (by decide), nm_e (nm_r (nI_1 i) ?_)⟩
      rw [nI_clamp (n := i) (by omega), nI_clamp (n := 4 * s + i) (by omega)]
      apply ih (i + 1) _ (by omega)
      intro j hj
      by_cases z : j = i
      · rw [z, pk_us]
      · rw [pk_un (by omega)]
        exact h1 j (by omega)
  exact ⟨5, L 4 0 a_trick rfl (fun j hj => absurd hj (Nat.not_lt_zero _))⟩
theorem ox_pop {post : Int32 → SX → Prop} {n c : Nat} {cs : List Nat} (R : og_RX tr o l (c :: cs) f_lead f_played f_firstWon f_secondWon f_steps a_hand a_trick a_pastCard a_pastLead a_pastTrick a_pastPlayed a_pastFirst a_pastSecond) (H : og_I n (og_hO tr o l cs) (og_hL tr o l cs) (og_hT tr o l cs)) (hc : c < 12) (hl : og_lg (og_hO tr o l cs) (og_hL tr o l cs) (og_hT tr o l cs) c = true) (h12 : cs.length < 12) (K : ∀ (f_lead_1 f_played_1 f_firstWon_1 f_secondWon_1 f_steps_1 : Int32) (a_hand_1 a_trick_1 a_pastCard_1 a_pastLead_1 a_pastTrick_1 a_pastPlayed_1 a_pastFirst_1 a_pastSecond_1 : Nat → Int32), og_RX tr o l cs f_lead_1 f_played_1 f_firstWon_1 f_secondWon_1 f_steps_1 a_hand_1 a_trick_1 a_pastCard_1 a_pastLead_1 a_pastTrick_1 a_pastPlayed_1 a_pastFirst_1 a_pastSecond_1 → post (nI c) (f_on, f_trump, f_lead_1, f_played_1, f_firstWon_1, f_secondWon_1, f_steps_1, f_kind, f_entered, a_dealt, a_hand_1, a_trick_1, a_pastCard_1, a_pastLead_1, a_pastTrick_1, a_pastPlayed_1, a_pastFirst_1, a_pastSecond_1, a_choices, a_found, a_base, a_tableKey, a_tableValue)) : wpX_pop post (f_on, f_trump, f_lead, f_played, f_firstWon, f_secondWon, f_steps, f_kind, f_entered, a_dealt, a_hand, a_trick, a_pastCard, a_pastLead, a_pastTrick, a_pastPlayed, a_pastFirst, a_pastSecond, a_choices, a_found, a_base, a_tableKey, a_tableValue) := by
  obtain ⟨C, r1, r2, r3, ⟨p1, p2, p3, p4, p5, p6⟩, P⟩ := R
  have hm := og_mv_lt (og_hL tr o l cs) (og_hT tr o l cs)
  have ho := og_lg_ow hl
  have hv : vp_in (nI cs.length) 13 := vp_in_nI (by omega) (by decide)
  unfold wpX_pop
  dsimp only
  refine nm_r (e' := nI cs.length) (by rw [r3, List.length_cons]; exact nI_pred _) ?_
  rw [nI_clamp (n := cs.length) (by omega), p1, p2, p3, p4, p5]
  refine ⟨hv, nm_e ⟨hv, nm_e ⟨hv, nm_e ⟨hv, nm_e ⟨hv, nm_e ?_⟩⟩⟩⟩⟩
  refine ox_pop_l rfl (by omega) ?_
  intro ta q1
  have ht := (og_hlen (tr := tr) (o := o) (l := l) cs).1
  have TU : ∀ i, i < (og_hT tr o l cs).length → ta i = nI (og_at (og_hT tr o l cs) i) := by
    intro i hi
    rw [q1 i (by omega)]
    exact p6 i hi
  have HU : ∀ p, p < 4 → upd a_hand (og_mv (og_hL tr o l cs) (og_hT tr o l cs)) (a_hand (og_mv (og_hL tr o l cs) (og_hT tr o l cs)) ||| ((1 : Int32) <<< (nI c &&& 31))) p = nI (og_mf (fun i => og_hO tr o l cs i == p)) := by
    intro p hp
    by_cases z : p = og_mv (og_hL tr o l cs) (og_hT tr o l cs)
    · rw [z, pk_us, C.2.2.1 _ hm, og_se _ hc]
      refine congrArg nI (og_mf_ext ?_)
      intro i hi
      rw [og_hO_c]
      unfold og_no
      by_cases y : i = c
      · rw [if_pos y, y, ho]; simp
      · rw [if_neg y]; simp [y]
    · rw [pk_un z, C.2.2.1 p hp, og_hO_c, ← ox_hand_no' (by omega) hp]
  refine br_t (show (4 : Int32) ≤ nI 4 from Int32.le_refl _) ?_
  show (wpX_mover _ _)
  unfold wpX_mover
  dsimp only
  have em : (nI (og_hL tr o l cs) + nI (og_hT tr o l cs).length) &&& 3 = nI (og_mv (og_hL tr o l cs) (og_hT tr o l cs)) := by
    rw [nI_add, og_and3 (by have := H.2.2.1; omega)]
    rfl
  rw [em]
  refine ⟨vp_in_nI hm (by decide), vp_in_nI hm (by decide), nm_e ?_⟩
  rw [nI_clamp (n := og_mv (og_hL tr o l cs) (og_hT tr o l cs)) (by omega)]
  exact K _ _ _ _ _ _ _ _ _ _ _ _ _ ⟨⟨rfl, rfl, HU, TU⟩, rfl, rfl, rfl, P⟩
end
end
section
/-! X: key, table, at once -/
def iI (z : Int) : Int32 := Int32.ofInt z
theorem iI_nI (n : Nat) : iI (n : Int) = nI n := Int32.ofInt_eq_ofNat
theorem iI_add (a b : Int) : iI (a + b) = iI a + iI b := Int32.ofInt_add a b
theorem iI_sub (a b : Int) : iI (a - b) = iI a - iI b := Int32.ofInt_sub a b
theorem iI_t {a : Int} (h1 : -100000 ≤ a) (h2 : a ≤ 100000) : (iI a).toInt = a := Int32.toInt_ofInt_of_le (by omega) (by omega)
theorem iI_le {a b : Int} (h1 : -100000 ≤ a) (h2 : a ≤ 100000) (h3 : -100000 ≤ b) (h4 : b ≤ 100000) : iI a ≤ iI b ↔ a ≤ b := by
  rw [Int32.le_iff_toInt_le, iI_t h1 h2, iI_t h3 h4]
theorem iI_lt0 {a : Int} (h1 : 0 ≤ a) (h2 : a ≤ 100000) : ¬ iI a < 0 := by
  rw [Int32.lt_iff_toInt_lt, iI_t (by omega) h2, show (0 : Int32).toInt = 0 from by decide]
  omega
theorem iI_m1 : iI (-1) = -1 := by decide
theorem iI_0 : iI 0 = 0 := by decide
theorem iI_1 : iI 1 = 1 := by decide
theorem iI_100 : iI 100 = 100 := by decide
/-- the table holds true values -/
def og_TS (k : Nat) (tr : Int32) (tk : Nat → Int64) (tv : Nat → Int32) : Prop := ∀ h, h < 2048 → ∀ (n : Nat) (ow : Nat → Nat) (ld : Nat), og_I n ow ld [] → tk h = lN (og_ky ow ld) → tv h = iI (og_V k tr n ow ld [])
theorem og_ky_l {ow : Nat → Nat} {ld : Nat} (hl : ld < 4) {ow' : Nat → Nat} {ld' : Nat} (hl' : ld' < 4) : lN (og_ky ow ld) = lN (og_ky ow' ld') ↔ og_ky ow ld = og_ky ow' ld' := by
  have a := og_ky_lt (ow := ow) hl
  have b := og_ky_lt (ow := ow') hl'
  exact pk_lEQ (by omega) (by omega)
theorem og_ky_0 {ow : Nat → Nat} {ld : Nat} (hl : ld < 4) : ¬ (0 : Int64) = lN (og_ky ow ld) := by
  have a := og_ky_lt (ow := ow) hl
  intro z
  have e : lN 0 = lN (og_ky ow ld) := z
  rw [pk_lEQ (by omega) (by omega)] at e
  omega
theorem og_I_n {n n' : Nat} {ow : Nat → Nat} {ld : Nat} (H : og_I n ow ld []) (H' : og_I n' ow ld []) : n = n' := by
  obtain ⟨m, a, b, e⟩ := og_I_mv H
  obtain ⟨m', a', b', e'⟩ := og_I_mv H'
  omega
theorem og_TS_up {k : Nat} {tr : Int32} {tk : Nat → Int64} {tv : Nat → Int32} (T : og_TS k tr tk tv) {n : Nat} {ow : Nat → Nat} {ld : Nat} (H : og_I n ow ld []) (r : Nat) : og_TS k tr (vp_updL tk r (lN (og_ky ow ld))) (upd tv r (iI (og_V k tr n ow ld []))) := by
  intro h hh n' ow' ld' H' e
  by_cases z : h = r
  · subst z
    rw [pk_uLs, og_ky_l H.2.2.1 H'.2.2.1] at e
    obtain ⟨e1, e2⟩ := og_ky_inj H.1 H.2.1 H'.1 H'.2.1 e
    subst e1 e2
    rw [pk_us, og_I_n H H']
  · rw [pk_uLn z] at e
    rw [pk_un z]
    exact T h hh n' ow' ld' H' e
theorem og_TS_0 {k : Nat} {tr : Int32} {tk : Nat → Int64} {tv : Nat → Int32} (h0 : ∀ h, h < 2048 → tk h = 0) : og_TS k tr tk tv := by
  intro h hh n ow ld H e
  rw [h0 h hh] at e
  exact absurd e (og_ky_0 H.2.2.1)
section
variable {f_on f_trump f_lead f_played f_firstWon f_secondWon f_steps f_kind f_entered : Int32} {a_dealt a_hand a_trick a_pastCard a_pastLead a_pastTrick a_pastPlayed a_pastFirst a_pastSecond a_choices a_found a_base : Nat → Int32} {a_tableKey : Nat → Int64} {a_tableValue : Nat → Int32}
variable {ow : Nat → Nat} {ld : Nat} {tk : List Nat} {n : Nat}
theorem ox_key1 {a m : Nat} (ha : a < 2 ^ 48) (hm : m < 4096) : (lN a <<< ((12 : Int32).toInt64 &&& 63)) ||| (nI m).toInt64 = lN (a * 4096 + m) := by
  have e := wb_shl a (k := 12) (by decide)
  rw [show (12 : Int32) = nI 12 from rfl, e, nI_l (by omega)]
  exact g_or (k := 12) (p := 4096) (by decide) hm (by omega)
theorem ox_key {post : Int64 → Prop} (C : og_CX ow ld tk f_lead f_played a_hand a_trick) (hl : ld < 4) (h : post (lN (og_ky ow ld))) : wpX_keyNow post (f_on, f_trump, f_lead, f_played, f_firstWon, f_secondWon, f_steps, f_kind, f_entered, a_dealt, a_hand, a_trick, a_pastCard, a_pastLead, a_pastTrick, a_pastPlayed, a_pastFirst, a_pastSecond, a_choices, a_found, a_base, a_tableKey, a_tableValue) := by
  unfold wpX_keyNow
  dsimp only
  have a0 := og_mf_lt (fun c => ow c == 0)
  have a1 := og_mf_lt (fun c => ow c == 1)
  have a2 := og_mf_lt (fun c => ow c == 2)
  have a3 := og_mf_lt (fun c => ow c == 3)
  have S : ∀ (d p a : Nat), p < 4 → a < 2 ^ 48 → wX_keyNow_10 post f_on f_trump f_lead f_played f_firstWon f_secondWon f_steps f_kind f_entered a_dealt a_hand a_trick a_pastCard a_pastLead a_pastTrick a_pastPlayed a_pastFirst a_pastSecond a_choices a_found a_base a_tableKey a_tableValue d (lN (a * 4096 + og_mf (fun c => ow c == p))) (nI (p + 1)) → wX_keyNow_10 post f_on f_trump f_lead f_played f_firstWon f_secondWon f_steps f_kind f_entered a_dealt a_hand a_trick a_pastCard a_pastLead a_pastTrick a_pastPlayed a_pastFirst a_pastSecond a_choices a_found a_base a_tableKey a_tableValue (d + 1) (lN a) (nI p) := by
    intro d p a hp ha hh
    have am := og_mf_lt (fun c => ow c == p)
    refine br_f (show ¬ (4 : Int32) ≤ nI p from nI_ge (b := 4) (by omega) (by decide)) ⟨vp_in_nI hp (by decide), nm_r (e' := lN (a * 4096 + og_mf (fun c => ow c == p))) ?_ (nm_r (nI_1 p) hh)⟩
    rw [nI_clamp (by omega), C.2.2.1 p hp, ox_key1 ha am]
  refine nm_r (e' := lN (ld + 1)) (by rw [C.1, nI_1, nI_l (by omega)]) ⟨5, ?_⟩
  apply S 4 0 (ld + 1) (by omega) (by omega)
  apply S 3 1 _ (by omega) (by omega)
  apply S 2 2 _ (by omega) (by omega)
  apply S 1 3 _ (by omega) (by omega)
  exact br_t (show (4 : Int32) ≤ nI 4 from Int32.le_refl _) h
theorem ox_slot {post : Int32 → Prop} {key : Int64} (h : ∀ r, r < 2048 → post (nI r)) : wpX_slotFor post (f_on, f_trump, f_lead, f_played, f_firstWon, f_secondWon, f_steps, f_kind, f_entered, a_dealt, a_hand, a_trick, a_pastCard, a_pastLead, a_pastTrick, a_pastPlayed, a_pastFirst, a_pastSecond, a_choices, a_found, a_base, a_tableKey, a_tableValue) key := by
  unfold wpX_slotFor
  dsimp only
  obtain ⟨j, hj, e⟩ := pk_andE ((((key ^^^ ((key.toUInt64 >>> ((17 : Int32).toInt64.toUInt64 &&& Int64.toUInt64 63)).toInt64)) ^^^ ((key.toUInt64 >>> ((31 : Int32).toInt64.toUInt64 &&& Int64.toUInt64 63)).toInt64)).toInt32)) (m := 2047) 11 (by decide)
  have L : ∀ (d i r : Nat), i + d = 2048 → r < 2048 → wX_slotFor_20 post key f_on f_trump f_lead f_played f_firstWon f_secondWon f_steps f_kind f_entered a_dealt a_hand a_trick a_pastCard a_pastLead a_pastTrick a_pastPlayed a_pastFirst a_pastSecond a_choices a_found a_base a_tableKey a_tableValue (d + 1) (nI r) (nI i) := by
    intro d
    induction d with
    | zero =>
      intro i r hi hr
      obtain rfl : i = 2048 := by omega
      exact br_t (show (2048 : Int32) ≤ nI 2048 from Int32.le_refl _) (h r hr)
    | succ d ih =>
      intro i r hi hr
      have hv : vp_in (nI r) 2048 := vp_in_nI hr (by decide)
      refine br_f (show ¬ (2048 : Int32) ≤ nI i from nI_ge (b := 2048) (by omega) (by decide)) ⟨hv, br_c (fun _ => h r hr) (fun _ => ⟨hv, br_c (fun _ => h r hr) (fun _ => nm_r (e' := nI ((r + 1) % 2048)) ?_ (nm_r (nI_1 i) ?_))⟩)⟩
      · rw [nI_1]
        exact pk_andN (by omega) (m := 2047) 11 (by decide)
      · exact ih (i + 1) _ (by omega) (Nat.mod_lt _ (by decide))
  exact nm_r e ⟨2049, L 2048 0 j (by omega) hj⟩
theorem ox_clear {post : SX → Prop} (h : ∀ tk : Nat → Int64, (∀ j, j < 2048 → tk j = 0) → post (f_on, f_trump, f_lead, f_played, f_firstWon, f_secondWon, f_steps, f_kind, 0, a_dealt, a_hand, a_trick, a_pastCard, a_pastLead, a_pastTrick, a_pastPlayed, a_pastFirst, a_pastSecond, a_choices, a_found, a_base, tk, a_tableValue)) : wpX_clearTable post (f_on, f_trump, f_lead, f_played, f_firstWon, f_secondWon, f_steps, f_kind, f_entered, a_dealt, a_hand, a_trick, a_pastCard, a_pastLead, a_pastTrick, a_pastPlayed, a_pastFirst, a_pastSecond, a_choices, a_found, a_base, a_tableKey, a_tableValue) := by
  unfold wpX_clearTable
  dsimp only
  have L : ∀ (d i : Nat) (tk : Nat → Int64), i + d = 2048 → (∀ j, j < i → tk j = 0) → wX_clearTable_2 post f_on f_trump f_lead f_played f_firstWon f_secondWon f_steps f_kind f_entered (d + 1) (nI i) a_dealt a_hand a_trick a_pastCard a_pastLead a_pastTrick a_pastPlayed a_pastFirst a_pastSecond a_choices a_found a_base tk a_tableValue := by
    intro d
    induction d with
    | zero =>
      intro i tk hi h1
      obtain rfl : i = 2048 := by omega
      exact br_t (show (2048 : Int32) ≤ nI 2048 from Int32.le_refl _) (h tk h1)
    | succ d ih =>
      intro i tk hi h1
      refine br_f (show ¬ (2048 : Int32) ≤ nI i from nI_ge (b := 2048) (by omega) (by decide)) ⟨vp_in_nI (by omega) (by decide), nm_e (nm_r (nI_1 i) ?_)⟩
      rw [nI_clamp (n := i) (by omega)]
      apply ih (i + 1) _ (by omega)
      intro j hj
      by_cases z : j = i
      · rw [z, pk_uLs]
      · rw [pk_uLn z]
        exact h1 j (by omega)
  exact ⟨2049, L 2048 0 a_tableKey (by omega) (fun j hj => absurd hj (Nat.not_lt_zero _))⟩
theorem ox_rem {post : SX → Prop} {k : Nat} {tr : Int32} (T : og_TS k tr a_tableKey a_tableValue) (H : og_I n ow ld []) (h : ∀ (f_entered_1 : Int32) (a_tableKey_1 : Nat → Int64) (a_tableValue_1 : Nat → Int32), og_TS k tr a_tableKey_1 a_tableValue_1 → post (f_on, f_trump, f_lead, f_played, f_firstWon, f_secondWon, f_steps, f_kind, f_entered_1, a_dealt, a_hand, a_trick, a_pastCard, a_pastLead, a_pastTrick, a_pastPlayed, a_pastFirst, a_pastSecond, a_choices, a_found, a_base, a_tableKey_1, a_tableValue_1)) : wpX_remember post (f_on, f_trump, f_lead, f_played, f_firstWon, f_secondWon, f_steps, f_kind, f_entered, a_dealt, a_hand, a_trick, a_pastCard, a_pastLead, a_pastTrick, a_pastPlayed, a_pastFirst, a_pastSecond, a_choices, a_found, a_base, a_tableKey, a_tableValue) (lN (og_ky ow ld)) (iI (og_V k tr n ow ld [])) := by
  unfold wpX_remember
  dsimp only
  refine br_c (fun _ => h _ _ _ T) (fun _ => ox_slot ?_)
  intro r hr
  have hv : vp_in (nI r) 2048 := vp_in_nI hr (by decide)
  have F : ∀ z0 : Int32, wX_remember_43 post (lN (og_ky ow ld)) (iI (og_V k tr n ow ld [])) (nI r) z0 f_on f_trump f_lead f_played f_firstWon f_secondWon f_steps f_kind f_entered a_dealt a_hand a_trick a_pastCard a_pastLead a_pastTrick a_pastPlayed a_pastFirst a_pastSecond a_choices a_found a_base a_tableKey a_tableValue := by
    intro z0
    unfold wX_remember_43
    refine ⟨hv, nm_e ⟨hv, nm_e ?_⟩⟩
    rw [nI_clamp (n := r) (by omega)]
    exact h _ _ _ (og_TS_up T H r)
  exact ⟨hv, br_c (fun _ => F _) (fun _ => F _)⟩
theorem ox_gain {post : Int32 → Prop} {k : Nat} (hk : f_kind = nI k) (hk3 : k < 3) (h : post (if k = 2 then 0 else f_firstWon)) : wpX_gained post (f_on, f_trump, f_lead, f_played, f_firstWon, f_secondWon, f_steps, f_kind, f_entered, a_dealt, a_hand, a_trick, a_pastCard, a_pastLead, a_pastTrick, a_pastPlayed, a_pastFirst, a_pastSecond, a_choices, a_found, a_base, a_tableKey, a_tableValue) := by
  unfold wpX_gained
  dsimp only
  by_cases z : k = 2
  · rw [if_pos z] at h
    exact br_t (by rw [hk, z]; rfl) h
  · rw [if_neg z] at h
    exact br_f (by rw [hk, show (2 : Int32) = nI 2 from rfl, nI_eq (by omega) (by omega)]; exact z) h
theorem ox_raise {post : Int32 → Prop} {k : Nat} (hk : f_kind = nI k) (hk3 : k < 3) (C : og_CX ow ld tk f_lead f_played a_hand a_trick) (hl : ld < 4) (ht : tk.length < 4) (h1 : k = 0 ∧ og_mv ld tk % 2 = 0 → post 1) (h0 : ¬ (k = 0 ∧ og_mv ld tk % 2 = 0) → post 0) : wpX_raising post (f_on, f_trump, f_lead, f_played, f_firstWon, f_secondWon, f_steps, f_kind, f_entered, a_dealt, a_hand, a_trick, a_pastCard, a_pastLead, a_pastTrick, a_pastPlayed, a_pastFirst, a_pastSecond, a_choices, a_found, a_base, a_tableKey, a_tableValue) := by
  have hm := og_mv_lt ld tk
  unfold wpX_raising
  dsimp only
  by_cases z : k = 0
  · refine br_t (by rw [hk, z]; rfl) (ox_mover C hl ht ?_)
    rw [og_and1 (by omega)]
    rcases Nat.mod_two_eq_zero_or_one (og_mv ld tk) with y | y
    · rw [y]
      exact br_t rfl (h1 ⟨z, y⟩)
    · rw [y]
      exact br_f (by decide) (h0 (fun q => by omega))
  · exact br_f (by rw [hk]; exact nI_ne0 (by omega) (by omega)) (h0 (fun q => z q.1))
theorem ox_once {post : Int32 → Prop} {k : Nat} (hk : f_kind = nI k) (hk3 : k < 3) (C : og_CX ow ld tk f_lead f_played a_hand a_trick) (H : og_I n ow ld tk) (T : og_TS k f_trump a_tableKey a_tableValue) (h1 : post (iI (og_V k f_trump n ow ld tk))) (h0 : 0 < n → post (-1)) : wpX_atOnce post (f_on, f_trump, f_lead, f_played, f_firstWon, f_secondWon, f_steps, f_kind, f_entered, a_dealt, a_hand, a_trick, a_pastCard, a_pastLead, a_pastTrick, a_pastPlayed, a_pastFirst, a_pastSecond, a_choices, a_found, a_base, a_tableKey, a_tableValue) := by
  have hm := og_mv_lt ld tk
  have h4 := H.2.2.2.1
  unfold wpX_atOnce
  dsimp only
  refine ox_mover C H.2.2.1 H.2.2.2.1 ⟨vp_in_nI hm (by decide), ?_⟩
  rw [nI_clamp (n := og_mv ld tk) (by omega), C.2.2.1 _ hm]
  by_cases z : n = 0
  · subst z
    have e := og_I_0 H
    refine br_t (og_z.mpr ?_) ?_
    · intro i hi
      rw [e.2 i]
      simp; omega
    · rw [og_V_0] at h1
      by_cases y : k = 2
      · rw [if_pos y] at h1
        exact br_t (by rw [hk, y]; rfl) h1
      · rw [if_neg y] at h1
        exact br_f (by rw [hk, show (2 : Int32) = nI 2 from rfl, nI_eq (by omega) (by omega)]; exact y) h1
  · obtain ⟨n', rfl⟩ : ∃ n', n = n' + 1 := ⟨n - 1, by omega⟩
    obtain ⟨c, c1, c2⟩ := og_I_ex H
    refine br_f (fun q => ?_) ?_
    · have := og_z.mp q c c1
      simp [c2] at this
    · by_cases y : tk.length = 0
      · have e : tk = [] := List.length_eq_zero_iff.mp y
        subst e
        refine br_t (by rw [C.2.1]; exact Int32.le_refl _) (ox_key C H.2.2.1 (ox_slot ?_))
        intro r hr
        have hv : vp_in (nI r) 2048 := vp_in_nI hr (by decide)
        refine ⟨hv, br_c (fun q => ⟨hv, ?_⟩) (fun _ => h0 (by omega))⟩
        rw [nI_clamp (n := r) (by omega)] at q ⊢
        rw [T r hr _ _ _ H q]
        exact h1
      · exact br_f (by rw [C.2.1]; exact nI_nle (by omega) (by omega)) (h0 (by omega))
end
end
section
/-! X: fewer, begin, count -/
theorem og_mem_at {tk : List Nat} {e : Nat} : e ∈ tk ↔ ∃ j, j < tk.length ∧ og_at tk j = e := by
  constructor
  · intro h
    obtain ⟨j, hj, he⟩ := List.mem_iff_getElem.mp h
    refine ⟨j, hj, ?_⟩
    simp [og_at, List.getD_eq_getElem?_getD, hj, he]
  · rintro ⟨j, hj, rfl⟩
    exact og_at_mem hj
def og_o1 (ow : Nat → Nat) (m p : Nat) (e : Nat) : Bool := decide (ow e < p) && !(ow e == m)
def og_o2 (ow : Nat → Nat) (m : Nat) (tk : List Nat) (i e : Nat) : Bool := og_o1 ow m 4 e || (List.range i).any (fun j => og_at tk j == e)
section
variable {f_on f_trump f_lead f_played f_firstWon f_secondWon f_steps f_kind f_entered : Int32} {a_dealt a_hand a_trick a_pastCard a_pastLead a_pastTrick a_pastPlayed a_pastFirst a_pastSecond a_choices a_found a_base : Nat → Int32} {a_tableKey : Nat → Int64} {a_tableValue : Nat → Int32}
variable {ow : Nat → Nat} {ld : Nat} {tk : List Nat} {n : Nat}
theorem ox_fw98 {post : Int32 → Prop} {J : Int32 → Int32 → Int32 → Prop} {set oth : Nat → Bool} {x2 x4 : Int32} {c : Nat} (hc : c < 12) {s : Bool} (hs : s = if c % 4 = 0 ∨ oth c = true then false else og_fw set oth c) (h4 : 0 ≤ x4 ↔ s = true) (K : ∀ x3' x4' : Int32, x3' = nI (og_mf (fun i => decide (i < c + 1) && og_fo set oth i)) → (0 ≤ x4' ↔ og_fw set oth (c + 1) = true) → J x3' x4' (nI (c + 1))) : wX_fewer_98 post J (nI (og_mf set)) x2 (nI (og_mf (fun i => decide (i < c) && og_fo set oth i))) x4 (nI c) f_on f_trump f_lead f_played f_firstWon f_secondWon f_steps f_kind f_entered a_dealt a_hand a_trick a_pastCard a_pastLead a_pastTrick a_pastPlayed a_pastFirst a_pastSecond a_choices a_found a_base a_tableKey a_tableValue := by
  have ef : og_fo set oth c = (set c && !s) := by unfold og_fo; rw [hs]
  have ew : og_fw set oth (c + 1) = (set c || s) := by rw [og_fw_s, hs]
  have same : og_fo set oth c = false → og_mf (fun i => decide (i < c) && og_fo set oth i) = og_mf (fun i => decide (i < c + 1) && og_fo set oth i) := by
    intro z
    apply og_mf_ext
    intro i hi
    by_cases y : i = c
    · rw [y, z]; simp
    · have : decide (i < c) = decide (i < c + 1) := by
        apply og_beq
        simp only [decide_eq_true_eq]
        omega
      rw [this]
  unfold wX_fewer_98
  rw [og_b1 set hc]
  cases hset : set c
  · rw [hset] at ef ew
    refine br_f (by decide) (nm_r (nI_1 c) (K _ _ (congrArg nI (same ef)) ?_))
    rw [ew, h4]; simp
  · rw [hset] at ef ew
    refine br_t rfl ?_
    cases s
    · refine br_f (fun z => ?_) (nm_r (og_se _ hc) (nm_r (nI_1 c) (K _ _ (congrArg nI ?_) ?_)))
      · have := h4.mp z
        exact absurd this (by decide)
      · apply og_mf_ext
        intro i hi
        by_cases y : i = c
        · rw [y, ef]; simp
        · have : decide (i < c) = decide (i < c + 1) := by
            apply og_beq
            simp only [decide_eq_true_eq]
            omega
          rw [this]; simp [y]
      · rw [ew]
        simp [nI_pos' (n := c) (by omega)]
    · refine br_t (h4.mpr rfl) (nm_r (nI_1 c) (K _ _ (congrArg nI (same ef)) ?_))
      rw [ew]
      simp [nI_pos' (n := c) (by omega)]
theorem ox_fw71 {post : Int32 → Prop} {set oth : Nat → Bool} (h : post (nI (og_mf (og_fo set oth)))) : ∃ m, wX_fewer_71 post (nI (og_mf set)) (nI (og_mf oth)) f_on f_trump f_lead f_played f_firstWon f_secondWon f_steps f_kind f_entered a_dealt a_hand a_trick a_pastCard a_pastLead a_pastTrick a_pastPlayed a_pastFirst a_pastSecond a_choices a_found a_base a_tableKey a_tableValue m 0 (-1) 0 := by
  have L : ∀ (d c : Nat) (x3 x4 : Int32), c + d = 12 → x3 = nI (og_mf (fun i => decide (i < c) && og_fo set oth i)) → (0 ≤ x4 ↔ og_fw set oth c = true) → wX_fewer_71 post (nI (og_mf set)) (nI (og_mf oth)) f_on f_trump f_lead f_played f_firstWon f_secondWon f_steps f_kind f_entered a_dealt a_hand a_trick a_pastCard a_pastLead a_pastTrick a_pastPlayed a_pastFirst a_pastSecond a_choices a_found a_base a_tableKey a_tableValue (d + 1) x3 x4 (nI c) := by
    intro d
    induction d with
    | zero =>
      intro c x3 x4 hc e3 e4
      obtain rfl : c = 12 := by omega
      refine br_t (show (12 : Int32) ≤ nI 12 from Int32.le_refl _) ?_
      have e : og_mf (fun i => decide (i < 12) && og_fo set oth i) = og_mf (og_fo set oth) := by
        apply og_mf_ext
        intro i hi
        rw [decide_eq_true hi, Bool.true_and]
      rw [e3, e]
      exact h
    | succ d ih =>
      intro c x3 x4 hc e3 e4
      subst e3
      refine br_f (show ¬ (12 : Int32) ≤ nI c from nI_ge (b := 12) (by omega) (by decide)) ⟨og_n4, ?_⟩
      have K : ∀ x3' x4' : Int32, x3' = nI (og_mf (fun i => decide (i < c + 1) && og_fo set oth i)) → (0 ≤ x4' ↔ og_fw set oth (c + 1) = true) → wX_fewer_71 post (nI (og_mf set)) (nI (og_mf oth)) f_on f_trump f_lead f_played f_firstWon f_secondWon f_steps f_kind f_entered a_dealt a_hand a_trick a_pastCard a_pastLead a_pastTrick a_pastPlayed a_pastFirst a_pastSecond a_choices a_found a_base a_tableKey a_tableValue (d + 1) x3' x4' (nI (c + 1)) := fun x3' x4' a b => ih (c + 1) x3' x4' (by omega) a b
      have N : ¬ ((0 : Int32) ≤ -1) := by decide
      rw [og_r4 (by omega)]
      by_cases z : c % 4 = 0
      · refine br_t (by rw [z]; rfl) ?_
        unfold wX_fewer_95
        exact ox_fw98 (s := false) (by omega) (by rw [if_pos (Or.inl z)]) ⟨fun q => absurd q N, fun q => absurd q (by decide)⟩ K
      · refine br_f (nI_ne0 (by omega) (by omega)) ?_
        rw [og_b1 oth (by omega)]
        cases ho : oth c
        · refine br_f (by decide) ?_
          exact ox_fw98 (s := og_fw set oth c) (by omega) (by rw [if_neg (by simp [z, ho])]) e4 K
        · refine br_t rfl ?_
          unfold wX_fewer_95
          exact ox_fw98 (s := false) (by omega) (by rw [if_pos (Or.inr ho)]) ⟨fun q => absurd q N, fun q => absurd q (by decide)⟩ K
  refine ⟨13, L 12 0 0 (-1) (by omega) ?_ ⟨fun q => absurd q (by decide), fun q => absurd q Bool.false_ne_true⟩⟩
  rw [← og_m0]
  refine congrArg nI (og_mf_ext ?_)
  intro i hi
  simp
theorem ox_fw38 {post : Int32 → Prop} {set : Nat → Bool} (C : og_CX ow ld tk f_lead f_played a_hand a_trick) (H : og_I n ow ld tk) (h : post (nI (og_mf (og_fo set (og_ot ow ld tk))))) : ∃ m, wX_fewer_38 post (nI (og_mf set)) f_on f_trump f_lead f_played f_firstWon f_secondWon f_steps f_kind f_entered a_dealt a_hand a_trick a_pastCard a_pastLead a_pastTrick a_pastPlayed a_pastFirst a_pastSecond a_choices a_found a_base a_tableKey a_tableValue m (nI (og_mf (og_o1 ow (og_mv ld tk) 4))) 0 := by
  have h4 := H.2.2.2.1
  have L : ∀ (d i : Nat), i + d = tk.length → wX_fewer_38 post (nI (og_mf set)) f_on f_trump f_lead f_played f_firstWon f_secondWon f_steps f_kind f_entered a_dealt a_hand a_trick a_pastCard a_pastLead a_pastTrick a_pastPlayed a_pastFirst a_pastSecond a_choices a_found a_base a_tableKey a_tableValue (d + 1) (nI (og_mf (og_o2 ow (og_mv ld tk) tk i))) (nI i) := by
    intro d
    induction d with
    | zero =>
      intro i hi
      obtain rfl : i = tk.length := by omega
      refine br_t (by rw [C.2.1]; exact Int32.le_refl _) ?_
      have e : og_mf (og_o2 ow (og_mv ld tk) tk tk.length) = og_mf (og_ot ow ld tk) := by
        apply og_mf_ext
        intro e he
        unfold og_o2 og_ot og_o1
        have : (List.range tk.length).any (fun j => og_at tk j == e) = decide (e ∈ tk) := by
          apply og_beq
          rw [List.any_eq_true, decide_eq_true_eq, og_mem_at]
          constructor
          · rintro ⟨j, j1, j2⟩; exact ⟨j, List.mem_range.mp j1, by simpa using j2⟩
          · rintro ⟨j, j1, j2⟩; exact ⟨j, List.mem_range.mpr j1, by simpa using j2⟩
        rw [this]
      rw [e]
      exact ox_fw71 h
    | succ d ih =>
      intro i hi
      have h12 := (H.2.2.2.2.1 _ (og_at_mem (tk := tk) (i := i) (by omega))).1
      refine br_f (by rw [C.2.1]; exact nI_ge (by omega) (by omega)) ⟨vp_in_nI (by omega) (by decide), ?_⟩
      rw [nI_clamp (n := i) (by omega), C.2.2.2 i (by omega), og_se _ h12]
      refine nm_r (e' := nI (og_mf (og_o2 ow (og_mv ld tk) tk (i + 1)))) (congrArg nI (og_mf_ext ?_)) (nm_r (nI_1 i) (ih (i + 1) (by omega)))
      intro e he
      unfold og_o2
      rw [List.range_succ, List.any_append, ← Bool.or_assoc]
      congr 1
      show (e == og_at tk i) = ((og_at tk i == e) || false)
      rw [Bool.or_false]
      apply og_beq
      rw [beq_iff_eq, beq_iff_eq]
      exact ⟨Eq.symm, Eq.symm⟩
  have e0 : og_mf (og_o2 ow (og_mv ld tk) tk 0) = og_mf (og_o1 ow (og_mv ld tk) 4) := by
    apply og_mf_ext
    intro e he
    unfold og_o2
    simp
  have r := L tk.length 0 (by omega)
  rw [e0] at r
  exact ⟨_, r⟩
theorem ox_fewer {post : Int32 → Prop} {set : Nat → Bool} (C : og_CX ow ld tk f_lead f_played a_hand a_trick) (H : og_I n ow ld tk) (h : post (nI (og_mf (og_fo set (og_ot ow ld tk))))) : wpX_fewer post (f_on, f_trump, f_lead, f_played, f_firstWon, f_secondWon, f_steps, f_kind, f_entered, a_dealt, a_hand, a_trick, a_pastCard, a_pastLead, a_pastTrick, a_pastPlayed, a_pastFirst, a_pastSecond, a_choices, a_found, a_base, a_tableKey, a_tableValue) (nI (og_mf set)) := by
  unfold wpX_fewer
  dsimp only
  have hm := og_mv_lt ld tk
  have L : ∀ (d p : Nat), p + d = 4 → wX_fewer_4 post (nI (og_mf set)) f_on f_trump f_lead f_played f_firstWon f_secondWon f_steps f_kind f_entered a_dealt a_hand a_trick a_pastCard a_pastLead a_pastTrick a_pastPlayed a_pastFirst a_pastSecond a_choices a_found a_base a_tableKey a_tableValue (d + 1) (nI (og_mf (og_o1 ow (og_mv ld tk) p))) (nI p) := by
    intro d
    induction d with
    | zero =>
      intro p hp
      obtain rfl : p = 4 := by omega
      exact br_t (show (4 : Int32) ≤ nI 4 from Int32.le_refl _) (ox_fw38 C H h)
    | succ d ih =>
      intro p hp
      refine br_f (show ¬ (4 : Int32) ≤ nI p from nI_ge (b := 4) (by omega) (by decide)) (ox_mover C H.2.2.1 H.2.2.2.1 ?_)
      have r := ih (p + 1) (by omega)
      refine pk_eq p (og_mv ld tk) (fun z => nm_r (nI_1 p) ?_) (fun z => ⟨vp_in_nI (by omega) (by decide), ?_⟩)
      · have e : og_mf (og_o1 ow (og_mv ld tk) (p + 1)) = og_mf (og_o1 ow (og_mv ld tk) p) := by
          apply og_mf_ext
          intro e he
          unfold og_o1
          apply og_beq
          simp only [Bool.and_eq_true, decide_eq_true_eq, Bool.not_eq_true', beq_eq_false_iff_ne]
          omega
        rw [e] at r
        exact r
      · rw [nI_clamp (n := p) (by omega), C.2.2.1 p (by omega), og_oo]
        refine nm_r (e' := nI (og_mf (og_o1 ow (og_mv ld tk) (p + 1)))) (congrArg nI (og_mf_ext ?_)) (nm_r (nI_1 p) r)
        intro e he
        unfold og_o1
        apply og_beq
        simp only [Bool.or_eq_true, Bool.and_eq_true, decide_eq_true_eq, Bool.not_eq_true', beq_eq_false_iff_ne, beq_iff_eq]
        omega
  have e0 : nI (og_mf (og_o1 ow (og_mv ld tk) 0)) = 0 := by
    rw [og_z]
    intro i hi
    unfold og_o1
    simp
  have r := L 4 0 (by omega)
  rw [e0] at r
  exact ⟨_, r⟩
/-- the cards that are tried -/
def og_ch (k : Nat) (ow : Nat → Nat) (ld : Nat) (tk : List Nat) : List Nat := if k = 2 then og_fl (og_lg ow ld tk) else og_fl (og_fo (og_lg ow ld tk) (og_ot ow ld tk))
theorem ox_begin {post : SX → Prop} {k d : Nat} (hk : f_kind = nI k) (hk3 : k < 3) (hd : d < 14) (C : og_CX ow ld tk f_lead f_played a_hand a_trick) (H : og_I n ow ld tk) (h : post (f_on, f_trump, f_lead, f_played, f_firstWon, f_secondWon, f_steps, f_kind, f_entered, a_dealt, a_hand, a_trick, a_pastCard, a_pastLead, a_pastTrick, a_pastPlayed, a_pastFirst, a_pastSecond, upd a_choices d (nI (og_mk (og_ch k ow ld tk))), upd a_found d (iI (og_in k (og_mv ld tk))), upd a_base d (if k = 2 then 0 else f_firstWon), a_tableKey, a_tableValue)) : wpX_begin post (f_on, f_trump, f_lead, f_played, f_firstWon, f_secondWon, f_steps, f_kind, f_entered, a_dealt, a_hand, a_trick, a_pastCard, a_pastLead, a_pastTrick, a_pastPlayed, a_pastFirst, a_pastSecond, a_choices, a_found, a_base, a_tableKey, a_tableValue) (nI d) := by
  have hv : vp_in (nI d) 14 := vp_in_nI hd (by decide)
  have hkq : (f_kind = 2) ↔ k = 2 := by rw [hk, show (2 : Int32) = nI 2 from rfl, nI_eq (by omega) (by omega)]
  have F : ∀ z0 : Int32, z0 = nI (og_mk (og_ch k ow ld tk)) → wX_begin_27 post (nI d) z0 (nI d) f_on f_trump f_lead f_played f_firstWon f_secondWon f_steps f_kind f_entered a_dealt a_hand a_trick a_pastCard a_pastLead a_pastTrick a_pastPlayed a_pastFirst a_pastSecond a_choices a_found a_base a_tableKey a_tableValue := by
    intro z0 ez
    subst ez
    unfold wX_begin_27
    refine ⟨hv, nm_e (ox_gain hk hk3 ⟨hv, nm_e ?_⟩)⟩
    rw [nI_clamp (n := d) (by omega)]
    by_cases z : k = 2
    · refine br_t (hkq.mpr z) ⟨hv, nm_e ?_⟩
      have e : og_in k (og_mv ld tk) = 0 := by unfold og_in; rw [if_pos z]
      rw [e, iI_0] at h
      exact h
    · refine br_f (fun q => z (hkq.mp q)) (ox_raise hk hk3 C H.2.2.1 H.2.2.2.1 (fun y => ?_) (fun y => ?_))
      · refine br_f (by decide) ⟨hv, nm_e ?_⟩
        have e : og_in k (og_mv ld tk) = -1 := by unfold og_in; rw [if_neg z, if_pos y]
        rw [e, iI_m1] at h
        exact h
      · refine br_t rfl ⟨hv, nm_e ?_⟩
        have e : og_in k (og_mv ld tk) = 100 := by unfold og_in; rw [if_neg z, if_neg y]
        rw [e, iI_100] at h
        exact h
  unfold wpX_begin
  dsimp only
  refine ox_legal C H ?_
  by_cases z : k = 2
  · exact br_t (hkq.mpr z) (F _ (by unfold og_ch; rw [if_pos z]; rfl))
  · exact br_f (fun q => z (hkq.mp q)) (ox_fewer C H (F _ (by unfold og_ch; rw [if_neg z]; rfl)))
theorem ox_count {post : SX → Prop} {k d : Nat} {a v : Int} (hk : f_kind = nI k) (hk3 : k < 3) (hd : d < 14) (C : og_CX ow ld tk f_lead f_played a_hand a_trick) (hl : ld < 4) (ht : tk.length < 4) (ha : a_found d = iI a) (ha1 : -1 ≤ a) (ha2 : a ≤ 90000) (hv1 : -1 ≤ v) (hv2 : v ≤ 90000) (h : post (f_on, f_trump, f_lead, f_played, f_firstWon, f_secondWon, f_steps, f_kind, f_entered, a_dealt, a_hand, a_trick, a_pastCard, a_pastLead, a_pastTrick, a_pastPlayed, a_pastFirst, a_pastSecond, a_choices, upd a_found d (iI (og_cb k (og_mv ld tk) a v)), a_base, a_tableKey, a_tableValue)) : wpX_count post (f_on, f_trump, f_lead, f_played, f_firstWon, f_secondWon, f_steps, f_kind, f_entered, a_dealt, a_hand, a_trick, a_pastCard, a_pastLead, a_pastTrick, a_pastPlayed, a_pastFirst, a_pastSecond, a_choices, a_found, a_base, a_tableKey, a_tableValue) (nI d) (iI v) := by
  have hv : vp_in (nI d) 14 := vp_in_nI hd (by decide)
  have hkq : (f_kind = 2) ↔ k = 2 := by rw [hk, show (2 : Int32) = nI 2 from rfl, nI_eq (by omega) (by omega)]
  unfold wpX_count
  dsimp only
  rw [nI_clamp (n := d) (by omega), ha]
  by_cases z : k = 2
  · have e : og_cb k (og_mv ld tk) a v = a + v := by unfold og_cb; rw [if_pos z]
    rw [e, iI_add] at h
    exact br_t (hkq.mpr z) ⟨hv, hv, nm_e h⟩
  · refine br_f (fun q => z (hkq.mp q)) (ox_raise hk hk3 C hl ht (fun y => ?_) (fun y => ?_))
    · refine br_f (by decide) ⟨hv, ?_⟩
      have e : og_cb k (og_mv ld tk) a v = if a < v then v else a := by unfold og_cb; rw [if_neg z, if_pos y]
      rw [e] at h
      by_cases q : v ≤ a
      · rw [if_neg (by omega)] at h
        exact br_t ((iI_le (by omega) (by omega) (by omega) (by omega)).mpr q) ⟨hv, hv, nm_e h⟩
      · rw [if_pos (by omega)] at h
        exact br_f (fun r => q ((iI_le (by omega) (by omega) (by omega) (by omega)).mp r)) ⟨hv, nm_e h⟩
    · refine br_t rfl ⟨hv, ?_⟩
      have e : og_cb k (og_mv ld tk) a v = if v < a then v else a := by unfold og_cb; rw [if_neg z, if_neg y]
      rw [e] at h
      by_cases q : a ≤ v
      · rw [if_neg (by omega)] at h
        exact br_t ((iI_le (by omega) (by omega) (by omega) (by omega)).mpr q) ⟨hv, hv, nm_e h⟩
      · rw [if_pos (by omega)] at h
        exact br_f (fun r => q ((iI_le (by omega) (by omega) (by omega) (by omega)).mp r)) ⟨hv, nm_e h⟩
end
end
section
/-! X: the search -/
def og_ga (k : Nat) (tr : Int32) (o : Nat → Nat) (l : Nat) (cs : List Nat) : Int := if k = 2 then 0 else (og_wc 0 (og_hW tr o l cs) : Int)
theorem og_ga_c {k : Nat} {tr : Int32} {o : Nat → Nat} {l : Nat} (c : Nat) (cs : List Nat) : og_ga k tr o l (c :: cs) - og_ga k tr o l cs = og_gn k tr (og_hL tr o l cs) (og_hT tr o l cs) c := by
  unfold og_ga
  by_cases z : k = 2
  · rw [if_pos z, if_pos z]
    unfold og_gn
    rw [if_pos z]
    rfl
  · rw [if_neg z, if_neg z, og_wc_g z]
    omega
theorem og_fl_asc (f : Nat → Bool) : (og_fl f).Pairwise (· < ·) := List.Pairwise.filter f List.pairwise_lt_range
theorem og_ch_asc (k : Nat) (ow : Nat → Nat) (ld : Nat) (tk : List Nat) : (og_ch k ow ld tk).Pairwise (· < ·) := by
  unfold og_ch
  split
  · exact og_fl_asc _
  · exact og_fl_asc _
theorem og_ch_m {k : Nat} {ow : Nat → Nat} {ld : Nat} {tk : List Nat} {c : Nat} (h : c ∈ og_ch k ow ld tk) : c < 12 ∧ og_lg ow ld tk c = true := by
  unfold og_ch at h
  split at h
  · exact og_fl_m.mp h
  · obtain ⟨a, b⟩ := og_fl_m.mp h
    exact ⟨a, og_fo_s b⟩
theorem og_ch_len {k n : Nat} {ow : Nat → Nat} {ld : Nat} {tk : List Nat} (H : og_I (n + 1) ow ld tk) : (og_ch k ow ld tk).length ≤ (n + 4) / 4 := by
  have a := og_I_len H
  unfold og_ch
  split
  · exact a
  · rw [og_fl_len] at a ⊢
    have b : og_ct (og_fo (og_lg ow ld tk) (og_ot ow ld tk)) 12 ≤ og_ct (og_lg ow ld tk) 12 := og_ct_le (fun i _ h => og_fo_s h)
    omega
theorem og_ch_V {k n : Nat} {tr : Int32} {ow : Nat → Nat} {ld : Nat} {tk : List Nat} (H : og_I (n + 1) ow ld tk) : og_fd k (og_mv ld tk) (og_U k tr n ow ld tk) (og_ch k ow ld tk) (og_in k (og_mv ld tk)) = og_V k tr (n + 1) ow ld tk := by
  rw [og_V_s]
  unfold og_ch
  split
  · rfl
  · next z => exact og_V_fo z tr H.1 H.2.2.2.2.1 H.2.2.2.1 _
theorem og_in_b (k mv : Nat) : -1 ≤ og_in k mv ∧ og_in k mv ≤ 100 := by
  unfold og_in
  split
  · omega
  · split <;> omega
theorem og_cb_b {k mv : Nat} {a v : Int} (h1 : -1 ≤ a) (h2 : 0 ≤ v) (h3 : v ≤ 1297) : -1 ≤ og_cb k mv a v ∧ og_cb k mv a v ≤ a + 1300 := by
  unfold og_cb
  split
  · omega
  · split
    · split <;> omega
    · split <;> omega
section
variable {f_on f_trump f_lead f_played f_firstWon f_secondWon f_steps f_kind f_entered : Int32} {a_dealt a_hand a_trick a_pastCard a_pastLead a_pastTrick a_pastPlayed a_pastFirst a_pastSecond a_choices a_found a_base : Nat → Int32} {a_tableKey : Nat → Int64} {a_tableValue : Nat → Int32}
variable {tr : Int32} {o : Nat → Nat} {l : Nat}
theorem ox_ga {k : Nat} {cs : List Nat} (R : og_RX tr o l cs f_lead f_played f_firstWon f_secondWon f_steps a_hand a_trick a_pastCard a_pastLead a_pastTrick a_pastPlayed a_pastFirst a_pastSecond) : (if k = 2 then 0 else f_firstWon) = iI (og_ga k tr o l cs) := by
  unfold og_ga
  by_cases z : k = 2
  · rw [if_pos z, if_pos z]; exact iI_0.symm
  · rw [if_neg z, if_neg z, iI_nI]; exact R.2.1
/-- a situation of which all is tried, left: the loop's end at depth d + 1 -/
theorem ox_leave {post : Int32 → SX → Prop} {k n d r m : Nat} {a : Int} {c : Nat} {cs : List Nat} (hk : f_kind = nI k) (hk3 : k < 3) (hd : d + 1 < 14) (hr : r < 199999)
    (R : og_RX f_trump o l (c :: cs) f_lead f_played f_firstWon f_secondWon f_steps a_hand a_trick a_pastCard a_pastLead a_pastTrick a_pastPlayed a_pastFirst a_pastSecond) (H : og_I (n + 1) (og_hO f_trump o l cs) (og_hL f_trump o l cs) (og_hT f_trump o l cs)) (hc : c < 12) (hl : og_lg (og_hO f_trump o l cs) (og_hL f_trump o l cs) (og_hT f_trump o l cs) c = true) (h12 : cs.length < 12)
    (T : og_TS k f_trump a_tableKey a_tableValue)
    (e0 : a_choices (d + 1) = 0) (e1 : a_found (d + 1) = iI (og_V k f_trump n (og_hO f_trump o l (c :: cs)) (og_hL f_trump o l (c :: cs)) (og_hT f_trump o l (c :: cs)))) (e2 : a_base (d + 1) = iI (og_ga k f_trump o l (c :: cs)))
    (f1 : a_found d = iI a) (f2 : a_base d = iI (og_ga k f_trump o l cs)) (ha1 : -1 ≤ a) (ha2 : a ≤ 50000)
    (K : ∀ (f_lead_1 f_played_1 f_firstWon_1 f_secondWon_1 f_steps_1 : Int32) (a_hand_1 a_trick_1 a_pastCard_1 a_pastLead_1 a_pastTrick_1 a_pastPlayed_1 a_pastFirst_1 a_pastSecond_1 : Nat → Int32) (f_entered_1 : Int32) (a_tableKey_1 : Nat → Int64) (a_tableValue_1 : Nat → Int32), og_RX f_trump o l cs f_lead_1 f_played_1 f_firstWon_1 f_secondWon_1 f_steps_1 a_hand_1 a_trick_1 a_pastCard_1 a_pastLead_1 a_pastTrick_1 a_pastPlayed_1 a_pastFirst_1 a_pastSecond_1 → og_TS k f_trump a_tableKey_1 a_tableValue_1 → wX_search_30 post m (nI d) (nI (r + 1)) f_on f_trump f_lead_1 f_played_1 f_firstWon_1 f_secondWon_1 f_steps_1 f_kind f_entered_1 a_dealt a_hand_1 a_trick_1 a_pastCard_1 a_pastLead_1 a_pastTrick_1 a_pastPlayed_1 a_pastFirst_1 a_pastSecond_1 a_choices (upd a_found d (iI (og_cb k (og_mv (og_hL f_trump o l cs) (og_hT f_trump o l cs)) a (og_U k f_trump n (og_hO f_trump o l cs) (og_hL f_trump o l cs) (og_hT f_trump o l cs) c)))) a_base a_tableKey_1 a_tableValue_1) :
    wX_search_30 post (m + 1) (nI (d + 1)) (nI r) f_on f_trump f_lead f_played f_firstWon f_secondWon f_steps f_kind f_entered a_dealt a_hand a_trick a_pastCard a_pastLead a_pastTrick a_pastPlayed a_pastFirst a_pastSecond a_choices a_found a_base a_tableKey a_tableValue := by
  have hv : vp_in (nI (d + 1)) 14 := vp_in_nI hd (by decide)
  have hv' : vp_in (nI d) 14 := vp_in_nI (by omega) (by decide)
  have H1 := og_I_nx f_trump H hc hl
  have hU := og_U_b (k := k) (tr := f_trump) H hc hl
  have EU : iI (og_V k f_trump n (og_hO f_trump o l (c :: cs)) (og_hL f_trump o l (c :: cs)) (og_hT f_trump o l (c :: cs))) + iI (og_ga k f_trump o l (c :: cs)) - iI (og_ga k f_trump o l cs) = iI (og_U k f_trump n (og_hO f_trump o l cs) (og_hL f_trump o l cs) (og_hT f_trump o l cs) c) := by
    rw [← iI_add, ← iI_sub]
    refine congrArg iI ?_
    have q := og_ga_c (k := k) (tr := f_trump) (o := o) (l := l) c cs
    unfold og_U
    rw [← q, og_hO_c, og_hL_c, og_hT_c]
    omega
  have F : ∀ (f_entered_1 : Int32) (a_tableKey_1 : Nat → Int64) (a_tableValue_1 : Nat → Int32), og_TS k f_trump a_tableKey_1 a_tableValue_1 → wX_search_177 post (wX_search_30 post m) (nI (d + 1)) (nI r) f_on f_trump f_lead f_played f_firstWon f_secondWon f_steps f_kind f_entered_1 a_dealt a_hand a_trick a_pastCard a_pastLead a_pastTrick a_pastPlayed a_pastFirst a_pastSecond a_choices a_found a_base a_tableKey_1 a_tableValue_1 := by
    intro f_entered_1 a_tableKey_1 a_tableValue_1 T1
    unfold wX_search_177
    refine ⟨hv, hv, ?_⟩
    rw [nI_clamp (n := d + 1) (by omega), e1, e2]
    refine nm_e (nm_r (pk_m1 d) (br_f (nI_pos (by omega)) ?_))
    refine ox_pop R H hc hl h12 ?_
    intro f_lead_1 f_played_1 f_firstWon_1 f_secondWon_1 f_steps_1 a_hand_1 a_trick_1 a_pastCard_1 a_pastLead_1 a_pastTrick_1 a_pastPlayed_1 a_pastFirst_1 a_pastSecond_1 R1
    refine ⟨hv', ?_⟩
    rw [nI_clamp (n := d) (by omega), f2, EU]
    refine ox_count hk hk3 (by omega) R1.1 H.2.2.1 H.2.2.2.1 f1 (by omega) (by omega) (by omega) (by omega) ?_
    exact nm_r (nI_1 r) (K f_lead_1 f_played_1 f_firstWon_1 f_secondWon_1 f_steps_1 a_hand_1 a_trick_1 a_pastCard_1 a_pastLead_1 a_pastTrick_1 a_pastPlayed_1 a_pastFirst_1 a_pastSecond_1 f_entered_1 a_tableKey_1 a_tableValue_1 R1 T1)
  refine br_f (show ¬ (200000 : Int32) ≤ nI r from nI_ge (b := 200000) (by omega) (by decide)) (br_f (nI_pos (by omega)) ⟨hv, ?_⟩)
  rw [nI_clamp (n := d + 1) (by omega)]
  refine br_t e0 (br_c (fun z => ?_) (fun _ => F _ _ _ T))
  have hz : (og_hT f_trump o l (c :: cs)).length = 0 := by
    have h4 := (og_hlen (tr := f_trump) (o := o) (l := l) (c :: cs)).1
    rw [R.1.2.1, ← nI_0, nI_eq (by omega) (by omega)] at z
    exact z
  have hn : og_hT f_trump o l (c :: cs) = [] := List.length_eq_zero_iff.mp hz
  have H2 : og_I n (og_hO f_trump o l (c :: cs)) (og_hL f_trump o l (c :: cs)) [] := by rw [← hn]; exact H1
  rw [hn] at e1
  refine ox_key R.1 H1.2.2.1 ⟨hv, ?_⟩
  rw [e1]
  refine ox_rem T H2 ?_
  intro f_entered_1 a_tableKey_1 a_tableValue_1 T1
  exact F _ _ _ T1
end
end
section
/-! X: the search's loop -/
def ox_SR (post : Int32 → SX → Prop) (k : Nat) (f_on f_trump f_kind : Int32) (a_dealt : Nat → Int32) (o : Nat → Nat) (l : Nat) (n : Nat) : Prop :=
  ∀ (L : List Nat) (cs : List Nat) (d r m : Nat) (a : Int) (f_lead f_played f_firstWon f_secondWon f_steps : Int32) (a_hand a_trick a_pastCard a_pastLead a_pastTrick a_pastPlayed a_pastFirst a_pastSecond : Nat → Int32) (a_choices a_found a_base : Nat → Int32) (f_entered : Int32) (a_tableKey : Nat → Int64) (a_tableValue : Nat → Int32),
  L.Pairwise (· < ·) → (∀ c ∈ L, c < 12 ∧ og_lg (og_hO f_trump o l cs) (og_hL f_trump o l cs) (og_hT f_trump o l cs) c = true) →
  og_I (n + 1) (og_hO f_trump o l cs) (og_hL f_trump o l cs) (og_hT f_trump o l cs) → cs.length + (n + 1) ≤ 12 → d + (n + 1) ≤ 13 →
  og_RX f_trump o l cs f_lead f_played f_firstWon f_secondWon f_steps a_hand a_trick a_pastCard a_pastLead a_pastTrick a_pastPlayed a_pastFirst a_pastSecond → og_TS k f_trump a_tableKey a_tableValue →
  a_choices d = nI (og_mk L) → a_found d = iI a → a_base d = iI (og_ga k f_trump o l cs) →
  -1 ≤ a → a + 1300 * (L.length : Int) ≤ 40000 → r + L.length * (2 + og_R n) ≤ 190000 → 200000 < m + r →
  (∀ (r' m' : Nat) (f_lead_1 f_played_1 f_firstWon_1 f_secondWon_1 f_steps_1 : Int32) (a_hand_1 a_trick_1 a_pastCard_1 a_pastLead_1 a_pastTrick_1 a_pastPlayed_1 a_pastFirst_1 a_pastSecond_1 : Nat → Int32) (a_choices_1 a_found_1 a_base_1 : Nat → Int32) (f_entered_1 : Int32) (a_tableKey_1 : Nat → Int64) (a_tableValue_1 : Nat → Int32), r' ≤ r + L.length * (2 + og_R n) → 200000 < m' + r' → og_RX f_trump o l cs f_lead_1 f_played_1 f_firstWon_1 f_secondWon_1 f_steps_1 a_hand_1 a_trick_1 a_pastCard_1 a_pastLead_1 a_pastTrick_1 a_pastPlayed_1 a_pastFirst_1 a_pastSecond_1 → og_TS k f_trump a_tableKey_1 a_tableValue_1 →
    (∀ j, j < d → a_choices_1 j = a_choices j ∧ a_found_1 j = a_found j ∧ a_base_1 j = a_base j) →
    a_choices_1 d = 0 → a_found_1 d = iI (og_fd k (og_mv (og_hL f_trump o l cs) (og_hT f_trump o l cs)) (og_U k f_trump n (og_hO f_trump o l cs) (og_hL f_trump o l cs) (og_hT f_trump o l cs)) L a) → a_base_1 d = iI (og_ga k f_trump o l cs) →
    wX_search_30 post m' (nI d) (nI r') f_on f_trump f_lead_1 f_played_1 f_firstWon_1 f_secondWon_1 f_steps_1 f_kind f_entered_1 a_dealt a_hand_1 a_trick_1 a_pastCard_1 a_pastLead_1 a_pastTrick_1 a_pastPlayed_1 a_pastFirst_1 a_pastSecond_1 a_choices_1 a_found_1 a_base_1 a_tableKey_1 a_tableValue_1) →
  wX_search_30 post m (nI d) (nI r) f_on f_trump f_lead f_played f_firstWon f_secondWon f_steps f_kind f_entered a_dealt a_hand a_trick a_pastCard a_pastLead a_pastTrick a_pastPlayed a_pastFirst a_pastSecond a_choices a_found a_base a_tableKey a_tableValue
theorem ox_EU {k n : Nat} {tr : Int32} {o : Nat → Nat} {l : Nat} (c : Nat) (cs : List Nat) : iI (og_V k tr n (og_hO tr o l (c :: cs)) (og_hL tr o l (c :: cs)) (og_hT tr o l (c :: cs))) + iI (og_ga k tr o l (c :: cs)) - iI (og_ga k tr o l cs) = iI (og_U k tr n (og_hO tr o l cs) (og_hL tr o l cs) (og_hT tr o l cs) c) := by
  rw [← iI_add, ← iI_sub]
  refine congrArg iI ?_
  have q := og_ga_c (k := k) (tr := tr) (o := o) (l := l) c cs
  unfold og_U
  rw [← q, og_hO_c, og_hL_c, og_hT_c]
  omega
section
variable {post : Int32 → SX → Prop} {k : Nat} {f_on f_trump f_kind : Int32} {a_dealt : Nat → Int32} {o : Nat → Nat} {l : Nat}
theorem ox_SR_s (hk : f_kind = nI k) (hk3 : k < 3) (n : Nat) (IH : ∀ n', n = n' + 1 → ox_SR post k f_on f_trump f_kind a_dealt o l n') : ox_SR post k f_on f_trump f_kind a_dealt o l n := by
  intro L
  induction L with
  | nil =>
    intro cs d r m a f_lead f_played f_firstWon f_secondWon f_steps a_hand a_trick a_pastCard a_pastLead a_pastTrick a_pastPlayed a_pastFirst a_pastSecond a_choices a_found a_base f_entered a_tableKey a_tableValue hasc hL H h12 hd R TT e0 e1 e2 ha1 ha2 hr hm K
    exact K r m f_lead f_played f_firstWon f_secondWon f_steps a_hand a_trick a_pastCard a_pastLead a_pastTrick a_pastPlayed a_pastFirst a_pastSecond a_choices a_found a_base f_entered a_tableKey a_tableValue (by omega) hm R TT (fun j _ => ⟨rfl, rfl, rfl⟩) e0 e1 e2
  | cons c L ihL =>
    intro cs d r m a f_lead f_played f_firstWon f_secondWon f_steps a_hand a_trick a_pastCard a_pastLead a_pastTrick a_pastPlayed a_pastFirst a_pastSecond a_choices a_found a_base f_entered a_tableKey a_tableValue hasc hL H h12 hd R TT e0 e1 e2 ha1 ha2 hr hm K
    obtain ⟨hc, hlg⟩ := hL c List.mem_cons_self
    obtain ⟨hlow, hasc'⟩ := List.pairwise_cons.mp hasc
    have hL' : ∀ e ∈ L, e < 12 ∧ og_lg (og_hO f_trump o l cs) (og_hL f_trump o l cs) (og_hT f_trump o l cs) e = true := fun e he => hL e (List.mem_cons_of_mem _ he)
    rw [List.length_cons, Nat.succ_mul] at hr K
    rw [List.length_cons] at ha2
    have hU := og_U_b (k := k) (tr := f_trump) H hc hlg
    have hcb := og_cb_b (k := k) (mv := og_mv (og_hL f_trump o l cs) (og_hT f_trump o l cs)) ha1 hU.1 hU.2
    have H1 : og_I n (og_hO f_trump o l (c :: cs)) (og_hL f_trump o l (c :: cs)) (og_hT f_trump o l (c :: cs)) := og_I_nx f_trump H hc hlg
    have hVb := og_V_b (k := k) (tr := f_trump) H1
    have hv : vp_in (nI d) 14 := vp_in_nI (by omega) (by decide)
    obtain ⟨m, rfl⟩ : ∃ m', m = m' + 1 := ⟨m - 1, by omega⟩
    refine br_f (show ¬ (200000 : Int32) ≤ nI r from nI_ge (b := 200000) (by omega) (by decide)) (br_f (nI_pos (by omega)) ⟨hv, ?_⟩)
    rw [nI_clamp (n := d) (by omega), e0]
    refine br_f (og_mk_ne hc (fun e he => (hL' e he).1)) ⟨hv, hv, nm_r (og_low hc hlow (fun e he => (hL' e he).1)) ⟨hv, hv, nm_r (e' := upd a_choices d (nI (og_mk L))) (by rw [og_rest hc hlow]) (ox_size ?_)⟩⟩
    rw [og_szl c hc]
    refine ox_push R H hc hlg (by omega) ?_
    intro f_lead_1 f_played_1 f_firstWon_1 f_secondWon_1 f_steps_1 a_hand_1 a_trick_1 a_pastCard_1 a_pastLead_1 a_pastTrick_1 a_pastPlayed_1 a_pastFirst_1 a_pastSecond_1 R1
    refine ox_once hk hk3 R1.1 H1 TT ?_ ?_
    · refine br_f (iI_lt0 hVb.1 (by omega)) (ox_gain hk hk3 ⟨hv, ?_⟩)
      rw [ox_ga R1, e2]
      refine nm_r (ox_EU c cs) (ox_pop R1 H hc hlg (by omega) ?_)
      intro f_lead_2 f_played_2 f_firstWon_2 f_secondWon_2 f_steps_2 a_hand_2 a_trick_2 a_pastCard_2 a_pastLead_2 a_pastTrick_2 a_pastPlayed_2 a_pastFirst_2 a_pastSecond_2 R2
      refine ox_count hk hk3 (by omega) R2.1 H.2.2.1 H.2.2.2.1 e1 (by omega) (by omega) (by omega) (by omega) (nm_r (nI_1 r) ?_)
      refine ihL cs d (r + 1) m _ f_lead_2 f_played_2 f_firstWon_2 f_secondWon_2 f_steps_2 a_hand_2 a_trick_2 a_pastCard_2 a_pastLead_2 a_pastTrick_2 a_pastPlayed_2 a_pastFirst_2 a_pastSecond_2 _ _ _ _ _ _ hasc' hL' H h12 hd R2 TT pk_us pk_us e2 hcb.1 (by omega) (by omega) (by omega) ?_
      intro r' m' f_lead_3 f_played_3 f_firstWon_3 f_secondWon_3 f_steps_3 a_hand_3 a_trick_3 a_pastCard_3 a_pastLead_3 a_pastTrick_3 a_pastPlayed_3 a_pastFirst_3 a_pastSecond_3 a_choices_3 a_found_3 a_base_3 f_entered_3 a_tableKey_3 a_tableValue_3 hr' hm' R3 T3 B3 c3 f3 b3
      refine K r' m' f_lead_3 f_played_3 f_firstWon_3 f_secondWon_3 f_steps_3 a_hand_3 a_trick_3 a_pastCard_3 a_pastLead_3 a_pastTrick_3 a_pastPlayed_3 a_pastFirst_3 a_pastSecond_3 a_choices_3 a_found_3 a_base_3 f_entered_3 a_tableKey_3 a_tableValue_3 (by omega) hm' R3 T3 (fun j hj => ?_) c3 f3 b3
      obtain ⟨u1, u2, u3⟩ := B3 j hj
      exact ⟨u1.trans (pk_un (by omega)), u2.trans (pk_un (by omega)), u3⟩
    · intro hn
      obtain ⟨n, rfl⟩ : ∃ n', n = n' + 1 := ⟨n - 1, by omega⟩
      refine br_t (by decide) (nm_r (nI_1 d) (ox_begin hk hk3 (by omega) R1.1 H1 (nm_r (nI_1 r) ?_)))
      rw [ox_ga R1]
      have hin := og_in_b k (og_mv (og_hL f_trump o l (c :: cs)) (og_hT f_trump o l (c :: cs)))
      have hle := og_ch_len (k := k) H1
      have hle2 : (og_ch k (og_hO f_trump o l (c :: cs)) (og_hL f_trump o l (c :: cs)) (og_hT f_trump o l (c :: cs))).length * (2 + og_R n) ≤ og_R (n + 1) := Nat.mul_le_mul_right _ hle
      refine IH n rfl (og_ch k (og_hO f_trump o l (c :: cs)) (og_hL f_trump o l (c :: cs)) (og_hT f_trump o l (c :: cs))) (c :: cs) (d + 1) (r + 1) m (og_in k (og_mv (og_hL f_trump o l (c :: cs)) (og_hT f_trump o l (c :: cs)))) f_lead_1 f_played_1 f_firstWon_1 f_secondWon_1 f_steps_1 a_hand_1 a_trick_1 a_pastCard_1 a_pastLead_1 a_pastTrick_1 a_pastPlayed_1 a_pastFirst_1 a_pastSecond_1 _ _ _ _ _ _ (og_ch_asc _ _ _ _) (fun e he => og_ch_m he) H1 (by rw [List.length_cons]; omega) (by omega) R1 TT pk_us pk_us pk_us hin.1 (by omega) (by omega) (by omega) ?_
      · intro r' m' f_lead_3 f_played_3 f_firstWon_3 f_secondWon_3 f_steps_3 a_hand_3 a_trick_3 a_pastCard_3 a_pastLead_3 a_pastTrick_3 a_pastPlayed_3 a_pastFirst_3 a_pastSecond_3 a_choices_3 a_found_3 a_base_3 f_entered_3 a_tableKey_3 a_tableValue_3 hr' hm' R3 T3 B3 c3 f3 b3
        obtain ⟨m', rfl⟩ : ∃ q, m' = q + 1 := ⟨m' - 1, by omega⟩
        obtain ⟨u1, u2, u3⟩ := B3 d (by omega)
        rw [pk_un (by omega)] at u1 u2 u3
        rw [pk_us] at u1
        rw [og_ch_V H1] at f3
        refine ox_leave hk hk3 (by omega) (by omega) R3 H hc hlg (by omega) T3 c3 f3 b3 (u2.trans e1) (u3.trans e2) ha1 (by omega) ?_
        intro f_lead_4 f_played_4 f_firstWon_4 f_secondWon_4 f_steps_4 a_hand_4 a_trick_4 a_pastCard_4 a_pastLead_4 a_pastTrick_4 a_pastPlayed_4 a_pastFirst_4 a_pastSecond_4 f_entered_4 a_tableKey_4 a_tableValue_4 R4 T4
        refine ihL cs d (r' + 1) m' _ f_lead_4 f_played_4 f_firstWon_4 f_secondWon_4 f_steps_4 a_hand_4 a_trick_4 a_pastCard_4 a_pastLead_4 a_pastTrick_4 a_pastPlayed_4 a_pastFirst_4 a_pastSecond_4 _ _ _ _ _ _ hasc' hL' H h12 hd R4 T4 u1 pk_us (u3.trans e2) hcb.1 (by omega) (by omega) (by omega) ?_
        intro r5 m5 f_lead_5 f_played_5 f_firstWon_5 f_secondWon_5 f_steps_5 a_hand_5 a_trick_5 a_pastCard_5 a_pastLead_5 a_pastTrick_5 a_pastPlayed_5 a_pastFirst_5 a_pastSecond_5 a_choices_5 a_found_5 a_base_5 f_entered_5 a_tableKey_5 a_tableValue_5 hr5 hm5 R5 T5 B5 c5 f5 b5
        refine K r5 m5 f_lead_5 f_played_5 f_firstWon_5 f_secondWon_5 f_steps_5 a_hand_5 a_trick_5 a_pastCard_5 a_pastLead_5 a_pastTrick_5 a_pastPlayed_5 a_pastFirst_5 a_pastSecond_5 a_choices_5 a_found_5 a_base_5 f_entered_5 a_tableKey_5 a_tableValue_5 (by omega) hm5 R5 T5 (fun j hj => ?_) c5 f5 b5
        obtain ⟨v1, v2, v3⟩ := B5 j hj
        obtain ⟨w1, w2, w3⟩ := B3 j (by omega)
        rw [pk_un (by omega)] at w1 w2 w3 v2
        rw [pk_un (by omega)] at w1
        exact ⟨v1.trans w1, v2.trans w2, v3.trans w3⟩
theorem ox_SR_a (hk : f_kind = nI k) (hk3 : k < 3) : ∀ n, ox_SR post k f_on f_trump f_kind a_dealt o l n := by
  intro n
  induction n with
  | zero => exact ox_SR_s hk hk3 0 (fun n' h => by omega)
  | succ n ih =>
    apply ox_SR_s hk hk3 (n + 1)
    intro n' h
    obtain rfl : n = n' := by omega
    exact ih
end
section
variable {f_on f_trump f_lead f_played f_firstWon f_secondWon f_steps f_kind f_entered : Int32} {a_dealt a_hand a_trick a_pastCard a_pastLead a_pastTrick a_pastPlayed a_pastFirst a_pastSecond a_choices a_found a_base : Nat → Int32} {a_tableKey : Nat → Int64} {a_tableValue : Nat → Int32}
variable {o : Nat → Nat} {l : Nat}
theorem ox_search {post : Int32 → SX → Prop} {k n : Nat} {cs : List Nat} (hk3 : k < 3) (R : og_RX f_trump o l cs f_lead f_played f_firstWon f_secondWon f_steps a_hand a_trick a_pastCard a_pastLead a_pastTrick a_pastPlayed a_pastFirst a_pastSecond) (H : og_I n (og_hO f_trump o l cs) (og_hL f_trump o l cs) (og_hT f_trump o l cs)) (h12 : cs.length + n ≤ 12) (K : ∀ (f_lead_1 f_played_1 f_firstWon_1 f_secondWon_1 f_steps_1 : Int32) (a_hand_1 a_trick_1 a_pastCard_1 a_pastLead_1 a_pastTrick_1 a_pastPlayed_1 a_pastFirst_1 a_pastSecond_1 : Nat → Int32) (a_choices_1 a_found_1 a_base_1 : Nat → Int32) (f_entered_1 : Int32) (a_tableKey_1 : Nat → Int64) (a_tableValue_1 : Nat → Int32), og_RX f_trump o l cs f_lead_1 f_played_1 f_firstWon_1 f_secondWon_1 f_steps_1 a_hand_1 a_trick_1 a_pastCard_1 a_pastLead_1 a_pastTrick_1 a_pastPlayed_1 a_pastFirst_1 a_pastSecond_1 → post (iI (og_V k f_trump n (og_hO f_trump o l cs) (og_hL f_trump o l cs) (og_hT f_trump o l cs))) (f_on, f_trump, f_lead_1, f_played_1, f_firstWon_1, f_secondWon_1, f_steps_1, nI k, f_entered_1, a_dealt, a_hand_1, a_trick_1, a_pastCard_1, a_pastLead_1, a_pastTrick_1, a_pastPlayed_1, a_pastFirst_1, a_pastSecond_1, a_choices_1, a_found_1, a_base_1, a_tableKey_1, a_tableValue_1)) : wpX_search post (f_on, f_trump, f_lead, f_played, f_firstWon, f_secondWon, f_steps, f_kind, f_entered, a_dealt, a_hand, a_trick, a_pastCard, a_pastLead, a_pastTrick, a_pastPlayed, a_pastFirst, a_pastSecond, a_choices, a_found, a_base, a_tableKey, a_tableValue) (nI k) := by
  unfold wpX_search
  dsimp only
  refine ox_clear ?_
  intro a_tableKey_1 hz
  dsimp only
  have TT : og_TS k f_trump a_tableKey_1 a_tableValue := og_TS_0 hz
  have hVb := og_V_b (k := k) (tr := f_trump) H
  refine ox_once rfl hk3 R.1 H TT ?_ ?_
  · exact br_f (iI_lt0 hVb.1 (by omega)) (K _ _ _ _ _ _ _ _ _ _ _ _ _ _ _ _ _ _ _ R)
  · intro hn
    obtain ⟨n, rfl⟩ : ∃ n', n = n' + 1 := ⟨n - 1, by omega⟩
    refine br_t (by decide) (ox_begin (d := 0) rfl hk3 (by omega) R.1 H ?_)
    dsimp only
    refine ⟨200001, ?_⟩
    rw [ox_ga R]
    have hin := og_in_b k (og_mv (og_hL f_trump o l cs) (og_hT f_trump o l cs))
    have hle := og_ch_len (k := k) H
    have hle2 : (og_ch k (og_hO f_trump o l cs) (og_hL f_trump o l cs) (og_hT f_trump o l cs)).length * (2 + og_R n) ≤ og_R (n + 1) := Nat.mul_le_mul_right _ hle
    have hR := og_R12 (n + 1) (by omega)
    refine ox_SR_a (l := l) (o := o) rfl hk3 n (og_ch k (og_hO f_trump o l cs) (og_hL f_trump o l cs) (og_hT f_trump o l cs)) cs 0 0 200001 _ f_lead f_played f_firstWon f_secondWon f_steps a_hand a_trick a_pastCard a_pastLead a_pastTrick a_pastPlayed a_pastFirst a_pastSecond _ _ _ _ _ _ (og_ch_asc _ _ _ _) (fun e he => og_ch_m he) H (by omega) (by omega) R TT pk_us pk_us pk_us hin.1 (by omega) (by omega) (by omega) ?_
    intro r' m' f_lead_1 f_played_1 f_firstWon_1 f_secondWon_1 f_steps_1 a_hand_1 a_trick_1 a_pastCard_1 a_pastLead_1 a_pastTrick_1 a_pastPlayed_1 a_pastFirst_1 a_pastSecond_1 a_choices_1 a_found_1 a_base_1 f_entered_1 a_tableKey_1 a_tableValue_1 hr' hm' R1 T1 B1 c1 f1 b1
    rw [og_ch_V H] at f1
    obtain ⟨m', rfl⟩ : ∃ q, m' = q + 2 := ⟨m' - 2, by omega⟩
    have hv : vp_in (nI 0) 14 := vp_in_nI (by omega) (by decide)
    have F : ∀ (f_entered_2 : Int32) (a_tableKey_2 : Nat → Int64) (a_tableValue_2 : Nat → Int32), wX_search_177 post (wX_search_30 post (m' + 1)) (nI 0) (nI r') f_on f_trump f_lead_1 f_played_1 f_firstWon_1 f_secondWon_1 f_steps_1 (nI k) f_entered_2 a_dealt a_hand_1 a_trick_1 a_pastCard_1 a_pastLead_1 a_pastTrick_1 a_pastPlayed_1 a_pastFirst_1 a_pastSecond_1 a_choices_1 a_found_1 a_base_1 a_tableKey_2 a_tableValue_2 := by
      intro f_entered_2 a_tableKey_2 a_tableValue_2
      unfold wX_search_177
      refine ⟨hv, hv, nm_e (nm_e (br_t (by decide) (nm_r (nI_1 r') ?_)))⟩
      refine br_f (show ¬ (200000 : Int32) ≤ nI (r' + 1) from nI_ge (b := 200000) (by omega) (by decide)) (br_t (by decide) ?_)
      rw [f1]
      exact K f_lead_1 f_played_1 f_firstWon_1 f_secondWon_1 f_steps_1 a_hand_1 a_trick_1 a_pastCard_1 a_pastLead_1 a_pastTrick_1 a_pastPlayed_1 a_pastFirst_1 a_pastSecond_1 a_choices_1 a_found_1 a_base_1 f_entered_2 a_tableKey_2 a_tableValue_2 R1
    refine br_f (show ¬ (200000 : Int32) ≤ nI r' from nI_ge (b := 200000) (by omega) (by decide)) (br_f (by decide) ⟨hv, ?_⟩)
    refine br_t c1 (br_c (fun z => ?_) (fun _ => F _ _ _))
    refine ox_key R1.1 H.2.2.1 ⟨hv, ?_⟩
    have hz : (og_hT f_trump o l cs).length = 0 := by
      have h4 := H.2.2.2.1
      rw [R1.1.2.1, ← nI_0, nI_eq (by omega) (by omega)] at z
      exact z
    have hnn : og_hT f_trump o l cs = [] := List.length_eq_zero_iff.mp hz
    have H2 : og_I (n + 1) (og_hO f_trump o l cs) (og_hL f_trump o l cs) [] := by rw [← hnn]; exact H
    have f2 : a_found_1 (nI 0).toNatClampNeg = iI (og_V k f_trump (n + 1) (og_hO f_trump o l cs) (og_hL f_trump o l cs) []) := by rw [← hnn]; exact f1
    rw [f2]
    refine ox_rem T1 H2 ?_
    intro f_entered_2 a_tableKey_2 a_tableValue_2 _
    exact F _ _ _
end
end
section
/-! Y: the history in its fields -/
def og_PY (tr : Int32) (o : Nat → Nat) (l : Nat) (a_played a_players : Nat → Int32) : List Nat → Prop
  | [] => True
  | c :: cs => (a_played cs.length = nI c ∧ a_players cs.length = nI (og_mv (og_hL tr o l cs) (og_hT tr o l cs))) ∧ og_PY tr o l a_played a_players cs
def og_RY (tr : Int32) (o : Nat → Nat) (l : Nat) (cs : List Nat) (f_count : Int32) (a_holders a_played a_players : Nat → Int32) : Prop :=
  f_count = nI cs.length ∧ (∀ c, c < 12 → a_holders c = nI (og_hO tr o l cs c)) ∧ og_PY tr o l a_played a_players cs
section
variable {f_on f_firstLeader f_trumpSuit f_count : Int32} {a_holders a_begun a_played a_players a_waiting a_values a_leasts a_ways : Nat → Int32}
variable {tr : Int32} {o : Nat → Nat} {l : Nat}
theorem og_PY_fr {p q p' q' : Nat → Int32} : ∀ (cs : List Nat), (∀ i, i < cs.length → p' i = p i ∧ q' i = q i) → og_PY tr o l p q cs → og_PY tr o l p' q' cs := by
  intro cs
  induction cs with
  | nil => intro _ _; trivial
  | cons c cs ih =>
    rintro h1 ⟨⟨a1, a2⟩, b⟩
    obtain ⟨e1, e2⟩ := h1 cs.length (by rw [List.length_cons]; omega)
    exact ⟨⟨e1.trans a1, e2.trans a2⟩, ih (fun i hi => h1 i (by rw [List.length_cons]; omega)) b⟩
/-- the current trick and the tricks before it -/
theorem og_PY_t {p q : Nat → Int32} : ∀ (cs : List Nat), og_ok tr o l cs → og_PY tr o l p q cs →
    (∀ i, i < (og_hT tr o l cs).length → og_at (og_hT tr o l cs) i < 12 ∧ p (4 * (og_hW tr o l cs).length + i) = nI (og_at (og_hT tr o l cs) i) ∧ q (4 * (og_hW tr o l cs).length + i) = nI ((og_hL tr o l cs + i) % 4)) ∧
    (∀ j, j < (og_hW tr o l cs).length → ∃ (t : List Nat) (ld : Nat), t.length = 4 ∧ (∀ i, i < 4 → og_at t i < 12 ∧ p (4 * j + i) = nI (og_at t i) ∧ q (4 * j + i) = nI ((ld + i) % 4)) ∧ og_at (og_hW tr o l cs) j = og_w tr ld t) := by
  intro cs
  induction cs with
  | nil => exact fun _ _ => ⟨fun i hi => absurd hi (Nat.not_lt_zero _), fun j hj => absurd hj (Nat.not_lt_zero _)⟩
  | cons c cs ih =>
    rintro ⟨⟨k1, k2⟩, k3⟩ ⟨⟨a1, a2⟩, b⟩
    obtain ⟨A, B⟩ := ih k3 b
    obtain ⟨l1, l2⟩ := og_hlen (tr := tr) (o := o) (l := l) cs
    have A' : ∀ i, i < (og_hT tr o l cs ++ [c]).length → og_at (og_hT tr o l cs ++ [c]) i < 12 ∧ p (4 * (og_hW tr o l cs).length + i) = nI (og_at (og_hT tr o l cs ++ [c]) i) ∧ q (4 * (og_hW tr o l cs).length + i) = nI ((og_hL tr o l cs + i) % 4) := by
      intro i hi
      rw [og_len1] at hi
      by_cases z : i = (og_hT tr o l cs).length
      · subst z
        rw [og_at_r, ← l2]
        exact ⟨k1, a1, a2⟩
      · rw [og_at_l (by omega)]
        exact A i (by omega)
    rw [og_hT_c, og_hW_c, og_hL_c]
    unfold og_nt og_ns og_nl
    by_cases z : (og_hT tr o l cs).length = 3
    · simp only [if_pos z]
      refine ⟨fun i hi => absurd hi (Nat.not_lt_zero _), ?_⟩
      intro j hj
      rw [og_len1] at hj
      by_cases y : j = (og_hW tr o l cs).length
      · subst y
        refine ⟨og_hT tr o l cs ++ [c], og_hL tr o l cs, by rw [og_len1]; omega, ?_, og_at_r⟩
        intro i hi
        exact A' i (by rw [og_len1]; omega)
      · rw [og_at_l (by omega)]
        exact B j (by omega)
    · simp only [if_neg z]
      exact ⟨A', B⟩
/-- between tricks the leader is the last winner -/
theorem og_last : ∀ (cs : List Nat), cs ≠ [] → (og_hT tr o l cs).length = 0 → 0 < (og_hW tr o l cs).length ∧ og_at (og_hW tr o l cs) ((og_hW tr o l cs).length - 1) = og_hL tr o l cs := by
  intro cs
  cases cs with
  | nil => intro h; exact absurd rfl h
  | cons c cs =>
    intro _
    rw [og_hT_c, og_hW_c, og_hL_c]
    unfold og_nt og_ns og_nl
    by_cases z : (og_hT tr o l cs).length = 3
    · simp only [if_pos z]
      intro _
      rw [og_len1]
      exact ⟨by omega, og_at_r⟩
    · simp only [if_neg z]
      intro h
      rw [og_len1] at h
      omega
/-! Y: small methods -/
theorem oy_hand {post : Int32 → Prop} {ow : Nat → Nat} {p : Nat} (hh : ∀ c, c < 12 → a_holders c = nI (ow c)) (how : ∀ c, ow c ≤ 4) (hp : p < 4) (h : post (nI (og_mf (fun c => ow c == p)))) : wpY_handOf post (f_on, f_firstLeader, f_trumpSuit, f_count, a_holders, a_begun, a_played, a_players, a_waiting, a_values, a_leasts, a_ways) (nI p) := by
  unfold wpY_handOf
  dsimp only
  have L : ∀ d i, i + d = 12 → wY_handOf_4 post (nI p) f_on f_firstLeader f_trumpSuit f_count a_holders a_begun a_played a_players a_waiting a_values a_leasts a_ways (d + 1) (nI (og_mf (fun c => decide (c < i) && (ow c == p)))) (nI i) := by
    intro d
    induction d with
    | zero =>
      intro i hi
      obtain rfl : i = 12 := by omega
      refine br_t (show (12 : Int32) ≤ nI 12 from Int32.le_refl _) ?_
      have e : og_mf (fun c => decide (c < 12) && (ow c == p)) = og_mf (fun c => ow c == p) := by
        apply og_mf_ext
        intro i hi
        rw [decide_eq_true hi, Bool.true_and]
      rw [e]
      exact h
    | succ d ih =>
      intro i hi
      have h4 := how i
      refine br_f (show ¬ (12 : Int32) ≤ nI i from nI_ge (b := 12) (by omega) (by decide)) ⟨vp_in_nI (by omega) (by decide), ?_⟩
      rw [nI_clamp (n := i) (by omega), hh i (by omega)]
      refine pk_eq (ow i) p (fun z => ?_) (fun z => ?_)
      · rw [og_se _ (by omega)]
        refine nm_r (e' := nI (og_mf (fun c => decide (c < i + 1) && (ow c == p)))) (congrArg nI (og_mf_ext ?_)) (nm_r (nI_1 i) (ih (i + 1) (by omega)))
        intro e he
        apply og_beq
        simp only [Bool.or_eq_true, Bool.and_eq_true, decide_eq_true_eq, beq_iff_eq]
        constructor
        · rintro (⟨a, b⟩ | a)
          · exact ⟨by omega, b⟩
          · subst a; exact ⟨by omega, z⟩
        · rintro ⟨a, b⟩
          by_cases y : e = i
          · exact Or.inr y
          · exact Or.inl ⟨by omega, b⟩
      · refine nm_r (nI_1 i) ?_
        have r := ih (i + 1) (by omega)
        have e : og_mf (fun c => decide (c < i + 1) && (ow c == p)) = og_mf (fun c => decide (c < i) && (ow c == p)) := by
          apply og_mf_ext
          intro e he
          apply og_beq
          simp only [Bool.and_eq_true, decide_eq_true_eq, beq_iff_eq]
          constructor
          · rintro ⟨a, b⟩
            by_cases y : e = i
            · subst y; exact absurd b z
            · exact ⟨by omega, b⟩
          · rintro ⟨a, b⟩; exact ⟨by omega, b⟩
        rw [e] at r
        exact r
  have r := L 12 0 (by omega)
  have e0 : nI (og_mf (fun c => decide (c < 0) && (ow c == p))) = 0 := by
    rw [og_z]
    intro i hi
    simp
  rw [e0] at r
  exact ⟨_, r⟩
theorem og_bp_in (tr : Int32) (t : Nat → Nat) : ∀ n, 1 ≤ n → t (og_bp tr t n) / 4 = t 0 / 4 ∨ nI (t (og_bp tr t n) / 4) = tr := by
  intro n
  induction n with
  | zero => intro h; omega
  | succ n ih =>
    intro _
    by_cases hz : n = 0
    · subst hz
      rw [og_bp_1]
      exact Or.inl rfl
    · rw [og_bp_s]
      split
      · next z =>
        by_cases h1 : nI (t n / 4) = tr
        · exact Or.inr h1
        · by_cases h2 : t n / 4 = t 0 / 4
          · exact Or.inl h2
          · have e : og_st tr (t 0 / 4) (t n) = 0 := by unfold og_st; rw [if_neg h1, if_neg h2]
            omega
      · exact ih (by omega)
theorem og_beats {tr : Int32} {l0 b x : Nat} (hb : b < 12) (hx : x < 12) (hi : b / 4 = l0 ∨ nI (b / 4) = tr) : (x / 4 = b / 4 → (og_st tr l0 b < og_st tr l0 x ↔ b < x)) ∧ (¬ x / 4 = b / 4 → (og_st tr l0 b < og_st tr l0 x ↔ nI (x / 4) = tr)) := by
  unfold og_st
  constructor
  · intro e
    rw [e]
    by_cases h1 : nI (b / 4) = tr
    · simp only [if_pos h1]; omega
    · have h2 : b / 4 = l0 := hi.resolve_right h1
      simp only [if_neg h1, if_pos h2]; omega
  · intro e
    by_cases h1 : nI (b / 4) = tr
    · have h3 : ¬ nI (x / 4) = tr := fun z => e ((nI_eq (by omega) (by omega)).mp (z.trans h1.symm))
      simp only [if_pos h1, if_neg h3]
      constructor
      · intro z
        split at z <;> omega
      · intro z; exact absurd z h3
    · have h2 : b / 4 = l0 := hi.resolve_right h1
      simp only [if_neg h1, if_pos h2]
      by_cases h3 : nI (x / 4) = tr
      · simp only [if_pos h3]
        constructor
        · intro _; trivial
        · intro _; omega
      · have h4 : ¬ x / 4 = l0 := by omega
        simp only [if_neg h3, if_neg h4]
        constructor
        · intro z; omega
        · intro z; exact absurd z h3
theorem oy_win {post : Int32 → Prop} {F k C : Nat} {t : Nat → Nat} (hC : f_count = nI C) (hC12 : C ≤ 12) (hk : 1 ≤ k) (hk4 : k ≤ 4) (hF : F + k ≤ C) (hend : k = 4 ∨ F + k = C) (ht : ∀ i, i < k → t i < 12 ∧ a_played (F + i) = nI (t i)) (h : post (nI (F + og_bp f_trumpSuit t k))) : wpY_winnerAt post (f_on, f_firstLeader, f_trumpSuit, f_count, a_holders, a_begun, a_played, a_players, a_waiting, a_values, a_leasts, a_ways) (nI F) := by
  unfold wpY_winnerAt
  dsimp only
  have e4 : nI F + 4 = nI (F + 4) := nI_add F 4
  have L : ∀ d i, 1 ≤ i → i + d = k → wY_winnerAt_6 post (nI F) f_on f_firstLeader f_trumpSuit f_count a_holders a_begun a_played a_players a_waiting a_values a_leasts a_ways (d + 1) (nI (F + og_bp f_trumpSuit t i)) (nI (F + i)) := by
    intro d
    induction d with
    | zero =>
      intro i _ hi
      obtain rfl : i = k := by omega
      by_cases z : i = 4
      · exact br_t (by rw [e4]; exact nI_le (by omega) (by omega)) h
      · refine br_f (by rw [e4]; exact nI_ge (by omega) (by omega)) (br_t (by rw [hC]; exact nI_le (by omega) (by omega)) h)
    | succ d ih =>
      intro i h1 hi
      have hb := og_bp_le f_trumpSuit t i
      have ti := ht i (by omega)
      have tb := ht (og_bp f_trumpSuit t i) (by omega)
      have v3 : vp_in (nI (F + i)) 12 := vp_in_nI (by omega) (by decide)
      have v2 : vp_in (nI (F + og_bp f_trumpSuit t i)) 12 := vp_in_nI (by omega) (by decide)
      obtain ⟨b1, b2⟩ := og_beats (tr := f_trumpSuit) (l0 := t 0 / 4) tb.1 ti.1 (og_bp_in f_trumpSuit t i h1)
      have J1 : og_st f_trumpSuit (t 0 / 4) (t (og_bp f_trumpSuit t i)) < og_st f_trumpSuit (t 0 / 4) (t i) → wY_winnerAt_85 post (wY_winnerAt_6 post (nI F) f_on f_firstLeader f_trumpSuit f_count a_holders a_begun a_played a_players a_waiting a_values a_leasts a_ways (d + 1)) (nI F) (nI (F + og_bp f_trumpSuit t i)) (nI (F + i)) 1 f_on f_firstLeader f_trumpSuit f_count a_holders a_begun a_played a_players a_waiting a_values a_leasts a_ways := by
        intro z
        unfold wY_winnerAt_85
        refine br_f (by decide) (nm_r (nI_1 _) ?_)
        have e := ih (i + 1) (by omega) (by omega)
        rw [og_bp_s, if_pos z] at e
        exact e
      have J0 : ¬ og_st f_trumpSuit (t 0 / 4) (t (og_bp f_trumpSuit t i)) < og_st f_trumpSuit (t 0 / 4) (t i) → wY_winnerAt_85 post (wY_winnerAt_6 post (nI F) f_on f_firstLeader f_trumpSuit f_count a_holders a_begun a_played a_players a_waiting a_values a_leasts a_ways (d + 1)) (nI F) (nI (F + og_bp f_trumpSuit t i)) (nI (F + i)) 0 f_on f_firstLeader f_trumpSuit f_count a_holders a_begun a_played a_players a_waiting a_values a_leasts a_ways := by
        intro z
        unfold wY_winnerAt_85
        refine br_t rfl (nm_r (nI_1 _) ?_)
        have e := ih (i + 1) (by omega) (by omega)
        rw [og_bp_s, if_neg z] at e
        exact e
      refine br_f (by rw [e4]; exact nI_ge (by omega) (by omega)) (br_f (by rw [hC]; exact nI_ge (by omega) (by omega)) ⟨v3, og_n4, ?_⟩)
      rw [nI_clamp (n := F + i) (by omega), nI_clamp (n := F + og_bp f_trumpSuit t i) (by omega), ti.2, tb.2, og_d4 (by omega), og_d4 (by omega)]
      refine nm_e ⟨v2, og_n4, nm_e (pk_eq (t i / 4) (t (og_bp f_trumpSuit t i) / 4) (fun z => ⟨v3, v2, pk_le (t i) (t (og_bp f_trumpSuit t i)) (fun y => J0 (fun q => ?_)) (fun y => J1 ?_)⟩) (fun z => br_c (fun y => J1 ?_) (fun y => J0 ?_)))⟩
      · have := (b1 z).mp q; omega
      · exact (b1 z).mpr y
      · exact (b2 z).mpr y
      · exact fun q => y ((b2 z).mp q)
  have e := L (k - 1) 1 (by omega) (by omega)
  rw [og_bp_1, Nat.add_zero] at e
  exact nm_r (nI_1 F) ⟨_, e⟩
theorem oy_turn {post : Int32 → Prop} {n : Nat} {cs : List Nat} (R : og_RY f_trumpSuit o l cs f_count a_holders a_played a_players) (hf : f_firstLeader = nI l) (ok : og_ok f_trumpSuit o l cs) (H : og_I n (og_hO f_trumpSuit o l cs) (og_hL f_trumpSuit o l cs) (og_hT f_trumpSuit o l cs)) (h12 : cs.length + n ≤ 12) (h0 : n = 0 → post (-4)) (h1 : 0 < n → post (nI (og_mv (og_hL f_trumpSuit o l cs) (og_hT f_trumpSuit o l cs)))) : wpY_turn post (f_on, f_firstLeader, f_trumpSuit, f_count, a_holders, a_begun, a_played, a_players, a_waiting, a_values, a_leasts, a_ways) := by
  obtain ⟨r1, r2, r3⟩ := R
  obtain ⟨A, B⟩ := og_PY_t cs ok r3
  obtain ⟨l1, l2⟩ := og_hlen (tr := f_trumpSuit) (o := o) (l := l) cs
  have hc12 : f_count = 12 ↔ cs.length = 12 := by rw [r1, show (12 : Int32) = nI 12 from rfl, nI_eq (by omega) (by omega)]
  unfold wpY_turn
  dsimp only
  refine br_c (fun z => h0 (by have := hc12.mp z; omega)) (fun _ => ?_)
  refine oy_hand (p := 0) r2 H.1 (by omega) (oy_hand (p := 1) r2 H.1 (by omega) (oy_hand (p := 2) r2 H.1 (by omega) (oy_hand (p := 3) r2 H.1 (by omega) ?_)))
  have m0 := og_mf_lt (fun c => og_hO f_trumpSuit o l cs c == 0)
  have m1 := og_mf_lt (fun c => og_hO f_trumpSuit o l cs c == 1)
  have m2 := og_mf_lt (fun c => og_hO f_trumpSuit o l cs c == 2)
  have m3 := og_mf_lt (fun c => og_hO f_trumpSuit o l cs c == 3)
  rw [nI_add, nI_add, nI_add]
  by_cases hn : n = 0
  · subst hn
    have e := og_I_0 H
    have z : ∀ p, p < 4 → og_mf (fun c => og_hO f_trumpSuit o l cs c == p) = 0 := by
      intro p hp
      rw [og_mf_0]
      intro i hi
      rw [e.2 i]
      simp; omega
    rw [z 0 (by omega), z 1 (by omega), z 2 (by omega), z 3 (by omega)]
    exact br_t rfl (h0 rfl)
  · have g1 := h1 (by omega)
    obtain ⟨n, rfl⟩ : ∃ n', n = n' + 1 := ⟨n - 1, by omega⟩
    obtain ⟨c, c1, c2⟩ := og_I_ex H
    have hm := og_mv_lt (og_hL f_trumpSuit o l cs) (og_hT f_trumpSuit o l cs)
    have nz : ∀ p, og_hO f_trumpSuit o l cs c = p → og_mf (fun c => og_hO f_trumpSuit o l cs c == p) ≠ 0 := by
      intro p hp z
      have := og_mf_0.mp z c c1
      simp [hp] at this
    have q0 := nz 0
    have q1 := nz 1
    have q2 := nz 2
    have q3 := nz 3
    refine br_f (nI_ne0 ?_ (by omega)) ⟨og_n4, ?_⟩
    · rcases (by omega : og_hO f_trumpSuit o l cs c = 0 ∨ og_hO f_trumpSuit o l cs c = 1 ∨ og_hO f_trumpSuit o l cs c = 2 ∨ og_hO f_trumpSuit o l cs c = 3) with z | z | z | z
      · have := q0 z; omega
      · have := q1 z; omega
      · have := q2 z; omega
      · have := q3 z; omega
    · rw [r1, og_r4 (by omega)]
      by_cases z : (og_hT f_trumpSuit o l cs).length = 0
      · have e : cs.length % 4 = 0 := by omega
        rw [e]
        refine br_t (Int32.le_refl _) ?_
        have hmv : og_mv (og_hL f_trumpSuit o l cs) (og_hT f_trumpSuit o l cs) = og_hL f_trumpSuit o l cs := by
          unfold og_mv
          rw [z]
          exact Nat.mod_eq_of_lt H.2.2.1
        rw [hmv] at g1
        by_cases y : cs = []
        · subst y
          refine br_t rfl ?_
          rw [hf]
          exact g1
        · obtain ⟨w1, w2⟩ := og_last (tr := f_trumpSuit) (o := o) (l := l) cs y z
          have hl0 : 0 < cs.length := List.length_pos_iff.mpr y
          refine br_f (nI_ne0 (by omega) (by omega)) ?_
          have e4 : nI cs.length - 4 = nI (4 * ((og_hW f_trumpSuit o l cs).length - 1)) := by
            rw [show (4 : Int32) = nI 4 from rfl, pk_sub (by omega)]
            exact congrArg nI (by omega)
          obtain ⟨t, ld, t1, t2, t3⟩ := B ((og_hW f_trumpSuit o l cs).length - 1) (by omega)
          have hb := og_bp_le f_trumpSuit (og_at t) 4
          rw [e4]
          refine oy_win (k := 4) (C := cs.length) (t := og_at t) rfl (by omega) (by omega) (by omega) (by omega) (Or.inl rfl) (fun i hi => ⟨(t2 i hi).1, (t2 i hi).2.1⟩) ⟨vp_in_nI (by omega) (by decide), ?_⟩
          rw [nI_clamp (by omega), (t2 _ (by omega)).2.2]
          have ew : og_w f_trumpSuit ld t = (ld + og_bp f_trumpSuit (og_at t) 4) % 4 := by unfold og_w; rw [t1]
          rw [← ew, ← t3, w2]
          exact g1
      · refine br_f (nI_nle (by omega) (by omega)) ?_
        have e1 : nI cs.length - 1 = nI (4 * (og_hW f_trumpSuit o l cs).length + ((og_hT f_trumpSuit o l cs).length - 1)) := by
          rw [show (1 : Int32) = nI 1 from rfl, pk_sub (by omega)]
          exact congrArg nI (by omega)
        rw [e1]
        refine ⟨vp_in_nI (by omega) (by decide), og_n4, ?_⟩
        rw [nI_clamp (by omega), (A _ (by omega)).2.2, nI_1, og_r4 (by omega)]
        have e2 : ((og_hL f_trumpSuit o l cs + ((og_hT f_trumpSuit o l cs).length - 1)) % 4 + 1) % 4 = og_mv (og_hL f_trumpSuit o l cs) (og_hT f_trumpSuit o l cs) := by
          unfold og_mv
          omega
        rw [e2]
        exact g1
theorem og_lg_0 {ow : Nat → Nat} {ld : Nat} {tk : List Nat} (hz : tk.length = 0) : og_mf (fun c => ow c == og_mv ld tk) = og_mf (og_lg ow ld tk) := by
  apply og_mf_ext
  intro i hi
  unfold og_lg
  simp [hz]
theorem og_lg_1 {ow : Nat → Nat} {ld : Nat} {tk : List Nat} (hz : ¬ tk.length = 0) (hh : ∃ e, e < 12 ∧ ow e = og_mv ld tk ∧ e / 4 = og_at tk 0 / 4) : og_mf (fun i => (ow i == og_mv ld tk) && (i / 4 == og_at tk 0 / 4)) = og_mf (og_lg ow ld tk) := by
  apply og_mf_ext
  intro i hi
  apply og_beq
  rw [og_lg_iff, Bool.and_eq_true, beq_iff_eq, beq_iff_eq]
  constructor
  · rintro ⟨a, b⟩; exact ⟨a, Or.inr (Or.inr b)⟩
  · rintro ⟨a, b | b | b⟩
    · exact absurd b hz
    · exact absurd hh b
    · exact ⟨a, b⟩
theorem og_lg_2 {ow : Nat → Nat} {ld : Nat} {tk : List Nat} (hh : ¬ ∃ e, e < 12 ∧ ow e = og_mv ld tk ∧ e / 4 = og_at tk 0 / 4) : og_mf (fun c => ow c == og_mv ld tk) = og_mf (og_lg ow ld tk) := by
  apply og_mf_ext
  intro i hi
  apply og_beq
  rw [og_lg_iff, beq_iff_eq]
  constructor
  · intro a; exact ⟨a, Or.inr (Or.inl hh)⟩
  · rintro ⟨a, _⟩; exact a
theorem og_lg_3 {ow : Nat → Nat} {m s : Nat} : nI (og_mf (fun i => (ow i == m) && (i / 4 == s))) = 0 ↔ ¬ ∃ e, e < 12 ∧ ow e = m ∧ e / 4 = s := by
  rw [og_z]
  constructor
  · rintro z ⟨e, e1, e2, e3⟩
    have := z e e1
    simp [e2, e3] at this
  · intro hh i hi
    cases hc : (ow i == m) && (i / 4 == s)
    · rfl
    · rw [Bool.and_eq_true, beq_iff_eq, beq_iff_eq] at hc
      exact absurd ⟨i, hi, hc.1, hc.2⟩ hh
theorem oy_allow {post : Int32 → Prop} {n : Nat} {cs : List Nat} (R : og_RY f_trumpSuit o l cs f_count a_holders a_played a_players) (hf : f_firstLeader = nI l) (ok : og_ok f_trumpSuit o l cs) (H : og_I n (og_hO f_trumpSuit o l cs) (og_hL f_trumpSuit o l cs) (og_hT f_trumpSuit o l cs)) (h12 : cs.length + n ≤ 12) (h : post (nI (og_mf (og_lg (og_hO f_trumpSuit o l cs) (og_hL f_trumpSuit o l cs) (og_hT f_trumpSuit o l cs))))) : wpY_allowed post (f_on, f_firstLeader, f_trumpSuit, f_count, a_holders, a_begun, a_played, a_players, a_waiting, a_values, a_leasts, a_ways) := by
  have hm := og_mv_lt (og_hL f_trumpSuit o l cs) (og_hT f_trumpSuit o l cs)
  unfold wpY_allowed
  dsimp only
  refine oy_turn R hf ok H h12 (fun hn => ?_) (fun hn => ?_)
  · refine br_f (by decide) ?_
    subst hn
    have e := og_I_0 H
    have z : og_mf (og_lg (og_hO f_trumpSuit o l cs) (og_hL f_trumpSuit o l cs) (og_hT f_trumpSuit o l cs)) = 0 := by
      rw [og_mf_0]
      intro i hi
      cases hg : og_lg (og_hO f_trumpSuit o l cs) (og_hL f_trumpSuit o l cs) (og_hT f_trumpSuit o l cs) i
      · rfl
      · have := og_lg_ow hg
        rw [e.2 i] at this
        omega
    rw [z] at h
    exact h
  · obtain ⟨r1, r2, r3⟩ := R
    obtain ⟨A, B⟩ := og_PY_t cs ok r3
    obtain ⟨l1, l2⟩ := og_hlen (tr := f_trumpSuit) (o := o) (l := l) cs
    refine br_t (nI_pos' (by omega)) (oy_hand r2 H.1 hm ⟨og_n4, ?_⟩)
    rw [r1, og_r4 (by omega)]
    have e3 : nI cs.length - nI (cs.length % 4) = nI (4 * (og_hW f_trumpSuit o l cs).length) := by
      rw [pk_sub (by omega)]
      exact congrArg nI (by omega)
    refine nm_r e3 ⟨og_n4, ?_⟩
    have e5 : cs.length % 4 = (og_hT f_trumpSuit o l cs).length := by omega
    rw [e5]
    by_cases z : (og_hT f_trumpSuit o l cs).length = 0
    · refine br_t (by rw [z]; rfl) ?_
      unfold wY_allowed_57
      refine br_t rfl ?_
      rw [og_lg_0 z]
      exact h
    · have a0 := A 0 (by omega)
      rw [Nat.add_zero] at a0
      refine br_f (nI_ne0 (by omega) (by omega)) ⟨vp_in_nI (by omega) (by decide), og_n4, ?_⟩
      rw [nI_clamp (by omega), a0.2.1, og_d4 (by omega), og_su _ (by omega), og_aa]
      unfold wY_allowed_57
      by_cases hh : ∃ e, e < 12 ∧ og_hO f_trumpSuit o l cs e = og_mv (og_hL f_trumpSuit o l cs) (og_hT f_trumpSuit o l cs) ∧ e / 4 = og_at (og_hT f_trumpSuit o l cs) 0 / 4
      · refine br_f (fun q => og_lg_3.mp q hh) ?_
        rw [og_lg_1 z hh]
        exact h
      · refine br_t (og_lg_3.mpr hh) ?_
        rw [og_lg_2 hh]
        exact h
end
end
section
/-! Y: lay, takeBack, wonBy, enter, leave -/
theorem og_wc_t {s : Nat} {ws : List Nat} {j : Nat} (h : j < ws.length) : og_wc s (ws.take (j + 1)) = og_wc s (ws.take j) + if og_at ws j % 2 = s then 1 else 0 := by
  rw [List.take_succ_eq_append_getElem h, og_wc_a]
  have e : ws[j] = og_at ws j := by simp [og_at, List.getD_eq_getElem?_getD, h]
  rw [e]
def og_yi (k n : Nat) (W : Int) (mv : Nat) : Int := if n = 0 then (if k = 2 then 1 else W) else og_in k mv
section
variable {f_on f_firstLeader f_trumpSuit f_count : Int32} {a_holders a_begun a_played a_players a_waiting a_values a_leasts a_ways : Nat → Int32}
variable {o : Nat → Nat} {l : Nat} {tr : Int32}
theorem oy_lay {post : SY → Prop} {c : Nat} {cs : List Nat} (R : og_RY tr o l cs f_count a_holders a_played a_players) (hc : c < 12) (hl : og_lg (og_hO tr o l cs) (og_hL tr o l cs) (og_hT tr o l cs) c = true) (h12 : cs.length < 12) (K : ∀ (f_count_1 : Int32) (a_holders_1 a_played_1 a_players_1 : Nat → Int32), og_RY tr o l (c :: cs) f_count_1 a_holders_1 a_played_1 a_players_1 → post (f_on, f_firstLeader, f_trumpSuit, f_count_1, a_holders_1, a_begun, a_played_1, a_players_1, a_waiting, a_values, a_leasts, a_ways)) : wpY_lay post (f_on, f_firstLeader, f_trumpSuit, f_count, a_holders, a_begun, a_played, a_players, a_waiting, a_values, a_leasts, a_ways) (nI c) := by
  obtain ⟨r1, r2, r3⟩ := R
  have hv : vp_in f_count 12 := by rw [r1]; exact vp_in_nI (by omega) (by decide)
  have hq : f_count.toNatClampNeg = cs.length := by rw [r1]; exact nI_clamp (by omega)
  have hvc : vp_in (nI c) 12 := vp_in_nI hc (by decide)
  unfold wpY_lay
  dsimp only
  rw [hq, nI_clamp (n := c) (by omega)]
  refine ⟨hvc, hv, nm_e ⟨hv, nm_e ⟨hvc, nm_e (nm_r (e' := nI (cs.length + 1)) (by rw [r1, nI_1]) ?_)⟩⟩⟩
  apply K
  refine ⟨rfl, ?_, ⟨pk_us, ?_⟩, ?_⟩
  · intro e he
    rw [og_hO_c]
    unfold og_no
    by_cases z : e = c
    · rw [z, pk_us, if_pos rfl]; rfl
    · rw [pk_un z, if_neg z]; exact r2 e he
  · rw [pk_us, r2 c hc, og_lg_ow hl]
  · exact og_PY_fr cs (fun i hi => ⟨pk_un (by omega), pk_un (by omega)⟩) r3
theorem oy_back {post : SY → Prop} {c : Nat} {cs : List Nat} (R : og_RY tr o l (c :: cs) f_count a_holders a_played a_players) (hc : c < 12) (hl : og_lg (og_hO tr o l cs) (og_hL tr o l cs) (og_hT tr o l cs) c = true) (h12 : cs.length < 12) (K : ∀ a_holders_1, a_played cs.length = nI c → og_RY tr o l cs (nI cs.length) a_holders_1 a_played a_players → post (f_on, f_firstLeader, f_trumpSuit, nI cs.length, a_holders_1, a_begun, a_played, a_players, a_waiting, a_values, a_leasts, a_ways)) : wpY_takeBack post (f_on, f_firstLeader, f_trumpSuit, f_count, a_holders, a_begun, a_played, a_players, a_waiting, a_values, a_leasts, a_ways) := by
  obtain ⟨r1, r2, ⟨p1, p2⟩, r3⟩ := R
  have hv : vp_in (nI cs.length) 12 := vp_in_nI (by omega) (by decide)
  unfold wpY_takeBack
  dsimp only
  refine nm_r (e' := nI cs.length) (by rw [r1, List.length_cons]; exact nI_pred _) ?_
  rw [nI_clamp (n := cs.length) (by omega), p1, p2, nI_clamp (n := c) (by omega)]
  refine ⟨hv, hv, vp_in_nI hc (by decide), nm_e (K _ p1 ⟨rfl, ?_, r3⟩)⟩
  intro e he
  by_cases z : e = c
  · rw [z, pk_us, og_lg_ow hl]
  · rw [pk_un z, r2 e he, og_hO_c]
    unfold og_no
    rw [if_neg z]
theorem oy_won {post : Int32 → Prop} {s : Nat} {cs : List Nat} (R : og_RY f_trumpSuit o l cs f_count a_holders a_played a_players) (ok : og_ok f_trumpSuit o l cs) (h12 : cs.length ≤ 12) (hs : s < 2) (h : post (nI (og_wc s (og_hW f_trumpSuit o l cs)))) : wpY_wonBy post (f_on, f_firstLeader, f_trumpSuit, f_count, a_holders, a_begun, a_played, a_players, a_waiting, a_values, a_leasts, a_ways) (nI s) := by
  obtain ⟨r1, r2, r3⟩ := R
  obtain ⟨A, B⟩ := og_PY_t cs ok r3
  obtain ⟨l1, l2⟩ := og_hlen (tr := f_trumpSuit) (o := o) (l := l) cs
  unfold wpY_wonBy
  dsimp only
  have L : ∀ d j, j + d = (og_hW f_trumpSuit o l cs).length → wY_wonBy_4 post (nI s) f_on f_firstLeader f_trumpSuit f_count a_holders a_begun a_played a_players a_waiting a_values a_leasts a_ways (d + 1) (nI (og_wc s ((og_hW f_trumpSuit o l cs).take j))) (nI (4 * j)) := by
    intro d
    induction d with
    | zero =>
      intro j hj
      obtain rfl : j = (og_hW f_trumpSuit o l cs).length := by omega
      refine br_t ?_ ?_
      · rw [r1]
        have e : nI (4 * (og_hW f_trumpSuit o l cs).length) + 4 = nI (4 * (og_hW f_trumpSuit o l cs).length + 4) := nI_add _ 4
        rw [e]
        exact nI_lt (by omega) (by omega)
      · rw [List.take_length]
        exact h
    | succ d ih =>
      intro j hj
      have e4 : nI (4 * j) + 4 = nI (4 * j + 4) := nI_add _ 4
      obtain ⟨t, ld, t1, t2, t3⟩ := B j (by omega)
      have hb := og_bp_le f_trumpSuit (og_at t) 4
      have ew : og_w f_trumpSuit ld t = (ld + og_bp f_trumpSuit (og_at t) 4) % 4 := by unfold og_w; rw [t1]
      have hw := og_w_lt f_trumpSuit ld t
      refine br_f (by rw [r1, e4]; exact nI_nlt (by omega) (by omega)) ?_
      refine oy_win (k := 4) (C := cs.length) (t := og_at t) r1 (by omega) (by omega) (by omega) (by omega) (Or.inl rfl) (fun i hi => ⟨(t2 i hi).1, (t2 i hi).2.1⟩) ⟨vp_in_nI (by omega) (by decide), og_n2, ?_⟩
      rw [nI_clamp (n := 4 * j + og_bp f_trumpSuit (og_at t) 4) (by omega), (t2 _ (by omega)).2.2, ← ew, og_r2 (by omega), e4]
      have r := ih (j + 1) (by omega)
      rw [og_wc_t (by omega), t3, Nat.mul_add] at r
      refine pk_eq (og_w f_trumpSuit ld t % 2) s (fun z => nm_r (nI_1 _) (nm_e ?_)) (fun z => nm_e ?_)
      · rw [if_pos z] at r
        exact r
      · rw [if_neg z] at r
        exact r
  exact ⟨_, L (og_hW f_trumpSuit o l cs).length 0 (by omega)⟩
theorem oy_enter {post : SY → Prop} {n d : Nat} {cs : List Nat} (R : og_RY f_trumpSuit o l cs f_count a_holders a_played a_players) (hf : f_firstLeader = nI l) (ok : og_ok f_trumpSuit o l cs) (H : og_I n (og_hO f_trumpSuit o l cs) (og_hL f_trumpSuit o l cs) (og_hT f_trumpSuit o l cs)) (h12 : cs.length + n ≤ 12) (hd : d < 13)
    (K : post (f_on, f_firstLeader, f_trumpSuit, f_count, a_holders, a_begun, a_played, a_players, upd a_waiting d (nI (og_mk (og_fl (og_lg (og_hO f_trumpSuit o l cs) (og_hL f_trumpSuit o l cs) (og_hT f_trumpSuit o l cs))))), upd a_values d (iI (og_yi 0 n (og_wc 0 (og_hW f_trumpSuit o l cs)) (og_mv (og_hL f_trumpSuit o l cs) (og_hT f_trumpSuit o l cs)))), upd a_leasts d (iI (og_yi 1 n (og_wc 0 (og_hW f_trumpSuit o l cs)) (og_mv (og_hL f_trumpSuit o l cs) (og_hT f_trumpSuit o l cs)))), upd a_ways d (iI (og_yi 2 n (og_wc 0 (og_hW f_trumpSuit o l cs)) (og_mv (og_hL f_trumpSuit o l cs) (og_hT f_trumpSuit o l cs)))))) : wpY_enter post (f_on, f_firstLeader, f_trumpSuit, f_count, a_holders, a_begun, a_played, a_players, a_waiting, a_values, a_leasts, a_ways) (nI d) := by
  have hm := og_mv_lt (og_hL f_trumpSuit o l cs) (og_hT f_trumpSuit o l cs)
  have hv : vp_in (nI d) 13 := vp_in_nI hd (by decide)
  unfold wpY_enter
  dsimp only
  refine oy_allow R hf ok H h12 ⟨hv, nm_e ⟨hv, ?_⟩⟩
  rw [nI_clamp (n := d) (by omega), pk_us]
  by_cases hn : n = 0
  · have e0 : og_yi 0 n (og_wc 0 (og_hW f_trumpSuit o l cs)) (og_mv (og_hL f_trumpSuit o l cs) (og_hT f_trumpSuit o l cs)) = og_wc 0 (og_hW f_trumpSuit o l cs) := by unfold og_yi; rw [if_pos hn, if_neg (by decide)]
    have e1 : og_yi 1 n (og_wc 0 (og_hW f_trumpSuit o l cs)) (og_mv (og_hL f_trumpSuit o l cs) (og_hT f_trumpSuit o l cs)) = og_wc 0 (og_hW f_trumpSuit o l cs) := by unfold og_yi; rw [if_pos hn, if_neg (by decide)]
    have e2 : og_yi 2 n (og_wc 0 (og_hW f_trumpSuit o l cs)) (og_mv (og_hL f_trumpSuit o l cs) (og_hT f_trumpSuit o l cs)) = 1 := by unfold og_yi; rw [if_pos hn, if_pos rfl]
    rw [e0, e1, e2, iI_nI, iI_1] at K
    refine br_t ?_ ?_
    · rw [og_z]
      intro i hi
      cases hg : og_lg (og_hO f_trumpSuit o l cs) (og_hL f_trumpSuit o l cs) (og_hT f_trumpSuit o l cs) i
      · rfl
      · have := og_I_pos H hi (og_lg_ow hg)
        omega
    · unfold wY_enter_24
      refine oy_won (s := 0) R ok (by omega) (by omega) (oy_turn R hf ok H h12 (fun _ => ⟨og_n2, br_t (by decide) ?_⟩) (fun q => absurd q (by omega)))
      unfold wY_enter_45
      refine br_f (by decide) ?_
      unfold wY_enter_71
      refine ⟨hv, nm_e (br_f (by decide) ?_)⟩
      unfold wY_enter_87
      refine ⟨hv, nm_e (br_f (by decide) ⟨hv, nm_e ?_⟩)⟩
      rw [nI_clamp (n := d) (by omega)]
      exact K
  · have e0 : og_yi 0 n (og_wc 0 (og_hW f_trumpSuit o l cs)) (og_mv (og_hL f_trumpSuit o l cs) (og_hT f_trumpSuit o l cs)) = og_in 0 (og_mv (og_hL f_trumpSuit o l cs) (og_hT f_trumpSuit o l cs)) := by unfold og_yi; rw [if_neg hn]
    have e1 : og_yi 1 n (og_wc 0 (og_hW f_trumpSuit o l cs)) (og_mv (og_hL f_trumpSuit o l cs) (og_hT f_trumpSuit o l cs)) = 100 := by unfold og_yi og_in; rw [if_neg hn, if_neg (by decide), if_neg (by omega)]
    have e2 : og_yi 2 n (og_wc 0 (og_hW f_trumpSuit o l cs)) (og_mv (og_hL f_trumpSuit o l cs) (og_hT f_trumpSuit o l cs)) = 0 := by unfold og_yi og_in; rw [if_neg hn, if_pos rfl]
    rw [e0, e1, e2, iI_100, iI_0] at K
    obtain ⟨n, rfl⟩ : ∃ n', n = n' + 1 := ⟨n - 1, by omega⟩
    obtain ⟨c, c1, c2⟩ := og_I_lg H
    refine br_f (fun z => ?_) ?_
    · have := og_z.mp z c c1
      rw [this] at c2
      exact absurd c2 (by decide)
    · unfold wY_enter_24
      refine oy_won (s := 0) R ok (by omega) (by omega) (oy_turn R hf ok H h12 (fun q => absurd q (by omega)) (fun _ => ⟨og_n2, ?_⟩))
      rw [og_r2 (by omega)]
      rcases Nat.mod_two_eq_zero_or_one (og_mv (og_hL f_trumpSuit o l cs) (og_hT f_trumpSuit o l cs)) with y | y
      · have ei : og_in 0 (og_mv (og_hL f_trumpSuit o l cs) (og_hT f_trumpSuit o l cs)) = -1 := by unfold og_in; rw [if_neg (by decide), if_pos ⟨rfl, y⟩]
        rw [ei, iI_m1] at K
        rw [y]
        refine br_t rfl ?_
        unfold wY_enter_45
        refine br_t rfl (br_f (by decide) ?_)
        unfold wY_enter_71
        refine ⟨hv, nm_e (br_t rfl ?_)⟩
        unfold wY_enter_87
        refine ⟨hv, nm_e (br_t rfl ⟨hv, nm_e ?_⟩)⟩
        rw [nI_clamp (n := d) (by omega)]
        exact K
      · have ei : og_in 0 (og_mv (og_hL f_trumpSuit o l cs) (og_hT f_trumpSuit o l cs)) = 100 := by unfold og_in; rw [if_neg (by decide), if_neg (by omega)]
        rw [ei, iI_100] at K
        rw [y]
        refine br_f (by decide) ?_
        unfold wY_enter_45
        refine br_t rfl (br_t rfl ?_)
        unfold wY_enter_71
        refine ⟨hv, nm_e (br_t rfl ?_)⟩
        unfold wY_enter_87
        refine ⟨hv, nm_e (br_t rfl ⟨hv, nm_e ?_⟩)⟩
        rw [nI_clamp (n := d) (by omega)]
        exact K
theorem oy_leave95 {post : SY → Prop} {d : Nat} {a1 v1 a2 v2 : Int} {z0 : Int32} {mv : Nat} (hd : d + 1 < 13) (ha1 : a_leasts d = iI a1) (hv1 : a_leasts (d + 1) = iI v1) (ha2 : a_ways d = iI a2) (hv2 : a_ways (d + 1) = iI v2) (b1 : -1 ≤ a1 ∧ a1 ≤ 1000) (b2 : -1 ≤ v1 ∧ v1 ≤ 1000) (K : post (f_on, f_firstLeader, f_trumpSuit, f_count, a_holders, a_begun, a_played, a_players, a_waiting, upd a_values d z0, upd a_leasts d (iI (og_cb 1 mv a1 v1)), upd a_ways d (iI (og_cb 2 mv a2 v2)))) : wY_leave_95 post (nI (d + 1)) z0 (nI d) f_on f_firstLeader f_trumpSuit f_count a_holders a_begun a_played a_players a_waiting a_values a_leasts a_ways := by
  have w1 : vp_in (nI (d + 1)) 13 := vp_in_nI hd (by decide)
  have w0 : vp_in (nI d) 13 := vp_in_nI (by omega) (by decide)
  have e1 : og_cb 1 mv a1 v1 = if v1 < a1 then v1 else a1 := by unfold og_cb; rw [if_neg (by decide), if_neg (by omega)]
  have e2 : og_cb 2 mv a2 v2 = a2 + v2 := by unfold og_cb; rw [if_pos rfl]
  rw [e1, e2, iI_add] at K
  have F : ∀ x : Int32, x = iI (if v1 < a1 then v1 else a1) → wY_leave_137 post (nI (d + 1)) x (nI d) f_on f_firstLeader f_trumpSuit f_count a_holders a_begun a_played a_players a_waiting (upd a_values d z0) a_leasts a_ways := by
    intro x ex
    subst ex
    unfold wY_leave_137
    rw [nI_pred, nI_clamp (n := d) (by omega), nI_clamp (n := d + 1) (by omega), ha2, hv2]
    exact ⟨w0, nm_e ⟨w0, w1, w0, nm_e K⟩⟩
  unfold wY_leave_95
  rw [nI_pred, nI_clamp (n := d) (by omega), nI_clamp (n := d + 1) (by omega), ha1, hv1]
  refine ⟨w0, nm_e ⟨w1, w0, br_c (fun z => ⟨w0, F _ ?_⟩) (fun z => ⟨w1, F _ ?_⟩)⟩⟩
  · rw [iI_le (by omega) (by omega) (by omega) (by omega)] at z
    rw [if_neg (by omega)]
  · rw [iI_le (by omega) (by omega) (by omega) (by omega)] at z
    rw [if_pos (by omega)]
theorem oy_leave {post : SY → Prop} {n d : Nat} {cs : List Nat} {a0 v0 a1 v1 a2 v2 : Int} (R : og_RY f_trumpSuit o l cs f_count a_holders a_played a_players) (hf : f_firstLeader = nI l) (ok : og_ok f_trumpSuit o l cs) (H : og_I (n + 1) (og_hO f_trumpSuit o l cs) (og_hL f_trumpSuit o l cs) (og_hT f_trumpSuit o l cs)) (h12 : cs.length + (n + 1) ≤ 12) (hd : d + 1 < 13)
    (ha0 : a_values d = iI a0) (hv0 : a_values (d + 1) = iI v0) (ha1 : a_leasts d = iI a1) (hv1 : a_leasts (d + 1) = iI v1) (ha2 : a_ways d = iI a2) (hv2 : a_ways (d + 1) = iI v2) (c1 : -1 ≤ a0 ∧ a0 ≤ 1000) (c2 : -1 ≤ v0 ∧ v0 ≤ 1000) (b1 : -1 ≤ a1 ∧ a1 ≤ 1000) (b2 : -1 ≤ v1 ∧ v1 ≤ 1000)
    (K : post (f_on, f_firstLeader, f_trumpSuit, f_count, a_holders, a_begun, a_played, a_players, a_waiting, upd a_values d (iI (og_cb 0 (og_mv (og_hL f_trumpSuit o l cs) (og_hT f_trumpSuit o l cs)) a0 v0)), upd a_leasts d (iI (og_cb 1 (og_mv (og_hL f_trumpSuit o l cs) (og_hT f_trumpSuit o l cs)) a1 v1)), upd a_ways d (iI (og_cb 2 (og_mv (og_hL f_trumpSuit o l cs) (og_hT f_trumpSuit o l cs)) a2 v2)))) : wpY_leave post (f_on, f_firstLeader, f_trumpSuit, f_count, a_holders, a_begun, a_played, a_players, a_waiting, a_values, a_leasts, a_ways) (nI (d + 1)) := by
  have hm := og_mv_lt (og_hL f_trumpSuit o l cs) (og_hT f_trumpSuit o l cs)
  have w1 : vp_in (nI (d + 1)) 13 := vp_in_nI hd (by decide)
  have w0 : vp_in (nI d) 13 := vp_in_nI (by omega) (by decide)
  have F1 : og_cb 0 (og_mv (og_hL f_trumpSuit o l cs) (og_hT f_trumpSuit o l cs)) a0 v0 = v0 → wY_leave_66 post (nI (d + 1)) 1 f_on f_firstLeader f_trumpSuit f_count a_holders a_begun a_played a_players a_waiting a_values a_leasts a_ways := by
    intro e
    rw [e] at K
    unfold wY_leave_66
    rw [nI_pred, nI_clamp (n := d) (by omega), nI_clamp (n := d + 1) (by omega), ha0, hv0]
    exact br_f (by decide) ⟨w1, oy_leave95 hd ha1 hv1 ha2 hv2 b1 b2 K⟩
  have F0 : og_cb 0 (og_mv (og_hL f_trumpSuit o l cs) (og_hT f_trumpSuit o l cs)) a0 v0 = a0 → wY_leave_66 post (nI (d + 1)) 0 f_on f_firstLeader f_trumpSuit f_count a_holders a_begun a_played a_players a_waiting a_values a_leasts a_ways := by
    intro e
    rw [e] at K
    unfold wY_leave_66
    rw [nI_pred, nI_clamp (n := d) (by omega), nI_clamp (n := d + 1) (by omega), ha0, hv0]
    exact br_t rfl ⟨w0, oy_leave95 hd ha1 hv1 ha2 hv2 b1 b2 K⟩
  unfold wpY_leave
  dsimp only
  refine oy_turn R hf ok H h12 (fun q => absurd q (by omega)) (fun _ => ⟨og_n2, ?_⟩)
  rw [og_r2 (by omega)]
  rcases Nat.mod_two_eq_zero_or_one (og_mv (og_hL f_trumpSuit o l cs) (og_hT f_trumpSuit o l cs)) with y | y
  · rw [y]
    have e0 : og_cb 0 (og_mv (og_hL f_trumpSuit o l cs) (og_hT f_trumpSuit o l cs)) a0 v0 = if a0 < v0 then v0 else a0 := by unfold og_cb; rw [if_neg (by decide), if_pos ⟨rfl, y⟩]
    refine br_t rfl ?_
    unfold wY_leave_14
    rw [nI_pred, nI_clamp (n := d) (by omega), nI_clamp (n := d + 1) (by omega), ha0, hv0]
    refine br_f (by decide) ⟨w1, w0, br_c (fun z => F0 ?_) (fun z => F1 ?_)⟩
    · rw [iI_le (by omega) (by omega) (by omega) (by omega)] at z
      rw [e0, if_neg (by omega)]
    · rw [iI_le (by omega) (by omega) (by omega) (by omega)] at z
      rw [e0, if_pos (by omega)]
  · rw [y]
    have e0 : og_cb 0 (og_mv (og_hL f_trumpSuit o l cs) (og_hT f_trumpSuit o l cs)) a0 v0 = if v0 < a0 then v0 else a0 := by unfold og_cb; rw [if_neg (by decide), if_neg (by omega)]
    refine br_f (by decide) ?_
    unfold wY_leave_14
    rw [nI_pred, nI_clamp (n := d) (by omega), nI_clamp (n := d + 1) (by omega), ha0, hv0]
    refine br_t rfl ⟨w1, w0, br_c (fun z => F0 ?_) (fun z => F1 ?_)⟩
    · rw [iI_le (by omega) (by omega) (by omega) (by omega)] at z
      rw [e0, if_neg (by omega)]
    · rw [iI_le (by omega) (by omega) (by omega) (by omega)] at z
      rw [e0, if_pos (by omega)]
end
end
section
/-! Y: the search -/
def oy_SR (post : SY → Prop) (f_on f_firstLeader f_trumpSuit : Int32) (a_begun : Nat → Int32) (o : Nat → Nat) (l : Nat) (n : Nat) : Prop :=
  ∀ (L : List Nat) (cs : List Nat) (d m F : Nat) (a0 a1 a2 : Int) (f_count : Int32) (a_holders a_played a_players : Nat → Int32) (a_waiting a_values a_leasts a_ways : Nat → Int32),
  L.Pairwise (· < ·) → (∀ c ∈ L, c < 12 ∧ og_lg (og_hO f_trumpSuit o l cs) (og_hL f_trumpSuit o l cs) (og_hT f_trumpSuit o l cs) c = true) →
  og_ok f_trumpSuit o l cs → og_I (n + 1) (og_hO f_trumpSuit o l cs) (og_hL f_trumpSuit o l cs) (og_hT f_trumpSuit o l cs) → cs.length + (n + 1) ≤ 12 → d + (n + 1) ≤ 12 →
  og_RY f_trumpSuit o l cs f_count a_holders a_played a_players →
  a_waiting d = nI (og_mk L) → a_values d = iI a0 → a_leasts d = iI a1 → a_ways d = iI a2 →
  (-1 ≤ a0 ∧ a0 ≤ 1000) → (-1 ≤ a1 ∧ a1 ≤ 1000) → F + L.length * (2 + og_R n) ≤ m →
  (∀ (m' : Nat) (f_count_1 : Int32) (a_holders_1 a_played_1 a_players_1 : Nat → Int32) (a_waiting_1 a_values_1 a_leasts_1 a_ways_1 : Nat → Int32), F ≤ m' → og_RY f_trumpSuit o l cs f_count_1 a_holders_1 a_played_1 a_players_1 →
    (∀ j, j < d → a_waiting_1 j = a_waiting j ∧ a_values_1 j = a_values j ∧ a_leasts_1 j = a_leasts j ∧ a_ways_1 j = a_ways j) →
    a_waiting_1 d = 0 →
    a_values_1 d = iI (og_fd 0 (og_mv (og_hL f_trumpSuit o l cs) (og_hT f_trumpSuit o l cs)) (fun c => (og_wc 0 (og_hW f_trumpSuit o l cs) : Int) + og_U 0 f_trumpSuit n (og_hO f_trumpSuit o l cs) (og_hL f_trumpSuit o l cs) (og_hT f_trumpSuit o l cs) c) L a0) →
    a_leasts_1 d = iI (og_fd 1 (og_mv (og_hL f_trumpSuit o l cs) (og_hT f_trumpSuit o l cs)) (fun c => (og_wc 0 (og_hW f_trumpSuit o l cs) : Int) + og_U 1 f_trumpSuit n (og_hO f_trumpSuit o l cs) (og_hL f_trumpSuit o l cs) (og_hT f_trumpSuit o l cs) c) L a1) →
    a_ways_1 d = iI (og_fd 2 (og_mv (og_hL f_trumpSuit o l cs) (og_hT f_trumpSuit o l cs)) (og_U 2 f_trumpSuit n (og_hO f_trumpSuit o l cs) (og_hL f_trumpSuit o l cs) (og_hT f_trumpSuit o l cs)) L a2) →
    wY_search_7 post m' (nI d) f_on f_firstLeader f_trumpSuit f_count_1 a_holders_1 a_begun a_played_1 a_players_1 a_waiting_1 a_values_1 a_leasts_1 a_ways_1) →
  wY_search_7 post m (nI d) f_on f_firstLeader f_trumpSuit f_count a_holders a_begun a_played a_players a_waiting a_values a_leasts a_ways
/-- what a depth holds in the end -/
def oy_Fin (tr : Int32) (o : Nat → Nat) (l : Nat) (cs : List Nat) (n d : Nat) (a_values a_leasts a_ways : Nat → Int32) : Prop :=
  a_values d = iI ((og_wc 0 (og_hW tr o l cs) : Int) + og_V 0 tr n (og_hO tr o l cs) (og_hL tr o l cs) (og_hT tr o l cs)) ∧ a_leasts d = iI ((og_wc 0 (og_hW tr o l cs) : Int) + og_V 1 tr n (og_hO tr o l cs) (og_hL tr o l cs) (og_hT tr o l cs)) ∧ a_ways d = iI (og_V 2 tr n (og_hO tr o l cs) (og_hL tr o l cs) (og_hT tr o l cs))
theorem og_wc_b {tr : Int32} {o : Nat → Nat} {l : Nat} {cs : List Nat} (h : cs.length ≤ 12) : (0 : Int) ≤ (og_wc 0 (og_hW tr o l cs) : Int) ∧ (og_wc 0 (og_hW tr o l cs) : Int) ≤ 3 := by
  have a := og_wc_le 0 (og_hW tr o l cs)
  have b := (og_hlen (tr := tr) (o := o) (l := l) cs).2
  omega
section
variable {post : SY → Prop} {f_on f_firstLeader f_trumpSuit : Int32} {a_begun : Nat → Int32} {o : Nat → Nat} {l : Nat}
theorem oy_visit (n : Nat) (IH : ∀ n', n = n' + 1 → oy_SR post f_on f_firstLeader f_trumpSuit a_begun o l n') (cs : List Nat) (d m F : Nat) (f_count : Int32) (a_holders a_played a_players : Nat → Int32) (a_waiting a_values a_leasts a_ways : Nat → Int32)
    (ok : og_ok f_trumpSuit o l cs) (H : og_I n (og_hO f_trumpSuit o l cs) (og_hL f_trumpSuit o l cs) (og_hT f_trumpSuit o l cs)) (h12 : cs.length + n ≤ 12) (hd : d + n ≤ 12)
    (R : og_RY f_trumpSuit o l cs f_count a_holders a_played a_players)
    (ew : a_waiting d = nI (og_mk (og_fl (og_lg (og_hO f_trumpSuit o l cs) (og_hL f_trumpSuit o l cs) (og_hT f_trumpSuit o l cs)))))
    (e0 : a_values d = iI (og_yi 0 n (og_wc 0 (og_hW f_trumpSuit o l cs)) (og_mv (og_hL f_trumpSuit o l cs) (og_hT f_trumpSuit o l cs))))
    (e1 : a_leasts d = iI (og_yi 1 n (og_wc 0 (og_hW f_trumpSuit o l cs)) (og_mv (og_hL f_trumpSuit o l cs) (og_hT f_trumpSuit o l cs))))
    (e2 : a_ways d = iI (og_yi 2 n (og_wc 0 (og_hW f_trumpSuit o l cs)) (og_mv (og_hL f_trumpSuit o l cs) (og_hT f_trumpSuit o l cs))))
    (hm : F + og_R n ≤ m)
    (K : ∀ (m' : Nat) (f_count_1 : Int32) (a_holders_1 a_played_1 a_players_1 : Nat → Int32) (a_waiting_1 a_values_1 a_leasts_1 a_ways_1 : Nat → Int32), F ≤ m' → og_RY f_trumpSuit o l cs f_count_1 a_holders_1 a_played_1 a_players_1 →
      (∀ j, j < d → a_waiting_1 j = a_waiting j ∧ a_values_1 j = a_values j ∧ a_leasts_1 j = a_leasts j ∧ a_ways_1 j = a_ways j) →
      a_waiting_1 d = 0 → oy_Fin f_trumpSuit o l cs n d a_values_1 a_leasts_1 a_ways_1 → wY_search_7 post m' (nI d) f_on f_firstLeader f_trumpSuit f_count_1 a_holders_1 a_begun a_played_1 a_players_1 a_waiting_1 a_values_1 a_leasts_1 a_ways_1) :
    wY_search_7 post m (nI d) f_on f_firstLeader f_trumpSuit f_count a_holders a_begun a_played a_players a_waiting a_values a_leasts a_ways := by
  by_cases hn : n = 0
  · subst hn
    refine K m f_count a_holders a_played a_players a_waiting a_values a_leasts a_ways (by omega) R (fun j _ => ⟨rfl, rfl, rfl, rfl⟩) ?_ ⟨?_, ?_, ?_⟩
    · rw [ew]
      have z : og_fl (og_lg (og_hO f_trumpSuit o l cs) (og_hL f_trumpSuit o l cs) (og_hT f_trumpSuit o l cs)) = [] := by
        rw [og_fl_nil]
        intro i hi
        cases hg : og_lg (og_hO f_trumpSuit o l cs) (og_hL f_trumpSuit o l cs) (og_hT f_trumpSuit o l cs) i
        · rfl
        · have := og_I_pos H hi (og_lg_ow hg)
          omega
      rw [z]
      rfl
    · rw [e0, og_V_0]
      unfold og_yi
      rw [if_pos rfl, if_neg (by decide), if_neg (by decide), Int.add_zero]
    · rw [e1, og_V_0]
      unfold og_yi
      rw [if_pos rfl, if_neg (by decide), if_neg (by decide), Int.add_zero]
    · rw [e2, og_V_0]
      unfold og_yi
      rw [if_pos rfl, if_pos rfl, if_pos rfl]
  · obtain ⟨n, rfl⟩ : ∃ n', n = n' + 1 := ⟨n - 1, by omega⟩
    have y : ∀ k, og_yi k (n + 1) (og_wc 0 (og_hW f_trumpSuit o l cs)) (og_mv (og_hL f_trumpSuit o l cs) (og_hT f_trumpSuit o l cs)) = og_in k (og_mv (og_hL f_trumpSuit o l cs) (og_hT f_trumpSuit o l cs)) := by
      intro k
      unfold og_yi
      rw [if_neg (by omega)]
    rw [y] at e0 e1 e2
    have i0 := og_in_b 0 (og_mv (og_hL f_trumpSuit o l cs) (og_hT f_trumpSuit o l cs))
    have i1 := og_in_b 1 (og_mv (og_hL f_trumpSuit o l cs) (og_hT f_trumpSuit o l cs))
    have hle := og_I_len H
    have hle2 : (og_fl (og_lg (og_hO f_trumpSuit o l cs) (og_hL f_trumpSuit o l cs) (og_hT f_trumpSuit o l cs))).length * (2 + og_R n) ≤ og_R (n + 1) := Nat.mul_le_mul_right _ hle
    have hW := og_wc_b (tr := f_trumpSuit) (o := o) (l := l) (cs := cs) (by omega)
    refine IH n rfl _ cs d m F _ _ _ f_count a_holders a_played a_players a_waiting a_values a_leasts a_ways (og_fl_asc _) (fun c hc => og_fl_m.mp hc) ok H h12 hd R ew e0 e1 e2 (by omega) (by omega) (by omega) ?_
    intro m' f_count_1 a_holders_1 a_played_1 a_players_1 a_waiting_1 a_values_1 a_leasts_1 a_ways_1 hm' R1 B1 w1 v1 l1 y1
    refine K m' f_count_1 a_holders_1 a_played_1 a_players_1 a_waiting_1 a_values_1 a_leasts_1 a_ways_1 hm' R1 B1 w1 ⟨?_, ?_, ?_⟩
    · rw [v1, og_fd_off (by decide) _ (og_I_ne H) (by omega) (fun c hc => by have := og_U_b1 (k := 0) (by decide) (tr := f_trumpSuit) H (og_fl_m.mp hc).1 (og_fl_m.mp hc).2; omega), og_V_s]
    · rw [l1, og_fd_off (by decide) _ (og_I_ne H) (by omega) (fun c hc => by have := og_U_b1 (k := 1) (by decide) (tr := f_trumpSuit) H (og_fl_m.mp hc).1 (og_fl_m.mp hc).2; omega), og_V_s]
    · rw [y1, og_V_s]
end
section
variable {f_on f_firstLeader f_trumpSuit f_count : Int32} {a_holders a_begun a_played a_players a_waiting a_values a_leasts a_ways : Nat → Int32}
variable {o : Nat → Nat} {l : Nat}
theorem oy_lv {post : SY → Prop} {n d m : Nat} {a0 a1 a2 : Int} {c : Nat} {cs : List Nat} (hf : f_firstLeader = nI l) (R : og_RY f_trumpSuit o l (c :: cs) f_count a_holders a_played a_players) (ok : og_ok f_trumpSuit o l cs) (H : og_I (n + 1) (og_hO f_trumpSuit o l cs) (og_hL f_trumpSuit o l cs) (og_hT f_trumpSuit o l cs)) (hc : c < 12) (hl : og_lg (og_hO f_trumpSuit o l cs) (og_hL f_trumpSuit o l cs) (og_hT f_trumpSuit o l cs) c = true) (h12 : cs.length + (n + 1) ≤ 12) (hd : d + 1 < 13)
    (w0 : a_waiting (d + 1) = 0) (FN : oy_Fin f_trumpSuit o l (c :: cs) n (d + 1) a_values a_leasts a_ways)
    (e0 : a_values d = iI a0) (e1 : a_leasts d = iI a1) (e2 : a_ways d = iI a2) (b0 : -1 ≤ a0 ∧ a0 ≤ 1000) (b1 : -1 ≤ a1 ∧ a1 ≤ 1000)
    (K : ∀ (a_holders_1 : Nat → Int32), og_RY f_trumpSuit o l cs (nI cs.length) a_holders_1 a_played a_players → wY_search_7 post m (nI d) f_on f_firstLeader f_trumpSuit (nI cs.length) a_holders_1 a_begun a_played a_players a_waiting (upd a_values d (iI (og_cb 0 (og_mv (og_hL f_trumpSuit o l cs) (og_hT f_trumpSuit o l cs)) a0 ((og_wc 0 (og_hW f_trumpSuit o l cs) : Int) + og_U 0 f_trumpSuit n (og_hO f_trumpSuit o l cs) (og_hL f_trumpSuit o l cs) (og_hT f_trumpSuit o l cs) c)))) (upd a_leasts d (iI (og_cb 1 (og_mv (og_hL f_trumpSuit o l cs) (og_hT f_trumpSuit o l cs)) a1 ((og_wc 0 (og_hW f_trumpSuit o l cs) : Int) + og_U 1 f_trumpSuit n (og_hO f_trumpSuit o l cs) (og_hL f_trumpSuit o l cs) (og_hT f_trumpSuit o l cs) c)))) (upd a_ways d (iI (og_cb 2 (og_mv (og_hL f_trumpSuit o l cs) (og_hT f_trumpSuit o l cs)) a2 (og_U 2 f_trumpSuit n (og_hO f_trumpSuit o l cs) (og_hL f_trumpSuit o l cs) (og_hT f_trumpSuit o l cs) c))))) :
    wY_search_7 post (m + 1) (nI (d + 1)) f_on f_firstLeader f_trumpSuit f_count a_holders a_begun a_played a_players a_waiting a_values a_leasts a_ways := by
  obtain ⟨n0, n1, n2⟩ := FN
  have g0 := og_wc_g (k := 0) (tr := f_trumpSuit) (o := o) (l := l) (by decide) c cs
  have g1 := og_wc_g (k := 1) (tr := f_trumpSuit) (o := o) (l := l) (by decide) c cs
  have q0 : (og_wc 0 (og_hW f_trumpSuit o l (c :: cs)) : Int) + og_V 0 f_trumpSuit n (og_hO f_trumpSuit o l (c :: cs)) (og_hL f_trumpSuit o l (c :: cs)) (og_hT f_trumpSuit o l (c :: cs)) = (og_wc 0 (og_hW f_trumpSuit o l cs) : Int) + og_U 0 f_trumpSuit n (og_hO f_trumpSuit o l cs) (og_hL f_trumpSuit o l cs) (og_hT f_trumpSuit o l cs) c := by
    rw [g0, og_hO_c, og_hL_c, og_hT_c]; unfold og_U; omega
  have q1 : (og_wc 0 (og_hW f_trumpSuit o l (c :: cs)) : Int) + og_V 1 f_trumpSuit n (og_hO f_trumpSuit o l (c :: cs)) (og_hL f_trumpSuit o l (c :: cs)) (og_hT f_trumpSuit o l (c :: cs)) = (og_wc 0 (og_hW f_trumpSuit o l cs) : Int) + og_U 1 f_trumpSuit n (og_hO f_trumpSuit o l cs) (og_hL f_trumpSuit o l cs) (og_hT f_trumpSuit o l cs) c := by
    rw [g1, og_hO_c, og_hL_c, og_hT_c]; unfold og_U; omega
  have q2 : og_V 2 f_trumpSuit n (og_hO f_trumpSuit o l (c :: cs)) (og_hL f_trumpSuit o l (c :: cs)) (og_hT f_trumpSuit o l (c :: cs)) = og_U 2 f_trumpSuit n (og_hO f_trumpSuit o l cs) (og_hL f_trumpSuit o l cs) (og_hT f_trumpSuit o l cs) c := by
    rw [og_hO_c, og_hL_c, og_hT_c]; unfold og_U
    have : og_gn 2 f_trumpSuit (og_hL f_trumpSuit o l cs) (og_hT f_trumpSuit o l cs) c = 0 := if_pos rfl
    omega
  rw [q0] at n0
  rw [q1] at n1
  rw [q2] at n2
  have u0 := og_U_b1 (k := 0) (by decide) (tr := f_trumpSuit) H hc hl
  have u1 := og_U_b1 (k := 1) (by decide) (tr := f_trumpSuit) H hc hl
  have hW := og_wc_b (tr := f_trumpSuit) (o := o) (l := l) (cs := cs) (by omega)
  refine br_f (nI_pos (by omega)) ⟨vp_in_nI (by omega) (by decide), ?_⟩
  rw [nI_clamp (n := d + 1) (by omega)]
  refine br_t w0 (br_f (nI_nle (by omega) (by omega)) ?_)
  refine oy_back R hc hl (by omega) ?_
  intro a_holders_1 _ R1
  refine oy_leave R1 hf ok H h12 (by omega) e0 n0 e1 n1 e2 n2 b0 (by omega) b1 (by omega) ?_
  exact nm_r (pk_m1 d) (K a_holders_1 R1)
theorem oy_find {post : SY → Prop} {J : Int32 → Int32 → Int32 → Int32 → Int32 → (Nat → Int32) → (Nat → Int32) → (Nat → Int32) → (Nat → Int32) → (Nat → Int32) → (Nat → Int32) → (Nat → Int32) → (Nat → Int32) → Prop} {d c : Nat} {L : List Nat} (hd : d < 13) (hc : c < 12) (hlow : ∀ e ∈ L, c < e) (h12 : ∀ e ∈ L, e < 12) (ew : a_waiting d = nI (og_mk (c :: L))) (K : wY_search_22 post J (nI d) f_on f_firstLeader f_trumpSuit f_count a_holders a_begun a_played a_players a_waiting a_values a_leasts a_ways 1 (nI c)) : ∃ m, wY_search_22 post J (nI d) f_on f_firstLeader f_trumpSuit f_count a_holders a_begun a_played a_players a_waiting a_values a_leasts a_ways m 0 := by
  have hv : vp_in (nI d) 13 := vp_in_nI hd (by decide)
  have hm : og_mk (c :: L) < 4096 := og_mk_lt (by
    intro e he
    rcases List.mem_cons.mp he with z | z
    · omega
    · exact h12 e z)
  have F : ∀ e i, i + e = c → wY_search_22 post J (nI d) f_on f_firstLeader f_trumpSuit f_count a_holders a_begun a_played a_players a_waiting a_values a_leasts a_ways (e + 1) (nI i) := by
    intro e
    induction e with
    | zero =>
      intro i hi
      obtain rfl : i = c := by omega
      exact K
    | succ e ih =>
      intro i hi
      refine ⟨hv, ?_⟩
      rw [nI_clamp (n := d) (by omega), ew, og_b1k _ hm (by omega), og_mk_t]
      have z : ¬ i ∈ c :: L := by
        intro z
        rcases List.mem_cons.mp z with y | y
        · omega
        · have := hlow i y; omega
      rw [decide_eq_false z]
      exact br_t rfl (nm_r (nI_1 i) (ih (i + 1) (by omega)))
  exact ⟨_, F c 0 (by omega)⟩
end
section
variable {post : SY → Prop} {f_on f_firstLeader f_trumpSuit : Int32} {a_begun : Nat → Int32} {o : Nat → Nat} {l : Nat}
theorem oy_SR_s (hf : f_firstLeader = nI l) (n : Nat) (IH : ∀ n', n = n' + 1 → oy_SR post f_on f_firstLeader f_trumpSuit a_begun o l n') : oy_SR post f_on f_firstLeader f_trumpSuit a_begun o l n := by
  intro L
  induction L with
  | nil =>
    intro cs d m F a0 a1 a2 f_count a_holders a_played a_players a_waiting a_values a_leasts a_ways hasc hL ok H h12 hd R ew e0 e1 e2 b0 b1 hm K
    exact K m f_count a_holders a_played a_players a_waiting a_values a_leasts a_ways (by omega) R (fun j _ => ⟨rfl, rfl, rfl, rfl⟩) ew e0 e1 e2
  | cons c L ihL =>
    intro cs d m F a0 a1 a2 f_count a_holders a_played a_players a_waiting a_values a_leasts a_ways hasc hL ok H h12 hd R ew e0 e1 e2 b0 b1 hm K
    obtain ⟨hc, hlg⟩ := hL c List.mem_cons_self
    obtain ⟨hlow, hasc'⟩ := List.pairwise_cons.mp hasc
    have hL' : ∀ e ∈ L, e < 12 ∧ og_lg (og_hO f_trumpSuit o l cs) (og_hL f_trumpSuit o l cs) (og_hT f_trumpSuit o l cs) e = true := fun e he => hL e (List.mem_cons_of_mem _ he)
    rw [List.length_cons, Nat.succ_mul] at hm
    have u0 := og_U_b1 (k := 0) (by decide) (tr := f_trumpSuit) H hc hlg
    have u1 := og_U_b1 (k := 1) (by decide) (tr := f_trumpSuit) H hc hlg
    have hW := og_wc_b (tr := f_trumpSuit) (o := o) (l := l) (cs := cs) (by omega)
    have ok1 : og_ok f_trumpSuit o l (c :: cs) := ⟨⟨hc, hlg⟩, ok⟩
    have H1 : og_I n (og_hO f_trumpSuit o l (c :: cs)) (og_hL f_trumpSuit o l (c :: cs)) (og_hT f_trumpSuit o l (c :: cs)) := og_I_nx f_trumpSuit H hc hlg
    have hv : vp_in (nI d) 13 := vp_in_nI (by omega) (by decide)
    have cb0 : ∀ (k mv : Nat) (a v : Int), ¬ k = 2 → (-1 ≤ a ∧ a ≤ 1000) → (-1 ≤ v ∧ v ≤ 1000) → -1 ≤ og_cb k mv a v ∧ og_cb k mv a v ≤ 1000 := by
      intro k mv a v hk h1 h2
      unfold og_cb
      rw [if_neg hk]
      split
      · split <;> omega
      · split <;> omega
    obtain ⟨m, rfl⟩ : ∃ m', m = m' + 1 := ⟨m - 1, by omega⟩
    refine br_f (nI_pos (by omega)) ⟨hv, ?_⟩
    rw [nI_clamp (n := d) (by omega), ew]
    refine br_f (og_mk_ne hc (fun e he => (hL' e he).1)) (oy_find (by omega) hc hlow (fun e he => (hL' e he).1) ew ⟨hv, ?_⟩)
    have hmk : og_mk (c :: L) < 4096 := og_mk_lt (by
      intro e he
      rcases List.mem_cons.mp he with z | z
      · omega
      · exact (hL' e z).1)
    rw [nI_clamp (n := d) (by omega), ew, og_b1k _ hmk hc, og_mk_t, decide_eq_true List.mem_cons_self]
    refine br_f (by decide) ⟨hv, hv, nm_r (e' := upd a_waiting d (nI (og_mk L))) (by rw [og_rest' hc hlow]) (oy_lay R hc hlg (by omega) ?_)⟩
    intro f_count_1 a_holders_1 a_played_1 a_players_1 R1
    dsimp only
    refine nm_r (nI_1 d) (oy_enter R1 hf ok1 H1 (by rw [List.length_cons]; omega) (by omega) ?_)
    dsimp only
    refine oy_visit n IH (c :: cs) (d + 1) m (F + 1 + L.length * (2 + og_R n)) f_count_1 a_holders_1 a_played_1 a_players_1 _ _ _ _ ok1 H1 (by rw [List.length_cons]; omega) (by omega) R1 pk_us pk_us pk_us pk_us (by omega) ?_
    intro m' f_count_2 a_holders_2 a_played_2 a_players_2 a_waiting_2 a_values_2 a_leasts_2 a_ways_2 hm' R2 B2 w2 FN2
    obtain ⟨m', rfl⟩ : ∃ q, m' = q + 1 := ⟨m' - 1, by omega⟩
    obtain ⟨x1, x2, x3, x4⟩ := B2 d (by omega)
    rw [pk_un (by omega)] at x1 x2 x3 x4
    rw [pk_us] at x1
    refine oy_lv hf R2 ok H hc hlg h12 (by omega) w2 FN2 (x2.trans e0) (x3.trans e1) (x4.trans e2) b0 b1 ?_
    intro a_holders_3 R3
    refine ihL cs d m' F _ _ _ _ _ _ _ _ _ _ _ hasc' hL' ok H h12 hd R3 x1 pk_us pk_us pk_us (cb0 _ _ _ _ (by decide) b0 (by omega)) (cb0 _ _ _ _ (by decide) b1 (by omega)) (by omega) ?_
    intro m4 f_count_4 a_holders_4 a_played_4 a_players_4 a_waiting_4 a_values_4 a_leasts_4 a_ways_4 hm4 R4 B4 w4 v4 l4 y4
    refine K m4 f_count_4 a_holders_4 a_played_4 a_players_4 a_waiting_4 a_values_4 a_leasts_4 a_ways_4 hm4 R4 (fun j hj => ?_) w4 v4 l4 y4
    obtain ⟨p1, p2, p3, p4⟩ := B4 j hj
    obtain ⟨s1, s2, s3, s4⟩ := B2 j (by omega)
    rw [pk_un (by omega)] at p2 p3 p4 s1 s2 s3 s4
    rw [pk_un (by omega)] at s1
    exact ⟨p1.trans s1, p2.trans s2, p3.trans s3, p4.trans s4⟩
theorem oy_SR_a (hf : f_firstLeader = nI l) : ∀ n, oy_SR post f_on f_firstLeader f_trumpSuit a_begun o l n := by
  intro n
  induction n with
  | zero => exact oy_SR_s hf 0 (fun n' h => by omega)
  | succ n ih =>
    apply oy_SR_s hf (n + 1)
    intro n' h
    obtain rfl : n = n' := by omega
    exact ih
end
section
variable {f_on f_firstLeader f_trumpSuit f_count : Int32} {a_holders a_begun a_played a_players a_waiting a_values a_leasts a_ways : Nat → Int32}
variable {o : Nat → Nat} {l : Nat}
theorem oy_search {post : SY → Prop} {n : Nat} {cs : List Nat} (hf : f_firstLeader = nI l) (R : og_RY f_trumpSuit o l cs f_count a_holders a_played a_players) (ok : og_ok f_trumpSuit o l cs) (H : og_I n (og_hO f_trumpSuit o l cs) (og_hL f_trumpSuit o l cs) (og_hT f_trumpSuit o l cs)) (h12 : cs.length + n ≤ 12) (K : ∀ (f_count_1 : Int32) (a_holders_1 a_played_1 a_players_1 : Nat → Int32) (a_waiting_1 a_values_1 a_leasts_1 a_ways_1 : Nat → Int32), og_RY f_trumpSuit o l cs f_count_1 a_holders_1 a_played_1 a_players_1 → oy_Fin f_trumpSuit o l cs n 0 a_values_1 a_leasts_1 a_ways_1 → post (f_on, f_firstLeader, f_trumpSuit, f_count_1, a_holders_1, a_begun, a_played_1, a_players_1, a_waiting_1, a_values_1, a_leasts_1, a_ways_1)) : wpY_search post (f_on, f_firstLeader, f_trumpSuit, f_count, a_holders, a_begun, a_played, a_players, a_waiting, a_values, a_leasts, a_ways) := by
  unfold wpY_search
  dsimp only
  refine oy_enter (d := 0) R hf ok H h12 (by omega) ?_
  dsimp only
  refine ⟨2 + og_R n, ?_⟩
  refine oy_visit n (fun n' _ => oy_SR_a hf n') cs 0 _ 2 f_count a_holders a_played a_players _ _ _ _ ok H h12 (by omega) R pk_us pk_us pk_us pk_us (Nat.le_refl _) ?_
  intro m' f_count_1 a_holders_1 a_played_1 a_players_1 a_waiting_1 a_values_1 a_leasts_1 a_ways_1 hm' R1 _ w1 FN
  obtain ⟨m', rfl⟩ : ∃ q, m' = q + 2 := ⟨m' - 2, by omega⟩
  refine br_f (by decide) ⟨vp_in_nI (by omega) (by decide), br_t w1 (br_t (by decide) (nm_e (br_t (by decide) (K f_count_1 a_holders_1 a_played_1 a_players_1 a_waiting_1 a_values_1 a_leasts_1 a_ways_1 R1 FN))))⟩
end
end
section
/-! dealing, starting -/
def og_D (o : Nat → Nat) : Prop := (∀ c, o c ≤ 4) ∧ (∀ c, 12 ≤ c → o c = 4) ∧ ∀ p, p < 4 → og_cn o p ≤ 3
def og_to (o : Nat → Nat) (c q : Nat) : Nat → Nat := fun i => if i = c then q else o i
theorem og_to_eq {o : Nat → Nat} {c q p : Nat} (hp : p = q) : ∀ i, (og_to o c q i == p) = (((o i == p) && !(i == c)) || (i == c)) := by
  intro i
  unfold og_to
  by_cases z : i = c
  · simp [z, hp]
  · have h1 : (i == c) = false := beq_eq_false_iff_ne.mpr z
    rw [if_neg z, h1]
    simp
theorem og_to_ne {o : Nat → Nat} {c q p : Nat} (hp : p ≠ q) : ∀ i, (og_to o c q i == p) = ((o i == p) && !(i == c)) := by
  intro i
  unfold og_to
  by_cases z : i = c
  · simp [z, Ne.symm hp]
  · simp [z]
theorem og_D_to {o : Nat → Nat} {c q : Nat} (h : og_D o) (hc : c < 12) (hq : q ≤ 4) (h3 : q < 4 → og_ct (fun i => (o i == q) && !(i == c)) 12 ≠ 3) : og_D (og_to o c q) := by
  obtain ⟨h1, h2, h4⟩ := h
  refine ⟨?_, ?_, ?_⟩
  · intro i; unfold og_to; split
    · exact hq
    · exact h1 i
  · intro i hi; unfold og_to; rw [if_neg (by omega)]; exact h2 i hi
  · intro p hp
    have a := og_ct_rm (fun i => o i == p) c 12
    have b := h4 p hp
    unfold og_cn at b ⊢
    by_cases z : p = q
    · have e : og_ct (fun i => og_to o c q i == p) 12 = og_ct (fun i => ((o i == p) && !(i == c)) || (i == c)) 12 := og_ct_ext (fun i _ => og_to_eq z i)
      have e2 := og_ct_ad (fun i => (o i == p) && !(i == c)) c (by simp) 12
      rw [if_pos hc] at e2
      have e3 := h3 (by omega)
      rw [← z] at e3
      rw [e, e2]
      omega
    · have e : og_ct (fun i => og_to o c q i == p) 12 = og_ct (fun i => (o i == p) && !(i == c)) 12 := og_ct_ext (fun i _ => og_to_ne z i)
      rw [e]
      omega
section
variable {f_on f_trump f_lead f_played f_firstWon f_secondWon f_steps f_kind f_entered : Int32} {a_dealt a_hand a_trick a_pastCard a_pastLead a_pastTrick a_pastPlayed a_pastFirst a_pastSecond a_choices a_found a_base : Nat → Int32} {a_tableKey : Nat → Int64} {a_tableValue : Nat → Int32}
theorem ox_deal_l {post : Int32 → SX → Prop} {x2 : Int32} {o : Nat → Nat} {c q : Nat} (hc : c < 12) (hx : ∀ j, j < 4 → (nI j = x2 ↔ j = q)) (hD : ∀ p, p < 4 → a_dealt p = nI (og_mf (fun i => o i == p))) (K : ∀ (a_dealt_1 a_hand_1 : Nat → Int32), (∀ p, p < 4 → a_dealt_1 p = nI (og_mf (fun i => og_to o c q i == p))) → (∀ p, p < 4 → a_hand_1 p = nI (og_mf (fun i => og_to o c q i == p))) → post (nI (og_ct (fun i => decide (og_to o c q i < 4)) 12)) (0, f_trump, f_lead, f_played, f_firstWon, f_secondWon, f_steps, f_kind, f_entered, a_dealt_1, a_hand_1, a_trick, a_pastCard, a_pastLead, a_pastTrick, a_pastPlayed, a_pastFirst, a_pastSecond, a_choices, a_found, a_base, a_tableKey, a_tableValue)) : ∃ m, wX_deal_54 post (nI c) x2 f_on f_trump f_lead f_played f_firstWon f_secondWon f_steps f_kind f_entered m 0 0 a_dealt a_hand a_trick a_pastCard a_pastLead a_pastTrick a_pastPlayed a_pastFirst a_pastSecond a_choices a_found a_base a_tableKey a_tableValue := by
  have L : ∀ (d k : Nat) (da ha : Nat → Int32), k + d = 4 → (∀ p, p < k → da p = nI (og_mf (fun i => og_to o c q i == p)) ∧ ha p = nI (og_mf (fun i => og_to o c q i == p))) → (∀ p, k ≤ p → p < 4 → da p = a_dealt p) → wX_deal_54 post (nI c) x2 f_on f_trump f_lead f_played f_firstWon f_secondWon f_steps f_kind f_entered (d + 1) (nI (og_mf (fun i => decide (og_to o c q i < k)))) (nI k) da ha a_trick a_pastCard a_pastLead a_pastTrick a_pastPlayed a_pastFirst a_pastSecond a_choices a_found a_base a_tableKey a_tableValue := by
    intro d
    induction d with
    | zero =>
      intro k da ha hk h1 h2
      obtain rfl : k = 4 := by omega
      refine br_t (show (4 : Int32) ≤ nI 4 from Int32.le_refl _) (ox_size ?_)
      rw [og_szm _ 12 (by omega)]
      exact K da ha (fun p hp => (h1 p hp).1) (fun p hp => (h1 p hp).2)
    | succ d ih =>
      intro k da ha hk h1 h2
      have hv : vp_in (nI k) 4 := vp_in_nI (by omega) (by decide)
      have F : ∀ db : Nat → Int32, db k = nI (og_mf (fun i => og_to o c q i == k)) → (∀ p, p ≠ k → db p = da p) → wX_deal_104 post (wX_deal_54 post (nI c) x2 f_on f_trump f_lead f_played f_firstWon f_secondWon f_steps f_kind f_entered (d + 1)) (nI c) x2 (nI (og_mf (fun i => decide (og_to o c q i < k)))) (nI k) f_on f_trump f_lead f_played f_firstWon f_secondWon f_steps f_kind f_entered db ha a_trick a_pastCard a_pastLead a_pastTrick a_pastPlayed a_pastFirst a_pastSecond a_choices a_found a_base a_tableKey a_tableValue := by
        intro db e1 e2
        unfold wX_deal_104
        rw [nI_clamp (n := k) (by omega), e1, og_oo]
        refine ⟨hv, hv, nm_e ⟨hv, nm_r (e' := nI (og_mf (fun i => decide (og_to o c q i < k + 1)))) (congrArg nI (og_mf_ext ?_)) (nm_r (nI_1 k) ?_)⟩⟩
        · intro i hi
          apply og_beq
          simp only [Bool.or_eq_true, decide_eq_true_eq, beq_iff_eq]
          omega
        · apply ih (k + 1) _ _ (by omega)
          · intro p hp
            by_cases z : p = k
            · rw [z, pk_us]
              exact ⟨e1, rfl⟩
            · rw [pk_un z, e2 p z]
              exact h1 p (by omega)
          · intro p hp hp4
            rw [e2 p (by omega)]
            exact h2 p (by omega) hp4
      refine br_f (show ¬ (4 : Int32) ≤ nI k from nI_ge (b := 4) (by omega) (by decide)) ⟨hv, hv, nm_e ?_⟩
      rw [nI_clamp (n := k) (by omega), h2 k (by omega) (by omega), hD k (by omega), og_cl _ hc]
      refine br_c (fun z => ⟨hv, hv, nm_e ?_⟩) (fun z => ?_)
      · have zq := (hx k (by omega)).mp z
        rw [pk_us, og_se _ hc]
        apply F
        · rw [pk_us]
          exact congrArg nI (og_mf_ext (fun i _ => (og_to_eq zq i).symm))
        · intro p hp
          rw [pk_un hp, pk_un hp]
      · have zq : k ≠ q := fun y => z ((hx k (by omega)).mpr y)
        apply F
        · rw [pk_us]
          exact congrArg nI (og_mf_ext (fun i _ => (og_to_ne zq i).symm))
        · intro p hp
          rw [pk_un hp]
  have r := L 4 0 a_dealt a_hand (by omega) (fun p hp => absurd hp (Nat.not_lt_zero _)) (fun p _ _ => rfl)
  have e0 : nI (og_mf (fun i => decide (og_to o c q i < 0))) = 0 := by
    rw [og_z]
    intro i hi
    simp
  rw [e0] at r
  exact ⟨_, r⟩
theorem ox_clr {post : SX → Prop} (K : ∀ (a_dealt_1 a_hand_1 : Nat → Int32), (∀ p, p < 4 → a_dealt_1 p = 0 ∧ a_hand_1 p = 0) → post (0, f_trump, f_lead, f_played, f_firstWon, f_secondWon, f_steps, f_kind, f_entered, a_dealt_1, a_hand_1, a_trick, a_pastCard, a_pastLead, a_pastTrick, a_pastPlayed, a_pastFirst, a_pastSecond, a_choices, a_found, a_base, a_tableKey, a_tableValue)) : wpX_clear post (f_on, f_trump, f_lead, f_played, f_firstWon, f_secondWon, f_steps, f_kind, f_entered, a_dealt, a_hand, a_trick, a_pastCard, a_pastLead, a_pastTrick, a_pastPlayed, a_pastFirst, a_pastSecond, a_choices, a_found, a_base, a_tableKey, a_tableValue) := by
  unfold wpX_clear
  dsimp only
  have L : ∀ (d k : Nat) (da ha : Nat → Int32), k + d = 4 → (∀ p, p < k → da p = 0 ∧ ha p = 0) → wX_clear_2 post f_on f_trump f_lead f_played f_firstWon f_secondWon f_steps f_kind f_entered (d + 1) (nI k) da ha a_trick a_pastCard a_pastLead a_pastTrick a_pastPlayed a_pastFirst a_pastSecond a_choices a_found a_base a_tableKey a_tableValue := by
    intro d
    induction d with
    | zero =>
      intro k da ha hk h1
      obtain rfl : k = 4 := by omega
      exact br_t (show (4 : Int32) ≤ nI 4 from Int32.le_refl _) (K da ha h1)
    | succ d ih =>
      intro k da ha hk h1
      have hv : vp_in (nI k) 4 := vp_in_nI (by omega) (by decide)
      refine br_f (show ¬ (4 : Int32) ≤ nI k from nI_ge (b := 4) (by omega) (by decide)) ⟨hv, nm_e ⟨hv, nm_e (nm_r (nI_1 k) ?_)⟩⟩
      rw [nI_clamp (n := k) (by omega)]
      apply ih (k + 1) _ _ (by omega)
      intro p hp
      by_cases z : p = k
      · rw [z, pk_us, pk_us]
        exact ⟨rfl, rfl⟩
      · rw [pk_un z, pk_un z]
        exact h1 p (by omega)
  exact ⟨_, L 4 0 a_dealt a_hand (by omega) (fun p hp => absurd hp (Nat.not_lt_zero _))⟩
/-- start: the hands are laid, or refused -/
theorem ox_start_s {post : Int32 → SX → Prop} {x1 x2 x3 : Int32} (K : ∀ a_hand_1 : Nat → Int32, (∀ p, p < 4 → a_hand_1 p = a_dealt p) → post x3 (1, x2, x1, 0, 0, 0, 0, f_kind, f_entered, a_dealt, a_hand_1, a_trick, a_pastCard, a_pastLead, a_pastTrick, a_pastPlayed, a_pastFirst, a_pastSecond, a_choices, a_found, a_base, a_tableKey, a_tableValue)) : ∃ m, wX_start_74 post x1 x2 x3 f_on f_trump f_lead f_played f_firstWon f_secondWon f_steps f_kind f_entered m 0 a_dealt a_hand a_trick a_pastCard a_pastLead a_pastTrick a_pastPlayed a_pastFirst a_pastSecond a_choices a_found a_base a_tableKey a_tableValue := by
  have L : ∀ (d k : Nat) (ha : Nat → Int32), k + d = 4 → (∀ p, p < k → ha p = a_dealt p) → wX_start_74 post x1 x2 x3 f_on f_trump f_lead f_played f_firstWon f_secondWon f_steps f_kind f_entered (d + 1) (nI k) a_dealt ha a_trick a_pastCard a_pastLead a_pastTrick a_pastPlayed a_pastFirst a_pastSecond a_choices a_found a_base a_tableKey a_tableValue := by
    intro d
    induction d with
    | zero =>
      intro k ha hk h1
      obtain rfl : k = 4 := by omega
      exact br_t (show (4 : Int32) ≤ nI 4 from Int32.le_refl _) (K ha h1)
    | succ d ih =>
      intro k ha hk h1
      have hv : vp_in (nI k) 4 := vp_in_nI (by omega) (by decide)
      refine br_f (show ¬ (4 : Int32) ≤ nI k from nI_ge (b := 4) (by omega) (by decide)) ⟨hv, hv, nm_e (nm_r (nI_1 k) ?_)⟩
      rw [nI_clamp (n := k) (by omega)]
      apply ih (k + 1) _ (by omega)
      intro p hp
      by_cases z : p = k
      · rw [z, pk_us]
      · rw [pk_un z]
        exact h1 p (by omega)
  exact ⟨_, L 4 0 a_hand (by omega) (fun p hp => absurd hp (Nat.not_lt_zero _))⟩
theorem og_cn_12 (o : Nat → Nat) (p : Nat) : og_cn o p ≤ 12 := by
  have a : og_ct (fun c => o c == p) 12 ≤ og_ct (fun _ => true) 12 := og_ct_le (fun _ _ _ => rfl)
  exact a
theorem ox_start {post : Int32 → SX → Prop} {x2 : Int32} {o : Nat → Nat} {l : Nat} (hl : l < 4) (h1 : ¬ x2 < -1) (h2 : x2 ≤ 2) (hD : ∀ p, p < 4 → a_dealt p = nI (og_mf (fun i => o i == p))) (hn : ¬ ((∀ p, p < 4 → og_cn o p = og_cn o 0) ∧ og_cn o 0 ≠ 0) → post (-4) (f_on, f_trump, f_lead, f_played, f_firstWon, f_secondWon, f_steps, f_kind, f_entered, a_dealt, a_hand, a_trick, a_pastCard, a_pastLead, a_pastTrick, a_pastPlayed, a_pastFirst, a_pastSecond, a_choices, a_found, a_base, a_tableKey, a_tableValue)) (K : (∀ p, p < 4 → og_cn o p = og_cn o 0) → og_cn o 0 ≠ 0 → ∀ a_hand_1 : Nat → Int32, (∀ p, p < 4 → a_hand_1 p = nI (og_mf (fun i => o i == p))) → post (nI (og_cn o 0)) (1, x2, nI l, 0, 0, 0, 0, f_kind, f_entered, a_dealt, a_hand_1, a_trick, a_pastCard, a_pastLead, a_pastTrick, a_pastPlayed, a_pastFirst, a_pastSecond, a_choices, a_found, a_base, a_tableKey, a_tableValue)) : wpX_start post (f_on, f_trump, f_lead, f_played, f_firstWon, f_secondWon, f_steps, f_kind, f_entered, a_dealt, a_hand, a_trick, a_pastCard, a_pastLead, a_pastTrick, a_pastPlayed, a_pastFirst, a_pastSecond, a_choices, a_found, a_base, a_tableKey, a_tableValue) (nI l) x2 := by
  have b := og_cn_12 o
  have b0 := b 0
  unfold wpX_start
  dsimp only
  refine ox_bad hl (br_t rfl (br_f h1 (br_t h2 (ox_size ?_))))
  rw [hD 0 (by omega), og_szm _ 12 (by omega)]
  show ∃ m, wX_start_34 post (nI l) x2 (nI (og_cn o 0)) f_on f_trump f_lead f_played f_firstWon f_secondWon f_steps f_kind f_entered a_dealt a_hand a_trick a_pastCard a_pastLead a_pastTrick a_pastPlayed a_pastFirst a_pastSecond a_choices a_found a_base a_tableKey a_tableValue m 1
  have L : ∀ (d k : Nat), 1 ≤ k → k + d = 4 → (∀ p, p < k → og_cn o p = og_cn o 0) → wX_start_34 post (nI l) x2 (nI (og_cn o 0)) f_on f_trump f_lead f_played f_firstWon f_secondWon f_steps f_kind f_entered a_dealt a_hand a_trick a_pastCard a_pastLead a_pastTrick a_pastPlayed a_pastFirst a_pastSecond a_choices a_found a_base a_tableKey a_tableValue (d + 1) (nI k) := by
    intro d
    induction d with
    | zero =>
      intro k _ hk h
      obtain rfl : k = 4 := by omega
      refine br_t (show (4 : Int32) ≤ nI 4 from Int32.le_refl _) (br_c (fun z => hn (fun q => ?_)) (fun z => ox_start_s ?_))
      · rw [← nI_0, nI_eq (by omega) (by omega)] at z
        exact q.2 z
      · intro a_hand_1 hh
        refine K h (fun q => z (by rw [q]; rfl)) a_hand_1 (fun p hp => ?_)
        rw [hh p hp, hD p hp]
    | succ d ih =>
      intro k hk1 hk h
      have hv : vp_in (nI k) 4 := vp_in_nI (by omega) (by decide)
      have bk := b k
      refine br_f (show ¬ (4 : Int32) ≤ nI k from nI_ge (b := 4) (by omega) (by decide)) ⟨hv, ox_size ?_⟩
      rw [nI_clamp (n := k) (by omega), hD k (by omega), og_szm _ 12 (by omega)]
      refine pk_eq (og_cn o k) (og_cn o 0) (fun z => nm_r (nI_1 k) (ih (k + 1) (by omega) (by omega) ?_)) (fun z => hn (fun q => z (q.1 k (by omega))))
      intro p hp
      by_cases y : p = k
      · rw [y]; exact z
      · exact h p (by omega)
  exact ⟨_, L 3 1 (by omega) (by omega) (fun p hp => by rw [show p = 0 by omega])⟩
end
section
variable {f_on f_firstLeader f_trumpSuit f_count : Int32} {a_holders a_begun a_played a_players a_waiting a_values a_leasts a_ways : Nat → Int32}
variable {o : Nat → Nat}
theorem oy_held {post : Int32 → Prop} {c : Nat} (hc : c < 12) (h0 : f_on = 0 → a_holders c = nI (o c)) (h1 : ¬ f_on = 0 → a_begun c = nI (o c)) (h : post (nI (o c))) : wpY_heldAtFirst post (f_on, f_firstLeader, f_trumpSuit, f_count, a_holders, a_begun, a_played, a_players, a_waiting, a_values, a_leasts, a_ways) (nI c) := by
  have hv : vp_in (nI c) 12 := vp_in_nI hc (by decide)
  unfold wpY_heldAtFirst
  dsimp only
  rw [nI_clamp (n := c) (by omega)]
  exact br_c (fun z => ⟨hv, by rw [h0 z]; exact h⟩) (fun z => ⟨hv, by rw [h1 z]; exact h⟩)
theorem oy_deal_l {post : Int32 → SY → Prop} {x2 : Int32} {c q : Nat} (hc : c < 12) (hq : q ≤ 4) (ho : ∀ i, o i ≤ 4) (hx : (0 ≤ x2 ∧ x2 = nI q) ∨ (¬ 0 ≤ x2 ∧ q = 4)) (h0 : f_on = 0 → ∀ i, i < 12 → a_holders i = nI (o i)) (h1 : ¬ f_on = 0 → ∀ i, i < 12 → a_begun i = nI (o i)) (K : ∀ a_holders_1 : Nat → Int32, (∀ i, i < 12 → a_holders_1 i = nI (og_to o c q i)) → post (nI (og_ct (fun i => decide (og_to o c q i < 4)) 12)) (0, f_firstLeader, f_trumpSuit, 0, a_holders_1, a_begun, a_played, a_players, a_waiting, a_values, a_leasts, a_ways)) : ∃ m, wY_deal_78 post (nI c) x2 f_on f_firstLeader f_trumpSuit f_count m 0 0 a_holders a_begun a_played a_players a_waiting a_values a_leasts a_ways := by
  have L : ∀ (d k : Nat) (ha : Nat → Int32), k + d = 12 → (∀ i, i < k → ha i = nI (og_to o c q i)) → (∀ i, k ≤ i → ha i = a_holders i) → wY_deal_78 post (nI c) x2 f_on f_firstLeader f_trumpSuit f_count (d + 1) (nI (og_ct (fun i => decide (og_to o c q i < 4)) k)) (nI k) ha a_begun a_played a_players a_waiting a_values a_leasts a_ways := by
    intro d
    induction d with
    | zero =>
      intro k ha hk e1 e2
      obtain rfl : k = 12 := by omega
      exact br_t (show (12 : Int32) ≤ nI 12 from Int32.le_refl _) (K ha e1)
    | succ d ih =>
      intro k ha hk e1 e2
      have hv : vp_in (nI k) 12 := vp_in_nI (by omega) (by decide)
      have ht : og_to o c q k ≤ 4 := by
        unfold og_to
        split
        · exact hq
        · exact ho k
      have F : wY_deal_115 post (wY_deal_78 post (nI c) x2 f_on f_firstLeader f_trumpSuit f_count (d + 1)) (nI c) x2 (nI (og_ct (fun i => decide (og_to o c q i < 4)) k)) (nI k) (nI (og_to o c q k)) (nI k) f_on f_firstLeader f_trumpSuit f_count ha a_begun a_played a_players a_waiting a_values a_leasts a_ways := by
        have r := ih (k + 1) (upd ha k (nI (og_to o c q k))) (by omega) (fun i hi => by
          by_cases z : i = k
          · rw [z, pk_us]
          · rw [pk_un z]; exact e1 i (by omega)) (fun i hi => by rw [pk_un (by omega)]; exact e2 i (by omega))
        rw [og_ct_s] at r
        unfold wY_deal_115
        rw [nI_clamp (n := k) (by omega)]
        refine ⟨hv, nm_e ⟨hv, ?_⟩⟩
        rw [pk_us]
        refine pk_le 4 (og_to o c q k) (fun z => nm_r (nI_1 k) ?_) (fun z => nm_r (nI_1 _) (nm_r (nI_1 k) ?_))
        · rw [if_neg (by simp; omega)] at r
          exact r
        · rw [if_pos (by simp; omega)] at r
          exact r
      refine br_f (show ¬ (12 : Int32) ≤ nI k from nI_ge (b := 12) (by omega) (by decide)) (pk_eq k c (fun z => ?_) (fun z => ?_))
      · have et : og_to o c q k = q := by unfold og_to; rw [if_pos z]
        rw [et] at F
        rcases hx with ⟨x0, xq⟩ | ⟨x0, xq⟩
        · refine br_t x0 ?_
          rw [← xq] at F
          exact F
        · refine br_f x0 ?_
          rw [xq] at F
          rw [xq]
          exact F
      · have et : og_to o c q k = o k := by unfold og_to; rw [if_neg z]
        rw [et] at F
        exact oy_held (o := o) (by omega) (fun y => by rw [e2 k (by omega)]; exact h0 y k (by omega)) (fun y => h1 y k (by omega)) F
  exact ⟨_, L 12 0 a_holders (by omega) (fun i hi => absurd hi (Nat.not_lt_zero _)) (fun i _ => rfl)⟩
theorem oy_own {post : Int32 → SY → Prop} {x2 : Int32} {c q : Nat} (hc : c < 12) (ho : ∀ i, o i ≤ 4) (hx : ∀ j, j ≤ 4 → (nI j = x2 ↔ j = q)) (h0 : f_on = 0 → ∀ i, i < 12 → a_holders i = nI (o i)) (h1 : ¬ f_on = 0 → ∀ i, i < 12 → a_begun i = nI (o i)) (K3 : og_ct (fun i => (o i == q) && !(i == c)) 12 = 3 → post (-2) (f_on, f_firstLeader, f_trumpSuit, f_count, a_holders, a_begun, a_played, a_players, a_waiting, a_values, a_leasts, a_ways)) (K : og_ct (fun i => (o i == q) && !(i == c)) 12 ≠ 3 → ∃ m, wY_deal_78 post (nI c) x2 f_on f_firstLeader f_trumpSuit f_count m 0 0 a_holders a_begun a_played a_players a_waiting a_values a_leasts a_ways) : ∃ m, wY_deal_27 post (nI c) x2 f_on f_firstLeader f_trumpSuit f_count a_holders a_begun a_played a_players a_waiting a_values a_leasts a_ways m 0 0 := by
  have L : ∀ (d k : Nat), k + d = 12 → wY_deal_27 post (nI c) x2 f_on f_firstLeader f_trumpSuit f_count a_holders a_begun a_played a_players a_waiting a_values a_leasts a_ways (d + 1) (nI (og_ct (fun i => (o i == q) && !(i == c)) k)) (nI k) := by
    intro d
    induction d with
    | zero =>
      intro k hk
      obtain rfl : k = 12 := by omega
      have b : og_ct (fun i => (o i == q) && !(i == c)) 12 ≤ og_ct (fun _ => true) 12 := og_ct_le (fun _ _ _ => rfl)
      have b2 : og_ct (fun _ => true) 12 = 12 := by decide
      exact br_t (show (12 : Int32) ≤ nI 12 from Int32.le_refl _) (pk_eq _ 3 (fun z => K3 z) (fun z => K z))
    | succ d ih =>
      intro k hk
      have r := ih (k + 1) (by omega)
      have hk4 := ho k
      rw [og_ct_s] at r
      refine br_f (show ¬ (12 : Int32) ≤ nI k from nI_ge (b := 12) (by omega) (by decide)) (pk_eq k c (fun z => nm_r (nI_1 k) ?_) (fun z => ?_))
      · rw [if_neg (by simp [z])] at r
        exact r
      · refine oy_held (o := o) (by omega) (fun y => h0 y k (by omega)) (fun y => h1 y k (by omega)) (br_c (fun y => nm_r (nI_1 _) (nm_r (nI_1 k) ?_)) (fun y => nm_r (nI_1 k) ?_))
        · have yq := (hx _ hk4).mp y
          rw [if_pos (by simp [z, yq])] at r
          exact r
        · have yq : ¬ o k = q := fun w => y ((hx _ hk4).mpr w)
          rw [if_neg (by simp [yq])] at r
          exact r
  exact ⟨_, L 12 0 (by omega)⟩
theorem oy_clr {post : SY → Prop} (K : ∀ a_holders_1 : Nat → Int32, (∀ i, i < 12 → a_holders_1 i = 4) → post (0, f_firstLeader, f_trumpSuit, 0, a_holders_1, a_begun, a_played, a_players, a_waiting, a_values, a_leasts, a_ways)) : wpY_clear post (f_on, f_firstLeader, f_trumpSuit, f_count, a_holders, a_begun, a_played, a_players, a_waiting, a_values, a_leasts, a_ways) := by
  unfold wpY_clear
  dsimp only
  have L : ∀ (d k : Nat) (ha : Nat → Int32), k + d = 12 → (∀ i, i < k → ha i = 4) → wY_clear_2 post f_on f_firstLeader f_trumpSuit f_count (d + 1) (nI k) ha a_begun a_played a_players a_waiting a_values a_leasts a_ways := by
    intro d
    induction d with
    | zero =>
      intro k ha hk h1
      obtain rfl : k = 12 := by omega
      exact br_t (show (12 : Int32) ≤ nI 12 from Int32.le_refl _) (K ha h1)
    | succ d ih =>
      intro k ha hk h1
      have hv : vp_in (nI k) 12 := vp_in_nI (by omega) (by decide)
      refine br_f (show ¬ (12 : Int32) ≤ nI k from nI_ge (b := 12) (by omega) (by decide)) ⟨hv, nm_e (nm_r (nI_1 k) ?_)⟩
      rw [nI_clamp (n := k) (by omega)]
      apply ih (k + 1) _ (by omega)
      intro p hp
      by_cases z : p = k
      · rw [z, pk_us]
      · rw [pk_un z]
        exact h1 p (by omega)
  exact ⟨_, L 12 0 a_holders (by omega) (fun p hp => absurd hp (Nat.not_lt_zero _))⟩
theorem oy_start_s {post : Int32 → SY → Prop} {x1 x2 x4 : Int32} (h0 : f_on = 0 → ∀ i, i < 12 → a_holders i = nI (o i)) (h1 : ¬ f_on = 0 → ∀ i, i < 12 → a_begun i = nI (o i)) (K : ∀ a_holders_1 a_begun_1 : Nat → Int32, (∀ i, i < 12 → a_holders_1 i = nI (o i) ∧ a_begun_1 i = nI (o i)) → post x4 (1, x1, x2, 0, a_holders_1, a_begun_1, a_played, a_players, a_waiting, a_values, a_leasts, a_ways)) : ∃ m, wY_start_98 post x1 x2 x4 f_on f_firstLeader f_trumpSuit f_count m 0 a_holders a_begun a_played a_players a_waiting a_values a_leasts a_ways := by
  have L : ∀ (d k : Nat) (ha ba : Nat → Int32), k + d = 12 → (∀ i, i < k → ha i = nI (o i) ∧ ba i = nI (o i)) → (∀ i, k ≤ i → ha i = a_holders i ∧ ba i = a_begun i) → wY_start_98 post x1 x2 x4 f_on f_firstLeader f_trumpSuit f_count (d + 1) (nI k) ha ba a_played a_players a_waiting a_values a_leasts a_ways := by
    intro d
    induction d with
    | zero =>
      intro k ha ba hk e1 e2
      obtain rfl : k = 12 := by omega
      exact br_t (show (12 : Int32) ≤ nI 12 from Int32.le_refl _) (K ha ba e1)
    | succ d ih =>
      intro k ha ba hk e1 e2
      have hv : vp_in (nI k) 12 := vp_in_nI (by omega) (by decide)
      refine br_f (show ¬ (12 : Int32) ≤ nI k from nI_ge (b := 12) (by omega) (by decide)) ?_
      refine oy_held (o := o) (by omega) (fun y => by rw [(e2 k (by omega)).1]; exact h0 y k (by omega)) (fun y => by rw [(e2 k (by omega)).2]; exact h1 y k (by omega)) ⟨hv, nm_e ⟨hv, hv, nm_e (nm_r (nI_1 k) ?_)⟩⟩
      rw [nI_clamp (n := k) (by omega)]
      apply ih (k + 1) _ _ (by omega)
      · intro i hi
        by_cases z : i = k
        · rw [z, pk_us, pk_us]
          exact ⟨rfl, rfl⟩
        · rw [pk_un z, pk_un z]
          exact e1 i (by omega)
      · intro i hi
        rw [pk_un (by omega), pk_un (by omega)]
        exact e2 i (by omega)
  exact ⟨_, L 12 0 a_holders a_begun (by omega) (fun p hp => absurd hp (Nat.not_lt_zero _)) (fun i _ => ⟨rfl, rfl⟩)⟩
def og_sm (o : Nat → Nat) (k : Nat) : Nat := og_ct (fun i => o i == 0) k + 16 * og_ct (fun i => o i == 1) k + 256 * og_ct (fun i => o i == 2) k + 4096 * og_ct (fun i => o i == 3) k + 65536 * og_ct (fun i => o i == 4) k
theorem og_sm_s {o : Nat → Nat} {k : Nat} (h : o k ≤ 4) : og_sm o (k + 1) = og_sm o k + 16 ^ (o k) := by
  unfold og_sm
  simp only [og_ct_s]
  rcases (by omega : o k = 0 ∨ o k = 1 ∨ o k = 2 ∨ o k = 3 ∨ o k = 4) with z | z | z | z | z
  · simp [z]; omega
  · simp [z]; omega
  · simp [z]; omega
  · simp [z]; omega
  · simp [z]; omega
theorem og_dig {a b c d : Nat} (ha : a ≤ 3) (hb : b ≤ 3) (hc : c ≤ 3) (hd : d ≤ 3) (h : a + 16 * b + 256 * c + 4096 * d = a * 4369) : b = a ∧ c = a ∧ d = a := by
  rcases (by omega : a = 0 ∨ a = 1 ∨ a = 2 ∨ a = 3) with y | y | y | y
  · subst y; omega
  · subst y; omega
  · subst y; omega
  · subst y; omega
theorem og_s16 : ∀ p, p < 5 → (1 : Int32) <<< ((4 * nI p) &&& 31) = nI (16 ^ p) := by decide +kernel
theorem oy_start {post : Int32 → SY → Prop} {x2 : Int32} {l : Nat} (hl : l < 4) (g1 : ¬ x2 < -1) (g2 : x2 ≤ 2) (hD : og_D o) (h0 : f_on = 0 → ∀ i, i < 12 → a_holders i = nI (o i)) (h1 : ¬ f_on = 0 → ∀ i, i < 12 → a_begun i = nI (o i)) (hn : ¬ ((∀ p, p < 4 → og_cn o p = og_cn o 0) ∧ og_cn o 0 ≠ 0) → post (-4) (f_on, f_firstLeader, f_trumpSuit, f_count, a_holders, a_begun, a_played, a_players, a_waiting, a_values, a_leasts, a_ways)) (K : (∀ p, p < 4 → og_cn o p = og_cn o 0) → og_cn o 0 ≠ 0 → ∀ a_holders_1 a_begun_1 : Nat → Int32, (∀ i, i < 12 → a_holders_1 i = nI (o i) ∧ a_begun_1 i = nI (o i)) → post (nI (og_cn o 0)) (1, nI l, x2, 0, a_holders_1, a_begun_1, a_played, a_players, a_waiting, a_values, a_leasts, a_ways)) : wpY_start post (f_on, f_firstLeader, f_trumpSuit, f_count, a_holders, a_begun, a_played, a_players, a_waiting, a_values, a_leasts, a_ways) (nI l) x2 := by
  have c0 := hD.2.2 0 (by omega)
  have c1 := hD.2.2 1 (by omega)
  have c2 := hD.2.2 2 (by omega)
  have c3 := hD.2.2 3 (by omega)
  have c4 := og_cn_12 o 4
  have es : og_sm o 12 = og_cn o 0 + 16 * og_cn o 1 + 256 * og_cn o 2 + 4096 * og_cn o 3 + 65536 * og_cn o 4 := rfl
  unfold wpY_start
  dsimp only
  refine br_f (nI_pos (by omega)) (br_f (show ¬ (3 : Int32) < nI l from nI_nlt (a := 3) (by omega) (by decide)) (br_f g1 (br_t g2 ?_)))
  have L : ∀ (d k : Nat), k + d = 12 → wY_start_26 post (nI l) x2 f_on f_firstLeader f_trumpSuit f_count a_holders a_begun a_played a_players a_waiting a_values a_leasts a_ways (d + 1) (nI (og_sm o k)) (nI k) := by
    intro d
    induction d with
    | zero =>
      intro k hk
      obtain rfl : k = 12 := by omega
      refine br_t (show (12 : Int32) ≤ nI 12 from Int32.le_refl _) ?_
      have e15 : nI (og_sm o 12) &&& 15 = nI (og_cn o 0) := by
        rw [pk_andN (by omega) (m := 15) 4 (by decide)]
        exact congrArg nI (by omega)
      have e16 : nI (og_sm o 12) &&& 65535 = nI (og_cn o 0 + 16 * og_cn o 1 + 256 * og_cn o 2 + 4096 * og_cn o 3) := by
        rw [pk_andN (by omega) (m := 65535) 16 (by decide)]
        exact congrArg nI (by omega)
      have em : nI (og_cn o 0) * 4369 = nI (og_cn o 0 * 4369) := pk_mul (og_cn o 0) 4369
      refine nm_r e15 ?_
      rw [e16, em]
      refine pk_eq _ _ (fun z => ?_) (fun z => ?_) rfl rfl (by omega) (by omega)
      · have he : ∀ p, p < 4 → og_cn o p = og_cn o 0 := by
          intro p hp
          obtain ⟨y1, y2, y3⟩ := og_dig c0 c1 c2 c3 z
          rcases (by omega : p = 0 ∨ p = 1 ∨ p = 2 ∨ p = 3) with y | y | y | y
          · rw [y]
          · rw [y]; exact y1
          · rw [y]; exact y2
          · rw [y]; exact y3
        unfold wY_start_80
        refine br_c (fun y => hn (fun q => ?_)) (fun y => br_f (by decide) (oy_start_s h0 h1 ?_))
        · rw [← nI_0, nI_eq (by omega) (by omega)] at y
          exact q.2 y
        · intro a_holders_1 a_begun_1 hh
          exact K he (fun q => y (by rw [q]; rfl)) a_holders_1 a_begun_1 hh
      · have hne : ¬ ((∀ p, p < 4 → og_cn o p = og_cn o 0) ∧ og_cn o 0 ≠ 0) := by
          intro q
          have q1 := q.1 1 (by omega)
          have q2 := q.1 2 (by omega)
          have q3 := q.1 3 (by omega)
          omega
        unfold wY_start_80
        exact br_c (fun _ => hn hne) (fun _ => br_t rfl (hn hne))
    | succ d ih =>
      intro k hk
      have r := ih (k + 1) (by omega)
      have hk4 := hD.1 k
      rw [og_sm_s hk4] at r
      refine br_f (show ¬ (12 : Int32) ≤ nI k from nI_ge (b := 12) (by omega) (by decide)) ?_
      refine oy_held (o := o) (by omega) (fun y => h0 y k (by omega)) (fun y => h1 y k (by omega)) (nm_r (e' := nI (og_sm o k + 16 ^ o k)) (by rw [og_s16 _ (by omega), nI_add]) (nm_r (nI_1 k) r))
  exact ⟨_, L 12 0 (by omega)⟩
end
end
section
/-! questions: may a card be played, value, after, best -/
def og_av (tr : Int32) (o : Nat → Nat) (l : Nat) (cs : List Nat) (n c : Nat) : Int := (og_wc 0 (og_hW tr o l (c :: cs)) : Int) + og_V 0 tr n (og_hO tr o l (c :: cs)) (og_hL tr o l (c :: cs)) (og_hT tr o l (c :: cs))
def og_vn (k : Nat) (tr : Int32) (o : Nat → Nat) (l : Nat) (cs : List Nat) (n : Nat) : Int := (og_wc 0 (og_hW tr o l cs) : Int) + og_V k tr n (og_hO tr o l cs) (og_hL tr o l cs) (og_hT tr o l cs)
def og_P (tr : Int32) (o : Nat → Nat) (l : Nat) (cs : List Nat) (n c : Nat) : Bool := og_lg (og_hO tr o l cs) (og_hL tr o l cs) (og_hT tr o l cs) c && decide (iI (og_av tr o l cs (n - 1) c) = iI (og_vn 0 tr o l cs n))
def og_fr (P : Nat → Bool) : Nat → Nat → Int32
  | 0, _ => -4
  | d + 1, i => if P i = true then nI i else og_fr P d (i + 1)
section
variable {f_on f_trump f_lead f_played f_firstWon f_secondWon f_steps f_kind f_entered : Int32} {a_dealt a_hand a_trick a_pastCard a_pastLead a_pastTrick a_pastPlayed a_pastFirst a_pastSecond a_choices a_found a_base : Nat → Int32} {a_tableKey : Nat → Int64} {a_tableValue : Nat → Int32}
variable {o : Nat → Nat} {l : Nat}
theorem ox_may {post : Int32 → Prop} {n c : Nat} {ow : Nat → Nat} {ld : Nat} {tk : List Nat} (C : og_CX ow ld tk f_lead f_played a_hand a_trick) (H : og_I n ow ld tk) (hc : c < 12) (h1 : og_lg ow ld tk c = true → post 1) (h0 : ¬ og_lg ow ld tk c = true → post 0) : wpX_mayPlay post (f_on, f_trump, f_lead, f_played, f_firstWon, f_secondWon, f_steps, f_kind, f_entered, a_dealt, a_hand, a_trick, a_pastCard, a_pastLead, a_pastTrick, a_pastPlayed, a_pastFirst, a_pastSecond, a_choices, a_found, a_base, a_tableKey, a_tableValue) (nI c) := by
  unfold wpX_mayPlay
  dsimp only
  refine br_f (nI_pos (by omega)) (br_f (show ¬ (12 : Int32) ≤ nI c from nI_ge (b := 12) (by omega) (by decide)) (ox_legal C H ?_))
  rw [og_b1 _ hc]
  by_cases z : og_lg ow ld tk c = true
  · rw [if_pos z]
    exact br_t rfl (h1 z)
  · rw [if_neg z]
    exact br_f (by decide) (h0 z)
theorem ox_may_n {post : Int32 → Prop} {x : Int32} (hx : x < 0 ∨ 12 ≤ x) (h : post 0) : wpX_mayPlay post (f_on, f_trump, f_lead, f_played, f_firstWon, f_secondWon, f_steps, f_kind, f_entered, a_dealt, a_hand, a_trick, a_pastCard, a_pastLead, a_pastTrick, a_pastPlayed, a_pastFirst, a_pastSecond, a_choices, a_found, a_base, a_tableKey, a_tableValue) x := by
  unfold wpX_mayPlay
  dsimp only
  by_cases z : x < 0
  · exact br_t z h
  · exact br_f z (br_t (hx.resolve_left z) h)
theorem ox_val {post : Int32 → SX → Prop} {n : Nat} {cs : List Nat} (R : og_RX f_trump o l cs f_lead f_played f_firstWon f_secondWon f_steps a_hand a_trick a_pastCard a_pastLead a_pastTrick a_pastPlayed a_pastFirst a_pastSecond) (H : og_I n (og_hO f_trump o l cs) (og_hL f_trump o l cs) (og_hT f_trump o l cs)) (h12 : cs.length + n ≤ 12) (K : ∀ (f_kind_1 : Int32) (f_lead_1 f_played_1 f_firstWon_1 f_secondWon_1 f_steps_1 : Int32) (a_hand_1 a_trick_1 a_pastCard_1 a_pastLead_1 a_pastTrick_1 a_pastPlayed_1 a_pastFirst_1 a_pastSecond_1 : Nat → Int32) (a_choices_1 a_found_1 a_base_1 : Nat → Int32) (f_entered_1 : Int32) (a_tableKey_1 : Nat → Int64) (a_tableValue_1 : Nat → Int32), og_RX f_trump o l cs f_lead_1 f_played_1 f_firstWon_1 f_secondWon_1 f_steps_1 a_hand_1 a_trick_1 a_pastCard_1 a_pastLead_1 a_pastTrick_1 a_pastPlayed_1 a_pastFirst_1 a_pastSecond_1 → post (iI (og_vn 0 f_trump o l cs n)) (f_on, f_trump, f_lead_1, f_played_1, f_firstWon_1, f_secondWon_1, f_steps_1, f_kind_1, f_entered_1, a_dealt, a_hand_1, a_trick_1, a_pastCard_1, a_pastLead_1, a_pastTrick_1, a_pastPlayed_1, a_pastFirst_1, a_pastSecond_1, a_choices_1, a_found_1, a_base_1, a_tableKey_1, a_tableValue_1)) : wpX_valueNow post (f_on, f_trump, f_lead, f_played, f_firstWon, f_secondWon, f_steps, f_kind, f_entered, a_dealt, a_hand, a_trick, a_pastCard, a_pastLead, a_pastTrick, a_pastPlayed, a_pastFirst, a_pastSecond, a_choices, a_found, a_base, a_tableKey, a_tableValue) := by
  unfold wpX_valueNow
  dsimp only
  refine ox_search (k := 0) (by omega) R H h12 ?_
  intro f_lead_1 f_played_1 f_firstWon_1 f_secondWon_1 f_steps_1 a_hand_1 a_trick_1 a_pastCard_1 a_pastLead_1 a_pastTrick_1 a_pastPlayed_1 a_pastFirst_1 a_pastSecond_1 a_choices_1 a_found_1 a_base_1 f_entered_1 a_tableKey_1 a_tableValue_1 R1
  dsimp only
  have e : f_firstWon_1 + iI (og_V 0 f_trump n (og_hO f_trump o l cs) (og_hL f_trump o l cs) (og_hT f_trump o l cs)) = iI (og_vn 0 f_trump o l cs n) := by
    rw [R1.2.1, ← iI_nI, ← iI_add]
    rfl
  rw [e]
  exact K _ f_lead_1 f_played_1 f_firstWon_1 f_secondWon_1 f_steps_1 a_hand_1 a_trick_1 a_pastCard_1 a_pastLead_1 a_pastTrick_1 a_pastPlayed_1 a_pastFirst_1 a_pastSecond_1 a_choices_1 a_found_1 a_base_1 f_entered_1 a_tableKey_1 a_tableValue_1 R1
theorem ox_after {post : Int32 → SX → Prop} {n c : Nat} {cs : List Nat} (hon : ¬ f_on = 0) (R : og_RX f_trump o l cs f_lead f_played f_firstWon f_secondWon f_steps a_hand a_trick a_pastCard a_pastLead a_pastTrick a_pastPlayed a_pastFirst a_pastSecond) (H : og_I (n + 1) (og_hO f_trump o l cs) (og_hL f_trump o l cs) (og_hT f_trump o l cs)) (h12 : cs.length + (n + 1) ≤ 12) (hc : c < 12) (hl : og_lg (og_hO f_trump o l cs) (og_hL f_trump o l cs) (og_hT f_trump o l cs) c = true) (K : ∀ (f_kind_1 : Int32) (f_lead_1 f_played_1 f_firstWon_1 f_secondWon_1 f_steps_1 : Int32) (a_hand_1 a_trick_1 a_pastCard_1 a_pastLead_1 a_pastTrick_1 a_pastPlayed_1 a_pastFirst_1 a_pastSecond_1 : Nat → Int32) (a_choices_1 a_found_1 a_base_1 : Nat → Int32) (f_entered_1 : Int32) (a_tableKey_1 : Nat → Int64) (a_tableValue_1 : Nat → Int32), og_RX f_trump o l cs f_lead_1 f_played_1 f_firstWon_1 f_secondWon_1 f_steps_1 a_hand_1 a_trick_1 a_pastCard_1 a_pastLead_1 a_pastTrick_1 a_pastPlayed_1 a_pastFirst_1 a_pastSecond_1 → post (iI (og_av f_trump o l cs n c)) (f_on, f_trump, f_lead_1, f_played_1, f_firstWon_1, f_secondWon_1, f_steps_1, f_kind_1, f_entered_1, a_dealt, a_hand_1, a_trick_1, a_pastCard_1, a_pastLead_1, a_pastTrick_1, a_pastPlayed_1, a_pastFirst_1, a_pastSecond_1, a_choices_1, a_found_1, a_base_1, a_tableKey_1, a_tableValue_1)) : wpX_after post (f_on, f_trump, f_lead, f_played, f_firstWon, f_secondWon, f_steps, f_kind, f_entered, a_dealt, a_hand, a_trick, a_pastCard, a_pastLead, a_pastTrick, a_pastPlayed, a_pastFirst, a_pastSecond, a_choices, a_found, a_base, a_tableKey, a_tableValue) (nI c) := by
  have H1 : og_I n (og_hO f_trump o l (c :: cs)) (og_hL f_trump o l (c :: cs)) (og_hT f_trump o l (c :: cs)) := og_I_nx f_trump H hc hl
  unfold wpX_after
  dsimp only
  refine br_f hon (ox_may R.1 H hc (fun _ => br_f (by decide) (ox_push R H hc hl (by omega) ?_)) (fun z => absurd hl z))
  intro f_lead_1 f_played_1 f_firstWon_1 f_secondWon_1 f_steps_1 a_hand_1 a_trick_1 a_pastCard_1 a_pastLead_1 a_pastTrick_1 a_pastPlayed_1 a_pastFirst_1 a_pastSecond_1 R1
  dsimp only
  refine ox_val R1 H1 (by rw [List.length_cons]; omega) ?_
  intro f_kind_2 f_lead_2 f_played_2 f_firstWon_2 f_secondWon_2 f_steps_2 a_hand_2 a_trick_2 a_pastCard_2 a_pastLead_2 a_pastTrick_2 a_pastPlayed_2 a_pastFirst_2 a_pastSecond_2 a_choices_2 a_found_2 a_base_2 f_entered_2 a_tableKey_2 a_tableValue_2 R2
  dsimp only
  refine ox_pop R2 H hc hl (by omega) ?_
  intro f_lead_3 f_played_3 f_firstWon_3 f_secondWon_3 f_steps_3 a_hand_3 a_trick_3 a_pastCard_3 a_pastLead_3 a_pastTrick_3 a_pastPlayed_3 a_pastFirst_3 a_pastSecond_3 R3
  dsimp only
  exact K f_kind_2 f_lead_3 f_played_3 f_firstWon_3 f_secondWon_3 f_steps_3 a_hand_3 a_trick_3 a_pastCard_3 a_pastLead_3 a_pastTrick_3 a_pastPlayed_3 a_pastFirst_3 a_pastSecond_3 a_choices_2 a_found_2 a_base_2 f_entered_2 a_tableKey_2 a_tableValue_2 R3
end
section
variable {f_on f_trump : Int32} {a_dealt : Nat → Int32}
variable {o : Nat → Nat} {l : Nat}
theorem ox_best_l {post : Int32 → SX → Prop} {n : Nat} {cs : List Nat} (hon : ¬ f_on = 0) (H : og_I n (og_hO f_trump o l cs) (og_hL f_trump o l cs) (og_hT f_trump o l cs)) (h12 : cs.length + n ≤ 12) : ∀ (d i : Nat) (f_kind : Int32) (f_lead f_played f_firstWon f_secondWon f_steps : Int32) (a_hand a_trick a_pastCard a_pastLead a_pastTrick a_pastPlayed a_pastFirst a_pastSecond : Nat → Int32) (a_choices a_found a_base : Nat → Int32) (f_entered : Int32) (a_tableKey : Nat → Int64) (a_tableValue : Nat → Int32), i + d = 12 → og_RX f_trump o l cs f_lead f_played f_firstWon f_secondWon f_steps a_hand a_trick a_pastCard a_pastLead a_pastTrick a_pastPlayed a_pastFirst a_pastSecond → (∀ (f_kind_1 : Int32) (f_lead_1 f_played_1 f_firstWon_1 f_secondWon_1 f_steps_1 : Int32) (a_hand_1 a_trick_1 a_pastCard_1 a_pastLead_1 a_pastTrick_1 a_pastPlayed_1 a_pastFirst_1 a_pastSecond_1 : Nat → Int32) (a_choices_1 a_found_1 a_base_1 : Nat → Int32) (f_entered_1 : Int32) (a_tableKey_1 : Nat → Int64) (a_tableValue_1 : Nat → Int32), og_RX f_trump o l cs f_lead_1 f_played_1 f_firstWon_1 f_secondWon_1 f_steps_1 a_hand_1 a_trick_1 a_pastCard_1 a_pastLead_1 a_pastTrick_1 a_pastPlayed_1 a_pastFirst_1 a_pastSecond_1 → post (og_fr (og_P f_trump o l cs n) d i) (f_on, f_trump, f_lead_1, f_played_1, f_firstWon_1, f_secondWon_1, f_steps_1, f_kind_1, f_entered_1, a_dealt, a_hand_1, a_trick_1, a_pastCard_1, a_pastLead_1, a_pastTrick_1, a_pastPlayed_1, a_pastFirst_1, a_pastSecond_1, a_choices_1, a_found_1, a_base_1, a_tableKey_1, a_tableValue_1)) → wX_best_22 post (nI (og_mf (og_lg (og_hO f_trump o l cs) (og_hL f_trump o l cs) (og_hT f_trump o l cs)))) (iI (og_vn 0 f_trump o l cs n)) (d + 1) (nI i) f_on f_trump f_lead f_played f_firstWon f_secondWon f_steps f_kind f_entered a_dealt a_hand a_trick a_pastCard a_pastLead a_pastTrick a_pastPlayed a_pastFirst a_pastSecond a_choices a_found a_base a_tableKey a_tableValue := by
  intro d
  induction d with
  | zero =>
    intro i f_kind f_lead f_played f_firstWon f_secondWon f_steps a_hand a_trick a_pastCard a_pastLead a_pastTrick a_pastPlayed a_pastFirst a_pastSecond a_choices a_found a_base f_entered a_tableKey a_tableValue hi R K
    obtain rfl : i = 12 := by omega
    exact br_t (show (12 : Int32) ≤ nI 12 from Int32.le_refl _) (K f_kind f_lead f_played f_firstWon f_secondWon f_steps a_hand a_trick a_pastCard a_pastLead a_pastTrick a_pastPlayed a_pastFirst a_pastSecond a_choices a_found a_base f_entered a_tableKey a_tableValue R)
  | succ d ih =>
    intro i f_kind f_lead f_played f_firstWon f_secondWon f_steps a_hand a_trick a_pastCard a_pastLead a_pastTrick a_pastPlayed a_pastFirst a_pastSecond a_choices a_found a_base f_entered a_tableKey a_tableValue hi R K
    refine br_f (show ¬ (12 : Int32) ≤ nI i from nI_ge (b := 12) (by omega) (by decide)) ?_
    rw [og_b1 _ (by omega)]
    by_cases z : og_lg (og_hO f_trump o l cs) (og_hL f_trump o l cs) (og_hT f_trump o l cs) i = true
    · rw [if_pos z]
      have hp := og_I_pos H (show i < 12 by omega) (og_lg_ow z)
      obtain ⟨n, rfl⟩ : ∃ n', n = n' + 1 := ⟨n - 1, by omega⟩
      refine br_t rfl (ox_after hon R H h12 (by omega) z ?_)
      intro f_kind_1 f_lead_1 f_played_1 f_firstWon_1 f_secondWon_1 f_steps_1 a_hand_1 a_trick_1 a_pastCard_1 a_pastLead_1 a_pastTrick_1 a_pastPlayed_1 a_pastFirst_1 a_pastSecond_1 a_choices_1 a_found_1 a_base_1 f_entered_1 a_tableKey_1 a_tableValue_1 R1
      dsimp only
      refine br_c (fun y => ?_) (fun y => nm_r (nI_1 i) (ih (i + 1) f_kind_1 f_lead_1 f_played_1 f_firstWon_1 f_secondWon_1 f_steps_1 a_hand_1 a_trick_1 a_pastCard_1 a_pastLead_1 a_pastTrick_1 a_pastPlayed_1 a_pastFirst_1 a_pastSecond_1 a_choices_1 a_found_1 a_base_1 f_entered_1 a_tableKey_1 a_tableValue_1 (by omega) R1 ?_))
      · have e : og_fr (og_P f_trump o l cs (n + 1)) (d + 1) i = nI i := by
          unfold og_fr
          rw [if_pos]
          unfold og_P
          rw [z, Bool.true_and]
          exact decide_eq_true y
        rw [e] at K
        exact K f_kind_1 f_lead_1 f_played_1 f_firstWon_1 f_secondWon_1 f_steps_1 a_hand_1 a_trick_1 a_pastCard_1 a_pastLead_1 a_pastTrick_1 a_pastPlayed_1 a_pastFirst_1 a_pastSecond_1 a_choices_1 a_found_1 a_base_1 f_entered_1 a_tableKey_1 a_tableValue_1 R1
      · have e : og_fr (og_P f_trump o l cs (n + 1)) (d + 1) i = og_fr (og_P f_trump o l cs (n + 1)) d (i + 1) := by
          show (if _ then _ else _) = _
          rw [if_neg]
          unfold og_P
          rw [z, Bool.true_and, decide_eq_true_eq]
          exact y
        rw [e] at K
        exact K
    · rw [if_neg z]
      refine br_f (by decide) (nm_r (nI_1 i) (ih (i + 1) f_kind f_lead f_played f_firstWon f_secondWon f_steps a_hand a_trick a_pastCard a_pastLead a_pastTrick a_pastPlayed a_pastFirst a_pastSecond a_choices a_found a_base f_entered a_tableKey a_tableValue (by omega) R ?_))
      have e : og_fr (og_P f_trump o l cs n) (d + 1) i = og_fr (og_P f_trump o l cs n) d (i + 1) := by
        show (if _ then _ else _) = _
        rw [if_neg]
        unfold og_P
        rw [Bool.and_eq_true]
        exact fun q => z q.1
      rw [e] at K
      exact K
end
section
variable {f_on f_trump f_lead f_played f_firstWon f_secondWon f_steps f_kind f_entered : Int32} {a_dealt a_hand a_trick a_pastCard a_pastLead a_pastTrick a_pastPlayed a_pastFirst a_pastSecond a_choices a_found a_base : Nat → Int32} {a_tableKey : Nat → Int64} {a_tableValue : Nat → Int32}
variable {o : Nat → Nat} {l : Nat}
theorem ox_bst {post : Int32 → SX → Prop} {n : Nat} {cs : List Nat} (hon : ¬ f_on = 0) (R : og_RX f_trump o l cs f_lead f_played f_firstWon f_secondWon f_steps a_hand a_trick a_pastCard a_pastLead a_pastTrick a_pastPlayed a_pastFirst a_pastSecond) (H : og_I n (og_hO f_trump o l cs) (og_hL f_trump o l cs) (og_hT f_trump o l cs)) (h12 : cs.length + n ≤ 12) (K : ∀ (f_kind_1 : Int32) (f_lead_1 f_played_1 f_firstWon_1 f_secondWon_1 f_steps_1 : Int32) (a_hand_1 a_trick_1 a_pastCard_1 a_pastLead_1 a_pastTrick_1 a_pastPlayed_1 a_pastFirst_1 a_pastSecond_1 : Nat → Int32) (a_choices_1 a_found_1 a_base_1 : Nat → Int32) (f_entered_1 : Int32) (a_tableKey_1 : Nat → Int64) (a_tableValue_1 : Nat → Int32), og_RX f_trump o l cs f_lead_1 f_played_1 f_firstWon_1 f_secondWon_1 f_steps_1 a_hand_1 a_trick_1 a_pastCard_1 a_pastLead_1 a_pastTrick_1 a_pastPlayed_1 a_pastFirst_1 a_pastSecond_1 → post (og_fr (og_P f_trump o l cs n) 12 0) (f_on, f_trump, f_lead_1, f_played_1, f_firstWon_1, f_secondWon_1, f_steps_1, f_kind_1, f_entered_1, a_dealt, a_hand_1, a_trick_1, a_pastCard_1, a_pastLead_1, a_pastTrick_1, a_pastPlayed_1, a_pastFirst_1, a_pastSecond_1, a_choices_1, a_found_1, a_base_1, a_tableKey_1, a_tableValue_1)) : wpX_best post (f_on, f_trump, f_lead, f_played, f_firstWon, f_secondWon, f_steps, f_kind, f_entered, a_dealt, a_hand, a_trick, a_pastCard, a_pastLead, a_pastTrick, a_pastPlayed, a_pastFirst, a_pastSecond, a_choices, a_found, a_base, a_tableKey, a_tableValue) := by
  unfold wpX_best
  dsimp only
  refine br_f hon (ox_legal R.1 H (ox_val R H h12 ?_))
  intro f_kind_1 f_lead_1 f_played_1 f_firstWon_1 f_secondWon_1 f_steps_1 a_hand_1 a_trick_1 a_pastCard_1 a_pastLead_1 a_pastTrick_1 a_pastPlayed_1 a_pastFirst_1 a_pastSecond_1 a_choices_1 a_found_1 a_base_1 f_entered_1 a_tableKey_1 a_tableValue_1 R1
  dsimp only
  exact ⟨13, ox_best_l hon H h12 12 0 f_kind_1 f_lead_1 f_played_1 f_firstWon_1 f_secondWon_1 f_steps_1 a_hand_1 a_trick_1 a_pastCard_1 a_pastLead_1 a_pastTrick_1 a_pastPlayed_1 a_pastFirst_1 a_pastSecond_1 a_choices_1 a_found_1 a_base_1 f_entered_1 a_tableKey_1 a_tableValue_1 (by omega) R1 K⟩
end
section
variable {f_on f_firstLeader f_trumpSuit f_count : Int32} {a_holders a_begun a_played a_players a_waiting a_values a_leasts a_ways : Nat → Int32}
variable {o : Nat → Nat} {l : Nat}
theorem oy_may {post : Int32 → Prop} {n c : Nat} {cs : List Nat} (hf : f_firstLeader = nI l) (R : og_RY f_trumpSuit o l cs f_count a_holders a_played a_players) (ok : og_ok f_trumpSuit o l cs) (H : og_I n (og_hO f_trumpSuit o l cs) (og_hL f_trumpSuit o l cs) (og_hT f_trumpSuit o l cs)) (h12 : cs.length + n ≤ 12) (hc : c < 12) (h1 : og_lg (og_hO f_trumpSuit o l cs) (og_hL f_trumpSuit o l cs) (og_hT f_trumpSuit o l cs) c = true → post 1) (h0 : ¬ og_lg (og_hO f_trumpSuit o l cs) (og_hL f_trumpSuit o l cs) (og_hT f_trumpSuit o l cs) c = true → post 0) : wpY_isAllowed post (f_on, f_firstLeader, f_trumpSuit, f_count, a_holders, a_begun, a_played, a_players, a_waiting, a_values, a_leasts, a_ways) (nI c) := by
  unfold wpY_isAllowed
  dsimp only
  refine br_f (nI_pos (by omega)) (br_f (show ¬ (11 : Int32) < nI c from nI_nlt (a := 11) (by omega) (by decide)) (oy_allow R hf ok H h12 ?_))
  rw [og_b1 _ hc]
  by_cases z : og_lg (og_hO f_trumpSuit o l cs) (og_hL f_trumpSuit o l cs) (og_hT f_trumpSuit o l cs) c = true
  · rw [if_pos z]
    exact br_t rfl (h1 z)
  · rw [if_neg z]
    exact br_f (by decide) (h0 z)
theorem oy_may_n {post : Int32 → Prop} {x : Int32} (hx : x < 0 ∨ 11 < x) (h : post 0) : wpY_isAllowed post (f_on, f_firstLeader, f_trumpSuit, f_count, a_holders, a_begun, a_played, a_players, a_waiting, a_values, a_leasts, a_ways) x := by
  unfold wpY_isAllowed
  dsimp only
  by_cases z : x < 0
  · exact br_t z h
  · exact br_f z (br_t (hx.resolve_left z) h)
theorem oy_vaft {post : Int32 → SY → Prop} {n c : Nat} {cs : List Nat} (hf : f_firstLeader = nI l) (R : og_RY f_trumpSuit o l cs f_count a_holders a_played a_players) (ok : og_ok f_trumpSuit o l cs) (H : og_I (n + 1) (og_hO f_trumpSuit o l cs) (og_hL f_trumpSuit o l cs) (og_hT f_trumpSuit o l cs)) (h12 : cs.length + (n + 1) ≤ 12) (hc : c < 12) (hl : og_lg (og_hO f_trumpSuit o l cs) (og_hL f_trumpSuit o l cs) (og_hT f_trumpSuit o l cs) c = true) (K : ∀ (f_count_1 : Int32) (a_holders_1 a_played_1 a_players_1 : Nat → Int32) (a_waiting_1 a_values_1 a_leasts_1 a_ways_1 : Nat → Int32), og_RY f_trumpSuit o l cs f_count_1 a_holders_1 a_played_1 a_players_1 → post (iI (og_av f_trumpSuit o l cs n c)) (f_on, f_firstLeader, f_trumpSuit, f_count_1, a_holders_1, a_begun, a_played_1, a_players_1, a_waiting_1, a_values_1, a_leasts_1, a_ways_1)) : wpY_valueAfter post (f_on, f_firstLeader, f_trumpSuit, f_count, a_holders, a_begun, a_played, a_players, a_waiting, a_values, a_leasts, a_ways) (nI c) := by
  have H1 : og_I n (og_hO f_trumpSuit o l (c :: cs)) (og_hL f_trumpSuit o l (c :: cs)) (og_hT f_trumpSuit o l (c :: cs)) := og_I_nx f_trumpSuit H hc hl
  unfold wpY_valueAfter
  dsimp only
  refine oy_lay R hc hl (by omega) ?_
  intro f_count_1 a_holders_1 a_played_1 a_players_1 R1
  dsimp only
  refine oy_search hf R1 ⟨⟨hc, hl⟩, ok⟩ H1 (by rw [List.length_cons]; omega) ?_
  intro f_count_2 a_holders_2 a_played_2 a_players_2 a_waiting_2 a_values_2 a_leasts_2 a_ways_2 R2 FN
  dsimp only
  refine oy_back R2 hc hl (by omega) ?_
  intro a_holders_3 _ R3
  dsimp only
  rw [FN.1]
  exact K _ _ _ _ _ _ _ _ R3
end
section
variable {f_on f_firstLeader f_trumpSuit : Int32} {a_begun : Nat → Int32}
variable {o : Nat → Nat} {l : Nat}
theorem oy_best_l {post : Int32 → SY → Prop} {n : Nat} {cs : List Nat} (hf : f_firstLeader = nI l) (ok : og_ok f_trumpSuit o l cs) (H : og_I n (og_hO f_trumpSuit o l cs) (og_hL f_trumpSuit o l cs) (og_hT f_trumpSuit o l cs)) (h12 : cs.length + n ≤ 12) : ∀ (d i : Nat) (f_count : Int32) (a_holders a_played a_players : Nat → Int32) (a_waiting a_values a_leasts a_ways : Nat → Int32), i + d = 12 → og_RY f_trumpSuit o l cs f_count a_holders a_played a_players → (∀ (f_count_1 : Int32) (a_holders_1 a_played_1 a_players_1 : Nat → Int32) (a_waiting_1 a_values_1 a_leasts_1 a_ways_1 : Nat → Int32), og_RY f_trumpSuit o l cs f_count_1 a_holders_1 a_played_1 a_players_1 → post (og_fr (og_P f_trumpSuit o l cs n) d i) (f_on, f_firstLeader, f_trumpSuit, f_count_1, a_holders_1, a_begun, a_played_1, a_players_1, a_waiting_1, a_values_1, a_leasts_1, a_ways_1)) → wY_best_23 post (iI (og_vn 0 f_trumpSuit o l cs n)) (d + 1) (nI i) f_on f_firstLeader f_trumpSuit f_count a_holders a_begun a_played a_players a_waiting a_values a_leasts a_ways := by
  intro d
  induction d with
  | zero =>
    intro i f_count a_holders a_played a_players a_waiting a_values a_leasts a_ways hi R K
    obtain rfl : i = 12 := by omega
    exact br_t (show (12 : Int32) ≤ nI 12 from Int32.le_refl _) (K f_count a_holders a_played a_players a_waiting a_values a_leasts a_ways R)
  | succ d ih =>
    intro i f_count a_holders a_played a_players a_waiting a_values a_leasts a_ways hi R K
    refine br_f (show ¬ (12 : Int32) ≤ nI i from nI_ge (b := 12) (by omega) (by decide)) ?_
    refine oy_may hf R ok H h12 (by omega) (fun z => br_f (by decide) ?_) (fun z => br_t rfl (nm_r (nI_1 i) (ih (i + 1) f_count a_holders a_played a_players a_waiting a_values a_leasts a_ways (by omega) R ?_)))
    · have hp := og_I_pos H (show i < 12 by omega) (og_lg_ow z)
      obtain ⟨n, rfl⟩ : ∃ n', n = n' + 1 := ⟨n - 1, by omega⟩
      refine oy_vaft hf R ok H h12 (by omega) z ?_
      intro f_count_1 a_holders_1 a_played_1 a_players_1 a_waiting_1 a_values_1 a_leasts_1 a_ways_1 R1
      dsimp only
      refine br_c (fun y => ?_) (fun y => nm_r (nI_1 i) (ih (i + 1) f_count_1 a_holders_1 a_played_1 a_players_1 a_waiting_1 a_values_1 a_leasts_1 a_ways_1 (by omega) R1 ?_))
      · have e : og_fr (og_P f_trumpSuit o l cs (n + 1)) (d + 1) i = nI i := by
          unfold og_fr
          rw [if_pos]
          unfold og_P
          rw [z, Bool.true_and]
          exact decide_eq_true y
        rw [e] at K
        exact K f_count_1 a_holders_1 a_played_1 a_players_1 a_waiting_1 a_values_1 a_leasts_1 a_ways_1 R1
      · have e : og_fr (og_P f_trumpSuit o l cs (n + 1)) (d + 1) i = og_fr (og_P f_trumpSuit o l cs (n + 1)) d (i + 1) := by
          show (if _ then _ else _) = _
          rw [if_neg]
          unfold og_P
          rw [z, Bool.true_and, decide_eq_true_eq]
          exact y
        rw [e] at K
        exact K
    · have e : og_fr (og_P f_trumpSuit o l cs n) (d + 1) i = og_fr (og_P f_trumpSuit o l cs n) d (i + 1) := by
        show (if _ then _ else _) = _
        rw [if_neg]
        unfold og_P
        rw [Bool.and_eq_true]
        exact fun q => z q.1
      rw [e] at K
      exact K
end
section
variable {f_on f_firstLeader f_trumpSuit f_count : Int32} {a_holders a_begun a_played a_players a_waiting a_values a_leasts a_ways : Nat → Int32}
variable {o : Nat → Nat} {l : Nat}
theorem oy_bst {post : Int32 → SY → Prop} {n : Nat} {cs : List Nat} (hon : ¬ f_on = 0) (hf : f_firstLeader = nI l) (R : og_RY f_trumpSuit o l cs f_count a_holders a_played a_players) (ok : og_ok f_trumpSuit o l cs) (H : og_I n (og_hO f_trumpSuit o l cs) (og_hL f_trumpSuit o l cs) (og_hT f_trumpSuit o l cs)) (h12 : cs.length + n ≤ 12) (K : ∀ (f_count_1 : Int32) (a_holders_1 a_played_1 a_players_1 : Nat → Int32) (a_waiting_1 a_values_1 a_leasts_1 a_ways_1 : Nat → Int32), og_RY f_trumpSuit o l cs f_count_1 a_holders_1 a_played_1 a_players_1 → post (og_fr (og_P f_trumpSuit o l cs n) 12 0) (f_on, f_firstLeader, f_trumpSuit, f_count_1, a_holders_1, a_begun, a_played_1, a_players_1, a_waiting_1, a_values_1, a_leasts_1, a_ways_1)) : wpY_best post (f_on, f_firstLeader, f_trumpSuit, f_count, a_holders, a_begun, a_played, a_players, a_waiting, a_values, a_leasts, a_ways) := by
  unfold wpY_best
  dsimp only
  refine br_f hon (oy_search hf R ok H h12 ?_)
  intro f_count_1 a_holders_1 a_played_1 a_players_1 a_waiting_1 a_values_1 a_leasts_1 a_ways_1 R1 FN
  dsimp only
  refine nm_r (e' := iI (og_vn 0 f_trumpSuit o l cs n)) FN.1 ⟨13, ?_⟩
  exact oy_best_l hf ok H h12 12 0 f_count_1 a_holders_1 a_played_1 a_players_1 a_waiting_1 a_values_1 a_leasts_1 a_ways_1 (by omega) R1 K
end
end
section
/-! the relation -/
def og_Rel (f_on f_trump : Int32) (a_dealt : Nat → Int32) (f_lead f_played f_firstWon f_secondWon f_steps : Int32) (a_hand a_trick a_pastCard a_pastLead a_pastTrick a_pastPlayed a_pastFirst a_pastSecond : Nat → Int32) (g_on f_firstLeader f_trumpSuit : Int32) (a_begun : Nat → Int32) (f_count : Int32) (a_holders a_played a_players : Nat → Int32) : Prop :=
  ∃ o : Nat → Nat, og_D o ∧ (∀ p, p < 4 → a_dealt p = nI (og_mf (fun i => o i == p))) ∧
  ((f_on = 0 ∧ g_on = 0 ∧ (∀ p, p < 4 → a_hand p = nI (og_mf (fun i => o i == p))) ∧ (∀ i, i < 12 → a_holders i = nI (o i))) ∨
   (f_on = 1 ∧ g_on = 1 ∧ (∀ i, i < 12 → a_begun i = nI (o i)) ∧ f_trumpSuit = f_trump ∧ ∃ (l N : Nat) (cs : List Nat), f_firstLeader = nI l ∧ og_I N o l [] ∧ og_ok f_trump o l cs ∧ og_RX f_trump o l cs f_lead f_played f_firstWon f_secondWon f_steps a_hand a_trick a_pastCard a_pastLead a_pastTrick a_pastPlayed a_pastFirst a_pastSecond ∧ og_RY f_trump o l cs f_count a_holders a_played a_players))
/-- the relation at the head of a turn -/
def i_Rel (_ : Nat) (u : SX) (v : SY) : Prop := match u with
  | (f_on, f_trump, f_lead, f_played, f_firstWon, f_secondWon, f_steps, f_kind, f_entered, a_dealt, a_hand, a_trick, a_pastCard, a_pastLead, a_pastTrick, a_pastPlayed, a_pastFirst, a_pastSecond, a_choices, a_found, a_base, a_tableKey, a_tableValue) => match v with
    | (g_on, f_firstLeader, f_trumpSuit, f_count, a_holders, a_begun, a_played, a_players, a_waiting, a_values, a_leasts, a_ways) => og_Rel f_on f_trump a_dealt f_lead f_played f_firstWon f_secondWon f_steps a_hand a_trick a_pastCard a_pastLead a_pastTrick a_pastPlayed a_pastFirst a_pastSecond g_on f_firstLeader f_trumpSuit a_begun f_count a_holders a_played a_players
theorem i_up {k : Nat} {u : SX} {v : SY} (h : i_Rel k u v) : i_Rel (k + 3) u v := h
theorem og_lt4 (x : Int32) : x < 4 ↔ x ≤ 3 := by
  rw [Int32.lt_iff_toInt_lt, Int32.le_iff_toInt_le, show (4 : Int32).toInt = 4 from by decide, show (3 : Int32).toInt = 3 from by decide]
  omega
theorem og_le12 (x : Int32) : 12 ≤ x ↔ 11 < x := by
  rw [Int32.lt_iff_toInt_lt, Int32.le_iff_toInt_le, show (12 : Int32).toInt = 12 from by decide, show (11 : Int32).toInt = 11 from by decide]
  omega
theorem og_lt3 (x : Int32) : 3 < x ↔ ¬ x < 4 := by
  rw [Int32.lt_iff_toInt_lt, Int32.lt_iff_toInt_lt, show (4 : Int32).toInt = 4 from by decide, show (3 : Int32).toInt = 3 from by decide]
  omega
section
variable {f_on f_trump f_lead f_played f_firstWon f_secondWon f_steps f_kind f_entered : Int32} {a_dealt a_hand a_trick a_pastCard a_pastLead a_pastTrick a_pastPlayed a_pastFirst a_pastSecond a_choices a_found a_base : Nat → Int32} {a_tableKey : Nat → Int64} {a_tableValue : Nat → Int32}
variable {g_on f_firstLeader f_trumpSuit f_count : Int32} {a_holders a_begun a_played a_players a_waiting a_values a_leasts a_ways : Nat → Int32}
variable {k : Nat}
theorem os_h {o : Nat → Nat} (I : (f_on = 0 ∧ g_on = 0 ∧ (∀ p, p < 4 → a_hand p = nI (og_mf (fun i => o i == p))) ∧ (∀ i, i < 12 → a_holders i = nI (o i))) ∨
   (f_on = 1 ∧ g_on = 1 ∧ (∀ i, i < 12 → a_begun i = nI (o i)) ∧ f_trumpSuit = f_trump ∧ ∃ (l N : Nat) (cs : List Nat), f_firstLeader = nI l ∧ og_I N o l [] ∧ og_ok f_trump o l cs ∧ og_RX f_trump o l cs f_lead f_played f_firstWon f_secondWon f_steps a_hand a_trick a_pastCard a_pastLead a_pastTrick a_pastPlayed a_pastFirst a_pastSecond ∧ og_RY f_trump o l cs f_count a_holders a_played a_players)) : (g_on = 0 → ∀ i, i < 12 → a_holders i = nI (o i)) ∧ (¬ g_on = 0 → ∀ i, i < 12 → a_begun i = nI (o i)) := by
  rcases I with ⟨e1, e2, e3, e4⟩ | ⟨e1, e2, e3, _⟩
  · exact ⟨fun _ => e4, fun z => absurd e2 z⟩
  · refine ⟨fun z => ?_, fun _ => e3⟩
    rw [e2] at z
    exact absurd z (by decide)
theorem os_D4 : og_D (fun _ => 4) := by
  refine ⟨fun _ => Nat.le_refl _, fun _ _ => rfl, ?_⟩
  intro p hp
  have e : og_cn (fun _ => 4) p = 0 := by
    unfold og_cn
    rw [og_ct_0]
    intro i hi
    simp; omega
  omega
theorem os_m4 {p : Nat} (hp : p < 4) : (0 : Int32) = nI (og_mf (fun _ => 4 == p)) := by
  symm
  rw [og_z]
  intro i hi
  simp; omega
theorem os_deal (I : og_Rel f_on f_trump a_dealt f_lead f_played f_firstWon f_secondWon f_steps a_hand a_trick a_pastCard a_pastLead a_pastTrick a_pastPlayed a_pastFirst a_pastSecond g_on f_firstLeader f_trumpSuit a_begun f_count a_holders a_played a_players) (v1 v2 : Int32) : wpX_deal (fun r u' => wpY_deal (fun r' v' => r' = r ∧ i_Rel (k + 3) u' v') (g_on, f_firstLeader, f_trumpSuit, f_count, a_holders, a_begun, a_played, a_players, a_waiting, a_values, a_leasts, a_ways) v1 v2) (f_on, f_trump, f_lead, f_played, f_firstWon, f_secondWon, f_steps, f_kind, f_entered, a_dealt, a_hand, a_trick, a_pastCard, a_pastLead, a_pastTrick, a_pastPlayed, a_pastFirst, a_pastSecond, a_choices, a_found, a_base, a_tableKey, a_tableValue) v1 v2 := by
  obtain ⟨o, D, hD, J⟩ := id I
  obtain ⟨h0, h1⟩ := os_h J
  unfold wpX_deal
  dsimp only
  have Y : ∀ {P : Int32 → SY → Prop}, P (-1) (g_on, f_firstLeader, f_trumpSuit, f_count, a_holders, a_begun, a_played, a_players, a_waiting, a_values, a_leasts, a_ways) → (v1 < 0 ∨ 12 ≤ v1 ∨ v2 < -1 ∨ ¬ v2 < 4) → wpY_deal P (g_on, f_firstLeader, f_trumpSuit, f_count, a_holders, a_begun, a_played, a_players, a_waiting, a_values, a_leasts, a_ways) v1 v2 := by
    intro P hp h
    unfold wpY_deal
    dsimp only
    by_cases z1 : v1 < 0
    · exact br_t z1 hp
    · refine br_f z1 ?_
      by_cases z2 : 12 ≤ v1
      · exact br_t ((og_le12 v1).mp z2) hp
      · refine br_f (fun q => z2 ((og_le12 v1).mpr q)) ?_
        by_cases z3 : v2 < -1
        · exact br_t z3 hp
        · exact br_f z3 (br_f (fun q => (((h.resolve_left z1).resolve_left z2).resolve_left z3) ((og_lt4 v2).mpr q)) hp)
  by_cases z1 : v1 < 0
  · exact br_t z1 (Y ⟨rfl, I⟩ (Or.inl z1))
  refine br_f z1 ?_
  by_cases z2 : 12 ≤ v1
  · exact br_t z2 (Y ⟨rfl, I⟩ (Or.inr (Or.inl z2)))
  refine br_f z2 ?_
  by_cases z3 : v2 < -1
  · exact br_t z3 (Y ⟨rfl, I⟩ (Or.inr (Or.inr (Or.inl z3))))
  refine br_f z3 ?_
  by_cases z4 : v2 < 4
  · refine br_t z4 ?_
    obtain ⟨c, _, rfl⟩ := nI_of z1
    have hc : c < 12 := by
      rcases Nat.lt_or_ge c 12 with y | y
      · exact y
      · exact absurd (show (12 : Int32) ≤ nI c from nI_le (a := 12) y (by omega)) z2
    have G : ∀ (q : Nat), q ≤ 4 → (q < 4 → og_ct (fun i => (o i == q) && !(i == c)) 12 ≠ 3) → ∀ (a_dealt_1 a_hand_1 a_holders_1 : Nat → Int32), (∀ p, p < 4 → a_dealt_1 p = nI (og_mf (fun i => og_to o c q i == p))) → (∀ p, p < 4 → a_hand_1 p = nI (og_mf (fun i => og_to o c q i == p))) → (∀ i, i < 12 → a_holders_1 i = nI (og_to o c q i)) → i_Rel (k + 3) (0, f_trump, f_lead, f_played, f_firstWon, f_secondWon, f_steps, f_kind, f_entered, a_dealt_1, a_hand_1, a_trick, a_pastCard, a_pastLead, a_pastTrick, a_pastPlayed, a_pastFirst, a_pastSecond, a_choices, a_found, a_base, a_tableKey, a_tableValue) (0, f_firstLeader, f_trumpSuit, 0, a_holders_1, a_begun, a_played, a_players, a_waiting, a_values, a_leasts, a_ways) := by
      intro q hq hq3 d1 d2 d3 e1 e2 e3
      exact ⟨og_to o c q, og_D_to D hc hq hq3, e1, Or.inl ⟨rfl, rfl, e2, e3⟩⟩
    have Y2 : ∀ {P : Int32 → SY → Prop}, (∃ n27 : Nat, wY_deal_27 P (nI c) v2 g_on f_firstLeader f_trumpSuit f_count a_holders a_begun a_played a_players a_waiting a_values a_leasts a_ways n27 0 0) → wpY_deal P (g_on, f_firstLeader, f_trumpSuit, f_count, a_holders, a_begun, a_played, a_players, a_waiting, a_values, a_leasts, a_ways) (nI c) v2 := by
      intro P hp
      unfold wpY_deal
      dsimp only
      exact br_f z1 (br_f (fun q => z2 ((og_le12 _).mpr q)) (br_f z3 (br_t ((og_lt4 v2).mp z4) hp)))
    by_cases z5 : v2 < 0
    · refine br_t z5 (ox_deal_l (q := 4) hc ?_ hD ?_)
      · intro j hj
        constructor
        · intro q
          rw [← q] at z5
          exact absurd z5 (nI_pos (by omega))
        · intro q; omega
      · intro d1 d2 e1 e2
        apply Y2
        have ct5 : og_ct (fun i => (o i == 5) && !(i == c)) 12 = 0 := by
          rw [og_ct_0]
          intro i hi
          have := D.1 i
          have : (o i == 5) = false := by simp; omega
          rw [this, Bool.false_and]
        refine oy_own (o := o) (q := 5) hc D.1 ?_ h0 h1 (fun w => by omega) (fun _ => oy_deal_l (o := o) (q := 4) hc (by omega) D.1 (Or.inr ⟨Int32.not_le.mpr z5, rfl⟩) h0 h1 ?_)
        · intro j hj
          constructor
          · intro q
            rw [← q] at z5
            exact absurd z5 (nI_pos (by omega))
          · intro q; omega
        · intro d3 e3
          exact ⟨rfl, G 4 (by omega) (fun w => by omega) d1 d2 d3 e1 e2 e3⟩
    · obtain ⟨p, hp, rfl⟩ := nI_of z5
      have hp4 : p < 4 := by
        rw [show (4 : Int32) = nI 4 from rfl, nI_ltI hp (by omega)] at z4
        exact z4
      refine br_f z5 ⟨vp_in_nI hp4 (by decide), ox_size ?_⟩
      rw [nI_clamp (n := p) (by omega), hD p hp4, og_cl _ hc, og_szm _ 12 (by omega)]
      have b : og_ct (fun i => (o i == p) && !(i == c)) 12 ≤ og_ct (fun _ => true) 12 := og_ct_le (fun _ _ _ => rfl)
      have b2 : og_ct (fun _ => true) 12 = 12 := by decide
      refine pk_eq (og_ct (fun i => (o i == p) && !(i == c)) 12) 3 (fun z => ?_) (fun z => ?_)
      · apply Y2
        refine oy_own (o := o) (q := p) hc D.1 (fun j hj => nI_eq (by omega) (by omega)) h0 h1 (fun _ => ⟨rfl, I⟩) (fun w => absurd z w)
      · refine ox_deal_l (q := p) hc (fun j hj => nI_eq (by omega) (by omega)) hD ?_
        intro d1 d2 e1 e2
        apply Y2
        refine oy_own (o := o) (q := p) hc D.1 (fun j hj => nI_eq (by omega) (by omega)) h0 h1 (fun w => absurd w z) (fun _ => oy_deal_l (o := o) (q := p) hc (by omega) D.1 (Or.inl ⟨nI_pos' (by omega), rfl⟩) h0 h1 ?_)
        intro d3 e3
        exact ⟨rfl, G p (by omega) (fun _ => z) d1 d2 d3 e1 e2 e3⟩
  · exact br_f z4 (Y ⟨rfl, I⟩ (Or.inr (Or.inr (Or.inr z4))))
theorem os_clear : wpX_clear (fun u' => wpY_clear (fun v' => i_Rel (k + 3) u' v') (g_on, f_firstLeader, f_trumpSuit, f_count, a_holders, a_begun, a_played, a_players, a_waiting, a_values, a_leasts, a_ways)) (f_on, f_trump, f_lead, f_played, f_firstWon, f_secondWon, f_steps, f_kind, f_entered, a_dealt, a_hand, a_trick, a_pastCard, a_pastLead, a_pastTrick, a_pastPlayed, a_pastFirst, a_pastSecond, a_choices, a_found, a_base, a_tableKey, a_tableValue) := by
  refine ox_clr ?_
  intro d1 d2 e
  refine oy_clr ?_
  intro d3 e3
  refine ⟨fun _ => 4, os_D4, fun p hp => by rw [(e p hp).1]; exact os_m4 hp, Or.inl ⟨rfl, rfl, fun p hp => by rw [(e p hp).2]; exact os_m4 hp, fun i hi => by rw [e3 i hi]; rfl⟩⟩
theorem os_start (I : og_Rel f_on f_trump a_dealt f_lead f_played f_firstWon f_secondWon f_steps a_hand a_trick a_pastCard a_pastLead a_pastTrick a_pastPlayed a_pastFirst a_pastSecond g_on f_firstLeader f_trumpSuit a_begun f_count a_holders a_played a_players) (v1 v2 : Int32) : wpX_start (fun r u' => wpY_start (fun r' v' => r' = r ∧ i_Rel (k + 3) u' v') (g_on, f_firstLeader, f_trumpSuit, f_count, a_holders, a_begun, a_played, a_players, a_waiting, a_values, a_leasts, a_ways) v1 v2) (f_on, f_trump, f_lead, f_played, f_firstWon, f_secondWon, f_steps, f_kind, f_entered, a_dealt, a_hand, a_trick, a_pastCard, a_pastLead, a_pastTrick, a_pastPlayed, a_pastFirst, a_pastSecond, a_choices, a_found, a_base, a_tableKey, a_tableValue) v1 v2 := by
  obtain ⟨o, D, hD, J⟩ := id I
  obtain ⟨h0, h1⟩ := os_h J
  have Y : ∀ {P : Int32 → SY → Prop}, P (-1) (g_on, f_firstLeader, f_trumpSuit, f_count, a_holders, a_begun, a_played, a_players, a_waiting, a_values, a_leasts, a_ways) → (v1 < 0 ∨ ¬ v1 < 4 ∨ v2 < -1 ∨ ¬ v2 ≤ 2) → wpY_start P (g_on, f_firstLeader, f_trumpSuit, f_count, a_holders, a_begun, a_played, a_players, a_waiting, a_values, a_leasts, a_ways) v1 v2 := by
    intro P hp h
    unfold wpY_start
    dsimp only
    by_cases z1 : v1 < 0
    · exact br_t z1 hp
    · refine br_f z1 ?_
      by_cases z2 : v1 < 4
      · refine br_f (fun q => (og_lt3 v1).mp q z2) ?_
        by_cases z3 : v2 < -1
        · exact br_t z3 hp
        · exact br_f z3 (br_f ((h.resolve_left z1).resolve_left (fun q => q z2) |>.resolve_left z3) hp)
      · exact br_t ((og_lt3 v1).mpr z2) hp
  by_cases z1 : v1 < 0 ∨ ¬ v1 < 4
  · unfold wpX_start
    dsimp only
    refine ox_bad' z1 (br_f (by decide) (Y ⟨rfl, I⟩ ?_))
    rcases z1 with y | y
    · exact Or.inl y
    · exact Or.inr (Or.inl y)
  · have z0 : ¬ v1 < 0 := fun q => z1 (Or.inl q)
    have z4 : v1 < 4 := by
      by_cases q : v1 < 4
      · exact q
      · exact absurd (Or.inr q) z1
    obtain ⟨l, hl, rfl⟩ := nI_of z0
    have hl4 : l < 4 := by
      rw [show (4 : Int32) = nI 4 from rfl, nI_ltI hl (by omega)] at z4
      exact z4
    by_cases z3 : v2 < -1
    · unfold wpX_start
      dsimp only
      exact ox_bad hl4 (br_t rfl (br_t z3 (Y ⟨rfl, I⟩ (Or.inr (Or.inr (Or.inl z3))))))
    by_cases z5 : v2 ≤ 2
    · refine ox_start (o := o) hl4 z3 z5 hD (fun w => ?_) (fun w1 w2 d1 e1 => ?_)
      · exact oy_start (o := o) hl4 z3 z5 D h0 h1 (fun _ => ⟨rfl, I⟩) (fun a b => absurd ⟨a, b⟩ w)
      · refine oy_start (o := o) hl4 z3 z5 D h0 h1 (fun q => absurd ⟨w1, w2⟩ q) (fun _ _ d2 d3 e2 => ⟨rfl, o, D, hD, Or.inr ⟨rfl, rfl, fun i hi => (e2 i hi).2, rfl, l, 4 * og_cn o 0, [], rfl, ?_, trivial, ?_, ?_⟩⟩)
        · refine ⟨D.1, D.2.1, hl4, by decide, fun c hc => absurd hc (by simp), og_cn o 0, D.2.2 0 (by omega), rfl, ?_⟩
          intro i hi
          rw [if_neg (by simp)]
          exact w1 _ (Nat.mod_lt _ (by decide))
        · exact ⟨⟨rfl, rfl, e1, fun i hi => absurd hi (Nat.not_lt_zero _)⟩, rfl, rfl, rfl, trivial⟩
        · exact ⟨rfl, fun i hi => (e2 i hi).1, trivial⟩
    · unfold wpX_start
      dsimp only
      exact ox_bad hl4 (br_t rfl (br_f z3 (br_f z5 (Y ⟨rfl, I⟩ (Or.inr (Or.inr (Or.inr z5)))))))
end
end
section
/-! the other methods, side by side -/
section
variable {f_on f_trump f_lead f_played f_firstWon f_secondWon f_steps f_kind f_entered : Int32} {a_dealt a_hand a_trick a_pastCard a_pastLead a_pastTrick a_pastPlayed a_pastFirst a_pastSecond a_choices a_found a_base : Nat → Int32} {a_tableKey : Nat → Int64} {a_tableValue : Nat → Int32}
variable {g_on f_firstLeader f_trumpSuit f_count : Int32} {a_holders a_begun a_played a_players a_waiting a_values a_leasts a_ways : Nat → Int32}
variable {k : Nat}
/-- off, or on with a history -/
theorem os_el {Q : Prop} (I : og_Rel f_on f_trump a_dealt f_lead f_played f_firstWon f_secondWon f_steps a_hand a_trick a_pastCard a_pastLead a_pastTrick a_pastPlayed a_pastFirst a_pastSecond g_on f_firstLeader f_trumpSuit a_begun f_count a_holders a_played a_players) (h0 : f_on = 0 → g_on = 0 → (∃ ow : Nat → Nat, (∀ c, ow c ≤ 4) ∧ (∀ p, p < 4 → a_hand p = nI (og_mf (fun i => ow i == p))) ∧ (∀ i, i < 12 → a_holders i = nI (ow i))) → Q)
    (h1 : f_on = 1 → g_on = 1 → f_trumpSuit = f_trump → ∀ (o : Nat → Nat) (l N n : Nat) (cs : List Nat), f_firstLeader = nI l → og_I N o l [] → og_ok f_trump o l cs → og_RX f_trump o l cs f_lead f_played f_firstWon f_secondWon f_steps a_hand a_trick a_pastCard a_pastLead a_pastTrick a_pastPlayed a_pastFirst a_pastSecond → og_RY f_trump o l cs f_count a_holders a_played a_players → og_I n (og_hO f_trump o l cs) (og_hL f_trump o l cs) (og_hT f_trump o l cs) → cs.length + n ≤ 12 → (∀ (cs_1 : List Nat) (f_lead_1 f_played_1 f_firstWon_1 f_secondWon_1 f_steps_1 : Int32) (a_hand_1 a_trick_1 a_pastCard_1 a_pastLead_1 a_pastTrick_1 a_pastPlayed_1 a_pastFirst_1 a_pastSecond_1 : Nat → Int32) (f_count_1 : Int32) (a_holders_1 a_played_1 a_players_1 : Nat → Int32), og_ok f_trump o l cs_1 → og_RX f_trump o l cs_1 f_lead_1 f_played_1 f_firstWon_1 f_secondWon_1 f_steps_1 a_hand_1 a_trick_1 a_pastCard_1 a_pastLead_1 a_pastTrick_1 a_pastPlayed_1 a_pastFirst_1 a_pastSecond_1 → og_RY f_trump o l cs_1 f_count_1 a_holders_1 a_played_1 a_players_1 → og_Rel 1 f_trump a_dealt f_lead_1 f_played_1 f_firstWon_1 f_secondWon_1 f_steps_1 a_hand_1 a_trick_1 a_pastCard_1 a_pastLead_1 a_pastTrick_1 a_pastPlayed_1 a_pastFirst_1 a_pastSecond_1 1 f_firstLeader f_trump a_begun f_count_1 a_holders_1 a_played_1 a_players_1) → Q) : Q := by
  obtain ⟨o, D, hD, ⟨e1, e2, e3, e4⟩ | ⟨e1, e2, e3, e4, l, N, cs, e5, e6, e7, e8, e9⟩⟩ := I
  · exact h0 e1 e2 ⟨o, D.1, e3, e4⟩
  · obtain ⟨n, n1, n2⟩ := og_ok_I e6 cs e7
    have := og_I_12 e6
    refine h1 e1 e2 e4 o l N n cs e5 e6 e7 e8 e9 n2 (by omega) ?_
    intro cs_1 f_lead_1 f_played_1 f_firstWon_1 f_secondWon_1 f_steps_1 a_hand_1 a_trick_1 a_pastCard_1 a_pastLead_1 a_pastTrick_1 a_pastPlayed_1 a_pastFirst_1 a_pastSecond_1 f_count_1 a_holders_1 a_played_1 a_players_1 k1 k2 k3
    exact ⟨o, D, hD, Or.inr ⟨rfl, rfl, e3, rfl, l, N, cs_1, e5, e6, k1, k2, k3⟩⟩
theorem og_10 : ¬ (1 : Int32) = 0 := by decide
theorem os_hand (I : og_Rel f_on f_trump a_dealt f_lead f_played f_firstWon f_secondWon f_steps a_hand a_trick a_pastCard a_pastLead a_pastTrick a_pastPlayed a_pastFirst a_pastSecond g_on f_firstLeader f_trumpSuit a_begun f_count a_holders a_played a_players) (v1 : Int32) : wpX_hand (fun r => wpY_hand (fun r' => r' = r ∧ i_Rel (k + 3) (f_on, f_trump, f_lead, f_played, f_firstWon, f_secondWon, f_steps, f_kind, f_entered, a_dealt, a_hand, a_trick, a_pastCard, a_pastLead, a_pastTrick, a_pastPlayed, a_pastFirst, a_pastSecond, a_choices, a_found, a_base, a_tableKey, a_tableValue) (g_on, f_firstLeader, f_trumpSuit, f_count, a_holders, a_begun, a_played, a_players, a_waiting, a_values, a_leasts, a_ways)) (g_on, f_firstLeader, f_trumpSuit, f_count, a_holders, a_begun, a_played, a_players, a_waiting, a_values, a_leasts, a_ways) v1) (f_on, f_trump, f_lead, f_played, f_firstWon, f_secondWon, f_steps, f_kind, f_entered, a_dealt, a_hand, a_trick, a_pastCard, a_pastLead, a_pastTrick, a_pastPlayed, a_pastFirst, a_pastSecond, a_choices, a_found, a_base, a_tableKey, a_tableValue) v1 := by
  have E : ∃ ow : Nat → Nat, (∀ c, ow c ≤ 4) ∧ (∀ p, p < 4 → a_hand p = nI (og_mf (fun i => ow i == p))) ∧ (∀ i, i < 12 → a_holders i = nI (ow i)) := by
    refine os_el I (fun _ _ h => h) ?_
    intro _ _ _ o l N n cs _ _ _ R RY H _ _
    exact ⟨_, H.1, R.1.2.2.1, RY.2.1⟩
  obtain ⟨ow, w1, w2, w3⟩ := E
  unfold wpX_hand wpY_hand
  dsimp only
  rcases pk_ix v1 (n := 4) (by decide) with z | z | ⟨p, hp, rfl⟩
  · exact ox_bad' (Or.inl z) (br_f (by decide) (br_t z ⟨rfl, I⟩))
  · have z4 : ¬ v1 < 4 := Int32.not_lt.mpr z
    refine ox_bad' (Or.inr z4) (br_f (by decide) ?_)
    by_cases y : v1 < 0
    · exact br_t y ⟨rfl, I⟩
    · exact br_f y (br_f (fun q => z4 ((og_lt4 v1).mpr q)) ⟨rfl, I⟩)
  · refine ox_bad hp (br_t rfl ⟨vp_in_nI hp (by decide), ?_⟩)
    rw [nI_clamp (n := p) (by omega), w2 p hp]
    exact br_f (nI_pos (by omega)) (br_t (nI_le (b := 3) (by omega) (by decide)) (oy_hand w3 w1 hp ⟨rfl, I⟩))
theorem os_toPlay (I : og_Rel f_on f_trump a_dealt f_lead f_played f_firstWon f_secondWon f_steps a_hand a_trick a_pastCard a_pastLead a_pastTrick a_pastPlayed a_pastFirst a_pastSecond g_on f_firstLeader f_trumpSuit a_begun f_count a_holders a_played a_players) : wpX_toPlay (fun r => wpY_toPlay (fun r' => r' = r ∧ i_Rel (k + 3) (f_on, f_trump, f_lead, f_played, f_firstWon, f_secondWon, f_steps, f_kind, f_entered, a_dealt, a_hand, a_trick, a_pastCard, a_pastLead, a_pastTrick, a_pastPlayed, a_pastFirst, a_pastSecond, a_choices, a_found, a_base, a_tableKey, a_tableValue) (g_on, f_firstLeader, f_trumpSuit, f_count, a_holders, a_begun, a_played, a_players, a_waiting, a_values, a_leasts, a_ways)) (g_on, f_firstLeader, f_trumpSuit, f_count, a_holders, a_begun, a_played, a_players, a_waiting, a_values, a_leasts, a_ways)) (f_on, f_trump, f_lead, f_played, f_firstWon, f_secondWon, f_steps, f_kind, f_entered, a_dealt, a_hand, a_trick, a_pastCard, a_pastLead, a_pastTrick, a_pastPlayed, a_pastFirst, a_pastSecond, a_choices, a_found, a_base, a_tableKey, a_tableValue) := by
  unfold wpX_toPlay wpY_toPlay
  dsimp only
  refine os_el I (fun e1 e2 _ => br_t e1 (br_t e2 ⟨rfl, I⟩)) ?_
  intro e1 e2 e3 o l N n cs hf HN ok R RY H h12 _
  subst e3
  have hm := og_mv_lt (og_hL f_trumpSuit o l cs) (og_hT f_trumpSuit o l cs)
  refine br_f (by rw [e1]; decide) (ox_mover R.1 H.2.2.1 H.2.2.2.1 ⟨vp_in_nI hm (by decide), ?_⟩)
  rw [nI_clamp (by omega), R.1.2.2.1 _ hm]
  refine br_c (fun z => br_f (by rw [e2]; decide) (oy_turn RY hf ok H h12 (fun _ => ⟨rfl, I⟩) (fun hn => ?_))) (fun z => ox_mover R.1 H.2.2.1 H.2.2.2.1 (br_f (by rw [e2]; decide) (oy_turn RY hf ok H h12 (fun hn => ?_) (fun _ => ⟨rfl, I⟩))))
  · obtain ⟨n, rfl⟩ : ∃ n', n = n' + 1 := ⟨n - 1, by omega⟩
    obtain ⟨c, c1, c2⟩ := og_I_ex H
    have := og_z.mp z c c1
    simp [c2] at this
  · subst hn
    have e := og_I_0 H
    refine absurd (og_z.mpr ?_) z
    intro i hi
    rw [e.2 i]
    simp; omega
theorem os_legal (I : og_Rel f_on f_trump a_dealt f_lead f_played f_firstWon f_secondWon f_steps a_hand a_trick a_pastCard a_pastLead a_pastTrick a_pastPlayed a_pastFirst a_pastSecond g_on f_firstLeader f_trumpSuit a_begun f_count a_holders a_played a_players) : wpX_legal (fun r => wpY_legal (fun r' => r' = r ∧ i_Rel (k + 3) (f_on, f_trump, f_lead, f_played, f_firstWon, f_secondWon, f_steps, f_kind, f_entered, a_dealt, a_hand, a_trick, a_pastCard, a_pastLead, a_pastTrick, a_pastPlayed, a_pastFirst, a_pastSecond, a_choices, a_found, a_base, a_tableKey, a_tableValue) (g_on, f_firstLeader, f_trumpSuit, f_count, a_holders, a_begun, a_played, a_players, a_waiting, a_values, a_leasts, a_ways)) (g_on, f_firstLeader, f_trumpSuit, f_count, a_holders, a_begun, a_played, a_players, a_waiting, a_values, a_leasts, a_ways)) (f_on, f_trump, f_lead, f_played, f_firstWon, f_secondWon, f_steps, f_kind, f_entered, a_dealt, a_hand, a_trick, a_pastCard, a_pastLead, a_pastTrick, a_pastPlayed, a_pastFirst, a_pastSecond, a_choices, a_found, a_base, a_tableKey, a_tableValue) := by
  unfold wpX_legal wpY_legal
  dsimp only
  refine os_el I (fun e1 e2 _ => br_t e1 (br_t e2 ⟨rfl, I⟩)) ?_
  intro e1 e2 e3 o l N n cs hf HN ok R RY H h12 _
  subst e3
  exact br_f (by rw [e1]; decide) (ox_legal R.1 H (br_f (by rw [e2]; decide) (oy_allow RY hf ok H h12 ⟨rfl, I⟩)))
theorem os_play (I : og_Rel f_on f_trump a_dealt f_lead f_played f_firstWon f_secondWon f_steps a_hand a_trick a_pastCard a_pastLead a_pastTrick a_pastPlayed a_pastFirst a_pastSecond g_on f_firstLeader f_trumpSuit a_begun f_count a_holders a_played a_players) (v1 : Int32) : wpX_play (fun r u' => wpY_play (fun r' v' => r' = r ∧ i_Rel (k + 3) u' v') (g_on, f_firstLeader, f_trumpSuit, f_count, a_holders, a_begun, a_played, a_players, a_waiting, a_values, a_leasts, a_ways) v1) (f_on, f_trump, f_lead, f_played, f_firstWon, f_secondWon, f_steps, f_kind, f_entered, a_dealt, a_hand, a_trick, a_pastCard, a_pastLead, a_pastTrick, a_pastPlayed, a_pastFirst, a_pastSecond, a_choices, a_found, a_base, a_tableKey, a_tableValue) v1 := by
  unfold wpX_play wpY_play
  dsimp only
  refine os_el I (fun e1 e2 _ => br_t e1 (br_t e2 ⟨rfl, I⟩)) ?_
  intro e1 e2 e3 o l N n cs hf HN ok R RY H h12 KR
  subst e3 e1 e2
  refine br_f og_10 ?_
  rcases (show v1 < 0 ∨ 12 ≤ v1 ∨ ∃ c, c < 12 ∧ v1 = nI c from pk_ix v1 (n := 12) (by decide)) with z | z | ⟨c, hc, rfl⟩
  · exact ox_may_n (Or.inl z) (br_t rfl (br_f og_10 (oy_may_n (Or.inl z) (br_t rfl ⟨rfl, I⟩))))
  · exact ox_may_n (Or.inr z) (br_t rfl (br_f og_10 (oy_may_n (Or.inr ((og_le12 v1).mp z)) (br_t rfl ⟨rfl, I⟩))))
  · refine ox_may R.1 H hc (fun hl => br_f (by decide) ?_) (fun hl => br_t rfl (br_f og_10 (oy_may hf RY ok H h12 hc (fun q => absurd q hl) (fun _ => br_t rfl ⟨rfl, I⟩))))
    have hp := og_I_pos H hc (og_lg_ow hl)
    refine ox_push R H hc hl (by omega) ?_
    intro f_lead_1 f_played_1 f_firstWon_1 f_secondWon_1 f_steps_1 a_hand_1 a_trick_1 a_pastCard_1 a_pastLead_1 a_pastTrick_1 a_pastPlayed_1 a_pastFirst_1 a_pastSecond_1 R1
    dsimp only
    obtain ⟨l1, l2⟩ := og_hlen (tr := f_trumpSuit) (o := o) (l := l) cs
    have F : ∀ a : Int32, a = nI (cs.length % 4 + 1) → ((1 : Int32) = 0 → -3 = a ∧ i_Rel (k + 3) (1, f_trumpSuit, f_lead_1, f_played_1, f_firstWon_1, f_secondWon_1, f_steps_1, f_kind, f_entered, a_dealt, a_hand_1, a_trick_1, a_pastCard_1, a_pastLead_1, a_pastTrick_1, a_pastPlayed_1, a_pastFirst_1, a_pastSecond_1, a_choices, a_found, a_base, a_tableKey, a_tableValue) (1, f_firstLeader, f_trumpSuit, f_count, a_holders, a_begun, a_played, a_players, a_waiting, a_values, a_leasts, a_ways)) ∧ (¬ (1 : Int32) = 0 → wpY_isAllowed (fun r_2 => (r_2 = 0 → -4 = a ∧ i_Rel (k + 3) (1, f_trumpSuit, f_lead_1, f_played_1, f_firstWon_1, f_secondWon_1, f_steps_1, f_kind, f_entered, a_dealt, a_hand_1, a_trick_1, a_pastCard_1, a_pastLead_1, a_pastTrick_1, a_pastPlayed_1, a_pastFirst_1, a_pastSecond_1, a_choices, a_found, a_base, a_tableKey, a_tableValue) (1, f_firstLeader, f_trumpSuit, f_count, a_holders, a_begun, a_played, a_players, a_waiting, a_values, a_leasts, a_ways)) ∧ (¬ r_2 = 0 → wpY_lay (fun u => match u with | (f_on_5, f_firstLeader_5, f_trumpSuit_5, f_count_5, a_holders_5, a_begun_5, a_played_5, a_players_5, a_waiting_5, a_values_5, a_leasts_5, a_ways_5) => ¬ (4 : Int32) = 0 ∧ (((f_count_5 - 1) - (f_count_5 - 1) / 4 * 4) + 1 = a ∧ i_Rel (k + 3) (1, f_trumpSuit, f_lead_1, f_played_1, f_firstWon_1, f_secondWon_1, f_steps_1, f_kind, f_entered, a_dealt, a_hand_1, a_trick_1, a_pastCard_1, a_pastLead_1, a_pastTrick_1, a_pastPlayed_1, a_pastFirst_1, a_pastSecond_1, a_choices, a_found, a_base, a_tableKey, a_tableValue) (f_on_5, f_firstLeader_5, f_trumpSuit_5, f_count_5, a_holders_5, a_begun_5, a_played_5, a_players_5, a_waiting_5, a_values_5, a_leasts_5, a_ways_5))) (1, f_firstLeader, f_trumpSuit, f_count, a_holders, a_begun, a_played, a_players, a_waiting, a_values, a_leasts, a_ways) (nI c))) (1, f_firstLeader, f_trumpSuit, f_count, a_holders, a_begun, a_played, a_players, a_waiting, a_values, a_leasts, a_ways) (nI c)) := by
      intro a ea
      refine br_f og_10 (oy_may hf RY ok H h12 hc (fun _ => br_f (by decide) (oy_lay RY hc hl (by omega) ?_)) (fun q => absurd hl q))
      intro f_count_2 a_holders_2 a_played_2 a_players_2 R2
      dsimp only
      refine ⟨og_n4, ?_, KR (c :: cs) f_lead_1 f_played_1 f_firstWon_1 f_secondWon_1 f_steps_1 a_hand_1 a_trick_1 a_pastCard_1 a_pastLead_1 a_pastTrick_1 a_pastPlayed_1 a_pastFirst_1 a_pastSecond_1 f_count_2 a_holders_2 a_played_2 a_players_2 ⟨⟨hc, hl⟩, ok⟩ R1 R2⟩
      rw [R2.1, List.length_cons, nI_pred, og_r4 (by omega), nI_1, ea]
    have eT : (og_hT f_trumpSuit o l (c :: cs)).length = if (og_hT f_trumpSuit o l cs).length = 3 then 0 else (og_hT f_trumpSuit o l cs).length + 1 := by
      rw [og_hT_c]
      unfold og_nt
      split
      · rfl
      · rw [og_len1]
    by_cases z : (og_hT f_trumpSuit o l cs).length = 3
    · rw [if_pos z] at eT
      refine br_t (by rw [R1.1.2.1, eT]; rfl) (F 4 ?_)
      rw [show cs.length % 4 = 3 by omega]
      rfl
    · rw [if_neg z] at eT
      refine br_f (by rw [R1.1.2.1, eT]; exact nI_ne0 (by omega) (by omega)) (F f_played_1 ?_)
      rw [R1.1.2.1, eT]
      exact congrArg nI (by omega)
theorem os_undo (I : og_Rel f_on f_trump a_dealt f_lead f_played f_firstWon f_secondWon f_steps a_hand a_trick a_pastCard a_pastLead a_pastTrick a_pastPlayed a_pastFirst a_pastSecond g_on f_firstLeader f_trumpSuit a_begun f_count a_holders a_played a_players) : wpX_undo (fun r u' => wpY_undo (fun r' v' => r' = r ∧ i_Rel (k + 3) u' v') (g_on, f_firstLeader, f_trumpSuit, f_count, a_holders, a_begun, a_played, a_players, a_waiting, a_values, a_leasts, a_ways)) (f_on, f_trump, f_lead, f_played, f_firstWon, f_secondWon, f_steps, f_kind, f_entered, a_dealt, a_hand, a_trick, a_pastCard, a_pastLead, a_pastTrick, a_pastPlayed, a_pastFirst, a_pastSecond, a_choices, a_found, a_base, a_tableKey, a_tableValue) := by
  unfold wpX_undo wpY_undo
  dsimp only
  refine os_el I (fun e1 e2 _ => br_t e1 (br_t e2 ⟨rfl, I⟩)) ?_
  intro e1 e2 e3 o l N n cs hf HN ok R RY H h12 KR
  subst e3 e1 e2
  refine br_f og_10 ?_
  cases cs with
  | nil => exact br_t R.2.2.2.1 (br_f og_10 (br_t RY.1 ⟨rfl, I⟩))
  | cons c cs =>
    obtain ⟨⟨hc, hl⟩, ok1⟩ := ok
    obtain ⟨n1, q1, H1⟩ := og_ok_I HN cs ok1
    rw [List.length_cons] at h12
    refine br_f (by rw [R.2.2.2.1, List.length_cons]; exact nI_ne0 (by omega) (by omega)) (ox_pop R H1 hc hl (by omega) ?_)
    intro f_lead_1 f_played_1 f_firstWon_1 f_secondWon_1 f_steps_1 a_hand_1 a_trick_1 a_pastCard_1 a_pastLead_1 a_pastTrick_1 a_pastPlayed_1 a_pastFirst_1 a_pastSecond_1 R1
    dsimp only
    refine br_f og_10 (br_f (by rw [RY.1, List.length_cons]; exact nI_ne0 (by omega) (by omega)) (oy_back RY hc hl (by omega) ?_))
    intro d1 e1 R2
    dsimp only
    refine ⟨vp_in_nI (by omega) (by decide), ?_, KR cs _ _ _ _ _ _ _ _ _ _ _ _ _ _ _ _ _ ok1 R1 R2⟩
    rw [nI_clamp (by omega), e1]
theorem os_won (I : og_Rel f_on f_trump a_dealt f_lead f_played f_firstWon f_secondWon f_steps a_hand a_trick a_pastCard a_pastLead a_pastTrick a_pastPlayed a_pastFirst a_pastSecond g_on f_firstLeader f_trumpSuit a_begun f_count a_holders a_played a_players) (v1 : Int32) : wpX_won (fun r => wpY_won (fun r' => r' = r ∧ i_Rel (k + 3) (f_on, f_trump, f_lead, f_played, f_firstWon, f_secondWon, f_steps, f_kind, f_entered, a_dealt, a_hand, a_trick, a_pastCard, a_pastLead, a_pastTrick, a_pastPlayed, a_pastFirst, a_pastSecond, a_choices, a_found, a_base, a_tableKey, a_tableValue) (g_on, f_firstLeader, f_trumpSuit, f_count, a_holders, a_begun, a_played, a_players, a_waiting, a_values, a_leasts, a_ways)) (g_on, f_firstLeader, f_trumpSuit, f_count, a_holders, a_begun, a_played, a_players, a_waiting, a_values, a_leasts, a_ways) v1) (f_on, f_trump, f_lead, f_played, f_firstWon, f_secondWon, f_steps, f_kind, f_entered, a_dealt, a_hand, a_trick, a_pastCard, a_pastLead, a_pastTrick, a_pastPlayed, a_pastFirst, a_pastSecond, a_choices, a_found, a_base, a_tableKey, a_tableValue) v1 := by
  unfold wpX_won wpY_won
  dsimp only
  by_cases z0 : v1 < 0
  · exact br_t z0 (br_t z0 ⟨rfl, I⟩)
  refine br_f z0 ?_
  by_cases z1 : v1 ≤ 1
  · refine br_t z1 ?_
    refine os_el I (fun e1 e2 _ => br_t e1 (br_f z0 (br_t z1 (br_t e2 ⟨rfl, I⟩)))) ?_
    intro e1 e2 e3 o l N n cs hf HN ok R RY H h12 KR
    subst e3
    obtain ⟨j, hj, rfl⟩ := nI_of2 (M := 1) (n := 1) (by decide) z0 z1
    have g1 : ¬ g_on = 0 := by rw [e2]; decide
    refine br_f (by rw [e1]; decide) ?_
    rcases (by omega : j = 0 ∨ j = 1) with y | y
    · subst y
      refine br_t rfl (br_f z0 (br_t z1 (br_f g1 (oy_won RY ok (by omega) (by omega) ⟨?_, I⟩))))
      exact R.2.1.symm
    · subst y
      refine br_f (by decide) (br_f z0 (br_t z1 (br_f g1 (oy_won RY ok (by omega) (by omega) ⟨?_, I⟩))))
      exact R.2.2.1.symm
  · exact br_f z1 (br_f z0 (br_f z1 ⟨rfl, I⟩))
theorem os_winning (I : og_Rel f_on f_trump a_dealt f_lead f_played f_firstWon f_secondWon f_steps a_hand a_trick a_pastCard a_pastLead a_pastTrick a_pastPlayed a_pastFirst a_pastSecond g_on f_firstLeader f_trumpSuit a_begun f_count a_holders a_played a_players) : wpX_winning (fun r => wpY_winning (fun r' => r' = r ∧ i_Rel (k + 3) (f_on, f_trump, f_lead, f_played, f_firstWon, f_secondWon, f_steps, f_kind, f_entered, a_dealt, a_hand, a_trick, a_pastCard, a_pastLead, a_pastTrick, a_pastPlayed, a_pastFirst, a_pastSecond, a_choices, a_found, a_base, a_tableKey, a_tableValue) (g_on, f_firstLeader, f_trumpSuit, f_count, a_holders, a_begun, a_played, a_players, a_waiting, a_values, a_leasts, a_ways)) (g_on, f_firstLeader, f_trumpSuit, f_count, a_holders, a_begun, a_played, a_players, a_waiting, a_values, a_leasts, a_ways)) (f_on, f_trump, f_lead, f_played, f_firstWon, f_secondWon, f_steps, f_kind, f_entered, a_dealt, a_hand, a_trick, a_pastCard, a_pastLead, a_pastTrick, a_pastPlayed, a_pastFirst, a_pastSecond, a_choices, a_found, a_base, a_tableKey, a_tableValue) := by
  unfold wpX_winning wpY_winning
  dsimp only
  refine os_el I (fun e1 e2 _ => br_t e1 (br_t e2 ⟨rfl, I⟩)) ?_
  intro e1 e2 e3 o l N n cs hf HN ok R RY H h12 _
  subst e3
  obtain ⟨l1, l2⟩ := og_hlen (tr := f_trumpSuit) (o := o) (l := l) cs
  obtain ⟨A, B⟩ := og_PY_t cs ok RY.2.2
  have hld := H.2.2.1
  have g1 : ¬ g_on = 0 := by rw [e2]; decide
  refine br_f (by rw [e1]; decide) ?_
  rw [RY.1, og_r4 (by omega), show cs.length % 4 = (og_hT f_trumpSuit o l cs).length by omega]
  by_cases z : (og_hT f_trumpSuit o l cs).length = 0
  · refine br_t (by rw [R.1.2.1, z]; rfl) (br_f g1 ⟨og_n4, br_t (by rw [z]; rfl) ⟨rfl, ?_⟩⟩)
    rw [← RY.1]
    exact I
  · have hb := og_bp_lt (tr := f_trumpSuit) (t := og_at (og_hT f_trumpSuit o l cs)) (n := (og_hT f_trumpSuit o l cs).length) (by omega)
    refine br_f (by rw [R.1.2.1]; exact nI_ne0 (by omega) (by omega)) (ox_best (k := (og_hT f_trumpSuit o l cs).length) (t := og_at (og_hT f_trumpSuit o l cs)) (by omega) (by omega) R.1.2.1 (fun i hi => ⟨(A i hi).1, R.1.2.2.2 i hi⟩) ?_)
    refine br_f g1 ⟨og_n4, br_f (nI_ne0 (by omega) (by omega)) ⟨og_n4, ?_⟩⟩
    have e4 : nI cs.length - nI (og_hT f_trumpSuit o l cs).length = nI (4 * (og_hW f_trumpSuit o l cs).length) := by
      rw [pk_sub (by omega)]
      exact congrArg nI (by omega)
    rw [e4]
    refine oy_win (k := (og_hT f_trumpSuit o l cs).length) (C := cs.length) (t := og_at (og_hT f_trumpSuit o l cs)) rfl (by omega) (by omega) (by omega) (by omega) (Or.inr (by omega)) (fun i hi => ⟨(A i hi).1, (A i hi).2.1⟩) ⟨vp_in_nI (by omega) (by decide), ?_, ?_⟩
    · rw [nI_clamp (by omega), (A _ hb).2.2, R.1.1, nI_add, og_and3 (by omega)]
    · rw [← RY.1]
      exact I
theorem os_value (I : og_Rel f_on f_trump a_dealt f_lead f_played f_firstWon f_secondWon f_steps a_hand a_trick a_pastCard a_pastLead a_pastTrick a_pastPlayed a_pastFirst a_pastSecond g_on f_firstLeader f_trumpSuit a_begun f_count a_holders a_played a_players) : wpX_value (fun r u' => wpY_value (fun r' v' => r' = r ∧ i_Rel (k + 3) u' v') (g_on, f_firstLeader, f_trumpSuit, f_count, a_holders, a_begun, a_played, a_players, a_waiting, a_values, a_leasts, a_ways)) (f_on, f_trump, f_lead, f_played, f_firstWon, f_secondWon, f_steps, f_kind, f_entered, a_dealt, a_hand, a_trick, a_pastCard, a_pastLead, a_pastTrick, a_pastPlayed, a_pastFirst, a_pastSecond, a_choices, a_found, a_base, a_tableKey, a_tableValue) := by
  unfold wpX_value wpY_value
  dsimp only
  refine os_el I (fun e1 e2 _ => br_t e1 (br_t e2 ⟨rfl, I⟩)) ?_
  intro e1 e2 e3 o l N n cs hf HN ok R RY H h12 KR
  subst e3 e1 e2
  refine br_f og_10 (ox_val R H h12 ?_)
  intro f_kind_1 f_lead_1 f_played_1 f_firstWon_1 f_secondWon_1 f_steps_1 a_hand_1 a_trick_1 a_pastCard_1 a_pastLead_1 a_pastTrick_1 a_pastPlayed_1 a_pastFirst_1 a_pastSecond_1 a_choices_1 a_found_1 a_base_1 f_entered_1 a_tableKey_1 a_tableValue_1 R1
  dsimp only
  refine br_f og_10 (oy_search hf RY ok H h12 ?_)
  intro f_count_2 a_holders_2 a_played_2 a_players_2 a_waiting_2 a_values_2 a_leasts_2 a_ways_2 R2 FN
  exact ⟨FN.1, KR cs _ _ _ _ _ _ _ _ _ _ _ _ _ _ _ _ _ ok R1 R2⟩
theorem os_least (I : og_Rel f_on f_trump a_dealt f_lead f_played f_firstWon f_secondWon f_steps a_hand a_trick a_pastCard a_pastLead a_pastTrick a_pastPlayed a_pastFirst a_pastSecond g_on f_firstLeader f_trumpSuit a_begun f_count a_holders a_played a_players) : wpX_least (fun r u' => wpY_least (fun r' v' => r' = r ∧ i_Rel (k + 3) u' v') (g_on, f_firstLeader, f_trumpSuit, f_count, a_holders, a_begun, a_played, a_players, a_waiting, a_values, a_leasts, a_ways)) (f_on, f_trump, f_lead, f_played, f_firstWon, f_secondWon, f_steps, f_kind, f_entered, a_dealt, a_hand, a_trick, a_pastCard, a_pastLead, a_pastTrick, a_pastPlayed, a_pastFirst, a_pastSecond, a_choices, a_found, a_base, a_tableKey, a_tableValue) := by
  unfold wpX_least wpY_least
  dsimp only
  refine os_el I (fun e1 e2 _ => br_t e1 (br_t e2 ⟨rfl, I⟩)) ?_
  intro e1 e2 e3 o l N n cs hf HN ok R RY H h12 KR
  subst e3 e1 e2
  refine br_f og_10 (ox_search (k := 1) (by omega) R H h12 ?_)
  intro f_lead_1 f_played_1 f_firstWon_1 f_secondWon_1 f_steps_1 a_hand_1 a_trick_1 a_pastCard_1 a_pastLead_1 a_pastTrick_1 a_pastPlayed_1 a_pastFirst_1 a_pastSecond_1 a_choices_1 a_found_1 a_base_1 f_entered_1 a_tableKey_1 a_tableValue_1 R1
  dsimp only
  refine br_f og_10 (oy_search hf RY ok H h12 ?_)
  intro f_count_2 a_holders_2 a_played_2 a_players_2 a_waiting_2 a_values_2 a_leasts_2 a_ways_2 R2 FN
  refine ⟨?_, KR cs _ _ _ _ _ _ _ _ _ _ _ _ _ _ _ _ _ ok R1 R2⟩
  dsimp only
  rw [FN.2.1, R1.2.1, iI_add, iI_nI]
theorem os_courses (I : og_Rel f_on f_trump a_dealt f_lead f_played f_firstWon f_secondWon f_steps a_hand a_trick a_pastCard a_pastLead a_pastTrick a_pastPlayed a_pastFirst a_pastSecond g_on f_firstLeader f_trumpSuit a_begun f_count a_holders a_played a_players) : wpX_courses (fun r u' => wpY_courses (fun r' v' => r' = r ∧ i_Rel (k + 3) u' v') (g_on, f_firstLeader, f_trumpSuit, f_count, a_holders, a_begun, a_played, a_players, a_waiting, a_values, a_leasts, a_ways)) (f_on, f_trump, f_lead, f_played, f_firstWon, f_secondWon, f_steps, f_kind, f_entered, a_dealt, a_hand, a_trick, a_pastCard, a_pastLead, a_pastTrick, a_pastPlayed, a_pastFirst, a_pastSecond, a_choices, a_found, a_base, a_tableKey, a_tableValue) := by
  unfold wpX_courses wpY_courses
  dsimp only
  refine os_el I (fun e1 e2 _ => br_t e1 (br_t e2 ⟨rfl, I⟩)) ?_
  intro e1 e2 e3 o l N n cs hf HN ok R RY H h12 KR
  subst e3 e1 e2
  refine br_f og_10 (ox_search (k := 2) (by omega) R H h12 ?_)
  intro f_lead_1 f_played_1 f_firstWon_1 f_secondWon_1 f_steps_1 a_hand_1 a_trick_1 a_pastCard_1 a_pastLead_1 a_pastTrick_1 a_pastPlayed_1 a_pastFirst_1 a_pastSecond_1 a_choices_1 a_found_1 a_base_1 f_entered_1 a_tableKey_1 a_tableValue_1 R1
  dsimp only
  refine br_f og_10 (oy_search hf RY ok H h12 ?_)
  intro f_count_2 a_holders_2 a_played_2 a_players_2 a_waiting_2 a_values_2 a_leasts_2 a_ways_2 R2 FN
  exact ⟨FN.2.2, KR cs _ _ _ _ _ _ _ _ _ _ _ _ _ _ _ _ _ ok R1 R2⟩
theorem os_after (I : og_Rel f_on f_trump a_dealt f_lead f_played f_firstWon f_secondWon f_steps a_hand a_trick a_pastCard a_pastLead a_pastTrick a_pastPlayed a_pastFirst a_pastSecond g_on f_firstLeader f_trumpSuit a_begun f_count a_holders a_played a_players) (v1 : Int32) : wpX_after (fun r u' => wpY_after (fun r' v' => r' = r ∧ i_Rel (k + 3) u' v') (g_on, f_firstLeader, f_trumpSuit, f_count, a_holders, a_begun, a_played, a_players, a_waiting, a_values, a_leasts, a_ways) v1) (f_on, f_trump, f_lead, f_played, f_firstWon, f_secondWon, f_steps, f_kind, f_entered, a_dealt, a_hand, a_trick, a_pastCard, a_pastLead, a_pastTrick, a_pastPlayed, a_pastFirst, a_pastSecond, a_choices, a_found, a_base, a_tableKey, a_tableValue) v1 := by
  refine os_el I (fun e1 e2 _ => ?_) ?_
  · unfold wpX_after wpY_after
    dsimp only
    exact br_t e1 (br_t e2 ⟨rfl, I⟩)
  intro e1 e2 e3 o l N n cs hf HN ok R RY H h12 KR
  subst e3 e1 e2
  have B : ∀ {P : Int32 → SX → Prop}, ((v1 < 0 ∨ 12 ≤ v1) ∨ ∃ c, c < 12 ∧ v1 = nI c ∧ ¬ og_lg (og_hO f_trumpSuit o l cs) (og_hL f_trumpSuit o l cs) (og_hT f_trumpSuit o l cs) c = true) → P (-4) (1, f_trumpSuit, f_lead, f_played, f_firstWon, f_secondWon, f_steps, f_kind, f_entered, a_dealt, a_hand, a_trick, a_pastCard, a_pastLead, a_pastTrick, a_pastPlayed, a_pastFirst, a_pastSecond, a_choices, a_found, a_base, a_tableKey, a_tableValue) → wpX_after P (1, f_trumpSuit, f_lead, f_played, f_firstWon, f_secondWon, f_steps, f_kind, f_entered, a_dealt, a_hand, a_trick, a_pastCard, a_pastLead, a_pastTrick, a_pastPlayed, a_pastFirst, a_pastSecond, a_choices, a_found, a_base, a_tableKey, a_tableValue) v1 := by
    intro P h hp
    unfold wpX_after
    dsimp only
    refine br_f og_10 ?_
    rcases h with h | ⟨c, c1, c2, c3⟩
    · exact ox_may_n h (br_t rfl hp)
    · subst c2
      exact ox_may R.1 H c1 (fun q => absurd q c3) (fun _ => br_t rfl hp)
  rcases (show v1 < 0 ∨ 12 ≤ v1 ∨ ∃ c, c < 12 ∧ v1 = nI c from pk_ix v1 (n := 12) (by decide)) with z | z | ⟨c, hc, rfl⟩
  · refine B (Or.inl (Or.inl z)) ?_
    unfold wpY_after
    dsimp only
    exact br_f og_10 (oy_may_n (Or.inl z) (br_t rfl ⟨rfl, I⟩))
  · refine B (Or.inl (Or.inr z)) ?_
    unfold wpY_after
    dsimp only
    exact br_f og_10 (oy_may_n (Or.inr ((og_le12 v1).mp z)) (br_t rfl ⟨rfl, I⟩))
  · by_cases hl : og_lg (og_hO f_trumpSuit o l cs) (og_hL f_trumpSuit o l cs) (og_hT f_trumpSuit o l cs) c = true
    · have hp := og_I_pos H hc (og_lg_ow hl)
      obtain ⟨n, rfl⟩ : ∃ n', n = n' + 1 := ⟨n - 1, by omega⟩
      refine ox_after og_10 R H h12 hc hl ?_
      intro f_kind_1 f_lead_1 f_played_1 f_firstWon_1 f_secondWon_1 f_steps_1 a_hand_1 a_trick_1 a_pastCard_1 a_pastLead_1 a_pastTrick_1 a_pastPlayed_1 a_pastFirst_1 a_pastSecond_1 a_choices_1 a_found_1 a_base_1 f_entered_1 a_tableKey_1 a_tableValue_1 R1
      unfold wpY_after
      dsimp only
      refine br_f og_10 (oy_may hf RY ok H h12 hc (fun _ => br_f (by decide) (oy_vaft hf RY ok H h12 hc hl ?_)) (fun q => absurd hl q))
      intro f_count_2 a_holders_2 a_played_2 a_players_2 a_waiting_2 a_values_2 a_leasts_2 a_ways_2 R2
      exact ⟨rfl, KR cs _ _ _ _ _ _ _ _ _ _ _ _ _ _ _ _ _ ok R1 R2⟩
    · refine B (Or.inr ⟨c, hc, rfl, hl⟩) ?_
      unfold wpY_after
      dsimp only
      exact br_f og_10 (oy_may hf RY ok H h12 hc (fun q => absurd q hl) (fun _ => br_t rfl ⟨rfl, I⟩))
theorem os_best (I : og_Rel f_on f_trump a_dealt f_lead f_played f_firstWon f_secondWon f_steps a_hand a_trick a_pastCard a_pastLead a_pastTrick a_pastPlayed a_pastFirst a_pastSecond g_on f_firstLeader f_trumpSuit a_begun f_count a_holders a_played a_players) : wpX_best (fun r u' => wpY_best (fun r' v' => r' = r ∧ i_Rel (k + 3) u' v') (g_on, f_firstLeader, f_trumpSuit, f_count, a_holders, a_begun, a_played, a_players, a_waiting, a_values, a_leasts, a_ways)) (f_on, f_trump, f_lead, f_played, f_firstWon, f_secondWon, f_steps, f_kind, f_entered, a_dealt, a_hand, a_trick, a_pastCard, a_pastLead, a_pastTrick, a_pastPlayed, a_pastFirst, a_pastSecond, a_choices, a_found, a_base, a_tableKey, a_tableValue) := by
  refine os_el I (fun e1 e2 _ => ?_) ?_
  · unfold wpX_best wpY_best
    dsimp only
    exact br_t e1 (br_t e2 ⟨rfl, I⟩)
  intro e1 e2 e3 o l N n cs hf HN ok R RY H h12 KR
  subst e3 e1 e2
  refine ox_bst og_10 R H h12 ?_
  intro f_kind_1 f_lead_1 f_played_1 f_firstWon_1 f_secondWon_1 f_steps_1 a_hand_1 a_trick_1 a_pastCard_1 a_pastLead_1 a_pastTrick_1 a_pastPlayed_1 a_pastFirst_1 a_pastSecond_1 a_choices_1 a_found_1 a_base_1 f_entered_1 a_tableKey_1 a_tableValue_1 R1
  refine oy_bst og_10 hf RY ok H h12 ?_
  intro f_count_2 a_holders_2 a_played_2 a_players_2 a_waiting_2 a_values_2 a_leasts_2 a_ways_2 R2
  exact ⟨rfl, KR cs _ _ _ _ _ _ _ _ _ _ _ _ _ _ _ _ _ ok R1 R2⟩
end
end
section
/-! what is owed -/
theorem i_vc0 : wpX_init (fun u => wpY_init (fun v => i_Rel 0 u v)) := by
  unfold wpX_init wpY_init
  refine oy_clr ?_
  intro d3 e3
  exact ⟨fun _ => 4, os_D4, fun p hp => os_m4 hp, Or.inl ⟨rfl, rfl, fun p hp => os_m4 hp, fun i hi => e3 i hi⟩⟩
theorem i_vc_deal {k : Nat} {u : SX} {v : SY} (I : i_Rel k u v) (hk : k + 3 ≤ 1536) (v1 : Int32) (v2 : Int32) : wpX_deal (fun r u' => wpY_deal (fun r' v' => r' = r ∧ i_Rel (k + 3) u' v') v v1 v2) u v1 v2 := by
  obtain ⟨f_on, f_trump, f_lead, f_played, f_firstWon, f_secondWon, f_steps, f_kind, f_entered, a_dealt, a_hand, a_trick, a_pastCard, a_pastLead, a_pastTrick, a_pastPlayed, a_pastFirst, a_pastSecond, a_choices, a_found, a_base, a_tableKey, a_tableValue⟩ := u
  obtain ⟨g_on, f_firstLeader, f_trumpSuit, f_count, a_holders, a_begun, a_played, a_players, a_waiting, a_values, a_leasts, a_ways⟩ := v
  exact os_deal I v1 v2
theorem i_vc_clear {k : Nat} {u : SX} {v : SY} (I : i_Rel k u v) (hk : k + 3 ≤ 1536) : wpX_clear (fun u' => wpY_clear (fun v' => i_Rel (k + 3) u' v') v) u := by
  obtain ⟨f_on, f_trump, f_lead, f_played, f_firstWon, f_secondWon, f_steps, f_kind, f_entered, a_dealt, a_hand, a_trick, a_pastCard, a_pastLead, a_pastTrick, a_pastPlayed, a_pastFirst, a_pastSecond, a_choices, a_found, a_base, a_tableKey, a_tableValue⟩ := u
  obtain ⟨g_on, f_firstLeader, f_trumpSuit, f_count, a_holders, a_begun, a_played, a_players, a_waiting, a_values, a_leasts, a_ways⟩ := v
  exact os_clear
theorem i_vc_hand {k : Nat} {u : SX} {v : SY} (I : i_Rel k u v) (hk : k + 3 ≤ 1536) (v1 : Int32) : wpX_hand (fun r => wpY_hand (fun r' => r' = r ∧ i_Rel (k + 3) u v) v v1) u v1 := by
  obtain ⟨f_on, f_trump, f_lead, f_played, f_firstWon, f_secondWon, f_steps, f_kind, f_entered, a_dealt, a_hand, a_trick, a_pastCard, a_pastLead, a_pastTrick, a_pastPlayed, a_pastFirst, a_pastSecond, a_choices, a_found, a_base, a_tableKey, a_tableValue⟩ := u
  obtain ⟨g_on, f_firstLeader, f_trumpSuit, f_count, a_holders, a_begun, a_played, a_players, a_waiting, a_values, a_leasts, a_ways⟩ := v
  exact os_hand I v1
theorem i_vc_start {k : Nat} {u : SX} {v : SY} (I : i_Rel k u v) (hk : k + 3 ≤ 1536) (v1 : Int32) (v2 : Int32) : wpX_start (fun r u' => wpY_start (fun r' v' => r' = r ∧ i_Rel (k + 3) u' v') v v1 v2) u v1 v2 := by
  obtain ⟨f_on, f_trump, f_lead, f_played, f_firstWon, f_secondWon, f_steps, f_kind, f_entered, a_dealt, a_hand, a_trick, a_pastCard, a_pastLead, a_pastTrick, a_pastPlayed, a_pastFirst, a_pastSecond, a_choices, a_found, a_base, a_tableKey, a_tableValue⟩ := u
  obtain ⟨g_on, f_firstLeader, f_trumpSuit, f_count, a_holders, a_begun, a_played, a_players, a_waiting, a_values, a_leasts, a_ways⟩ := v
  exact os_start I v1 v2
theorem i_vc_toPlay {k : Nat} {u : SX} {v : SY} (I : i_Rel k u v) (hk : k + 3 ≤ 1536) : wpX_toPlay (fun r => wpY_toPlay (fun r' => r' = r ∧ i_Rel (k + 3) u v) v) u := by
  obtain ⟨f_on, f_trump, f_lead, f_played, f_firstWon, f_secondWon, f_steps, f_kind, f_entered, a_dealt, a_hand, a_trick, a_pastCard, a_pastLead, a_pastTrick, a_pastPlayed, a_pastFirst, a_pastSecond, a_choices, a_found, a_base, a_tableKey, a_tableValue⟩ := u
  obtain ⟨g_on, f_firstLeader, f_trumpSuit, f_count, a_holders, a_begun, a_played, a_players, a_waiting, a_values, a_leasts, a_ways⟩ := v
  exact os_toPlay I
theorem i_vc_legal {k : Nat} {u : SX} {v : SY} (I : i_Rel k u v) (hk : k + 3 ≤ 1536) : wpX_legal (fun r => wpY_legal (fun r' => r' = r ∧ i_Rel (k + 3) u v) v) u := by
  obtain ⟨f_on, f_trump, f_lead, f_played, f_firstWon, f_secondWon, f_steps, f_kind, f_entered, a_dealt, a_hand, a_trick, a_pastCard, a_pastLead, a_pastTrick, a_pastPlayed, a_pastFirst, a_pastSecond, a_choices, a_found, a_base, a_tableKey, a_tableValue⟩ := u
  obtain ⟨g_on, f_firstLeader, f_trumpSuit, f_count, a_holders, a_begun, a_played, a_players, a_waiting, a_values, a_leasts, a_ways⟩ := v
  exact os_legal I
theorem i_vc_play {k : Nat} {u : SX} {v : SY} (I : i_Rel k u v) (hk : k + 3 ≤ 1536) (v1 : Int32) : wpX_play (fun r u' => wpY_play (fun r' v' => r' = r ∧ i_Rel (k + 3) u' v') v v1) u v1 := by
  obtain ⟨f_on, f_trump, f_lead, f_played, f_firstWon, f_secondWon, f_steps, f_kind, f_entered, a_dealt, a_hand, a_trick, a_pastCard, a_pastLead, a_pastTrick, a_pastPlayed, a_pastFirst, a_pastSecond, a_choices, a_found, a_base, a_tableKey, a_tableValue⟩ := u
  obtain ⟨g_on, f_firstLeader, f_trumpSuit, f_count, a_holders, a_begun, a_played, a_players, a_waiting, a_values, a_leasts, a_ways⟩ := v
  exact os_play I v1
theorem i_vc_undo {k : Nat} {u : SX} {v : SY} (I : i_Rel k u v) (hk : k + 3 ≤ 1536) : wpX_undo (fun r u' => wpY_undo (fun r' v' => r' = r ∧ i_Rel (k + 3) u' v') v) u := by
  obtain ⟨f_on, f_trump, f_lead, f_played, f_firstWon, f_secondWon, f_steps, f_kind, f_entered, a_dealt, a_hand, a_trick, a_pastCard, a_pastLead, a_pastTrick, a_pastPlayed, a_pastFirst, a_pastSecond, a_choices, a_found, a_base, a_tableKey, a_tableValue⟩ := u
  obtain ⟨g_on, f_firstLeader, f_trumpSuit, f_count, a_holders, a_begun, a_played, a_players, a_waiting, a_values, a_leasts, a_ways⟩ := v
  exact os_undo I
theorem i_vc_won {k : Nat} {u : SX} {v : SY} (I : i_Rel k u v) (hk : k + 3 ≤ 1536) (v1 : Int32) : wpX_won (fun r => wpY_won (fun r' => r' = r ∧ i_Rel (k + 3) u v) v v1) u v1 := by
  obtain ⟨f_on, f_trump, f_lead, f_played, f_firstWon, f_secondWon, f_steps, f_kind, f_entered, a_dealt, a_hand, a_trick, a_pastCard, a_pastLead, a_pastTrick, a_pastPlayed, a_pastFirst, a_pastSecond, a_choices, a_found, a_base, a_tableKey, a_tableValue⟩ := u
  obtain ⟨g_on, f_firstLeader, f_trumpSuit, f_count, a_holders, a_begun, a_played, a_players, a_waiting, a_values, a_leasts, a_ways⟩ := v
  exact os_won I v1
theorem i_vc_winning {k : Nat} {u : SX} {v : SY} (I : i_Rel k u v) (hk : k + 3 ≤ 1536) : wpX_winning (fun r => wpY_winning (fun r' => r' = r ∧ i_Rel (k + 3) u v) v) u := by
  obtain ⟨f_on, f_trump, f_lead, f_played, f_firstWon, f_secondWon, f_steps, f_kind, f_entered, a_dealt, a_hand, a_trick, a_pastCard, a_pastLead, a_pastTrick, a_pastPlayed, a_pastFirst, a_pastSecond, a_choices, a_found, a_base, a_tableKey, a_tableValue⟩ := u
  obtain ⟨g_on, f_firstLeader, f_trumpSuit, f_count, a_holders, a_begun, a_played, a_players, a_waiting, a_values, a_leasts, a_ways⟩ := v
  exact os_winning I
theorem i_vc_value {k : Nat} {u : SX} {v : SY} (I : i_Rel k u v) (hk : k + 3 ≤ 1536) : wpX_value (fun r u' => wpY_value (fun r' v' => r' = r ∧ i_Rel (k + 3) u' v') v) u := by
  obtain ⟨f_on, f_trump, f_lead, f_played, f_firstWon, f_secondWon, f_steps, f_kind, f_entered, a_dealt, a_hand, a_trick, a_pastCard, a_pastLead, a_pastTrick, a_pastPlayed, a_pastFirst, a_pastSecond, a_choices, a_found, a_base, a_tableKey, a_tableValue⟩ := u
  obtain ⟨g_on, f_firstLeader, f_trumpSuit, f_count, a_holders, a_begun, a_played, a_players, a_waiting, a_values, a_leasts, a_ways⟩ := v
  exact os_value I
theorem i_vc_after {k : Nat} {u : SX} {v : SY} (I : i_Rel k u v) (hk : k + 3 ≤ 1536) (v1 : Int32) : wpX_after (fun r u' => wpY_after (fun r' v' => r' = r ∧ i_Rel (k + 3) u' v') v v1) u v1 := by
  obtain ⟨f_on, f_trump, f_lead, f_played, f_firstWon, f_secondWon, f_steps, f_kind, f_entered, a_dealt, a_hand, a_trick, a_pastCard, a_pastLead, a_pastTrick, a_pastPlayed, a_pastFirst, a_pastSecond, a_choices, a_found, a_base, a_tableKey, a_tableValue⟩ := u
  obtain ⟨g_on, f_firstLeader, f_trumpSuit, f_count, a_holders, a_begun, a_played, a_players, a_waiting, a_values, a_leasts, a_ways⟩ := v
  exact os_after I v1
theorem i_vc_best {k : Nat} {u : SX} {v : SY} (I : i_Rel k u v) (hk : k + 3 ≤ 1536) : wpX_best (fun r u' => wpY_best (fun r' v' => r' = r ∧ i_Rel (k + 3) u' v') v) u := by
  obtain ⟨f_on, f_trump, f_lead, f_played, f_firstWon, f_secondWon, f_steps, f_kind, f_entered, a_dealt, a_hand, a_trick, a_pastCard, a_pastLead, a_pastTrick, a_pastPlayed, a_pastFirst, a_pastSecond, a_choices, a_found, a_base, a_tableKey, a_tableValue⟩ := u
  obtain ⟨g_on, f_firstLeader, f_trumpSuit, f_count, a_holders, a_begun, a_played, a_players, a_waiting, a_values, a_leasts, a_ways⟩ := v
  exact os_best I
theorem i_vc_least {k : Nat} {u : SX} {v : SY} (I : i_Rel k u v) (hk : k + 3 ≤ 1536) : wpX_least (fun r u' => wpY_least (fun r' v' => r' = r ∧ i_Rel (k + 3) u' v') v) u := by
  obtain ⟨f_on, f_trump, f_lead, f_played, f_firstWon, f_secondWon, f_steps, f_kind, f_entered, a_dealt, a_hand, a_trick, a_pastCard, a_pastLead, a_pastTrick, a_pastPlayed, a_pastFirst, a_pastSecond, a_choices, a_found, a_base, a_tableKey, a_tableValue⟩ := u
  obtain ⟨g_on, f_firstLeader, f_trumpSuit, f_count, a_holders, a_begun, a_played, a_players, a_waiting, a_values, a_leasts, a_ways⟩ := v
  exact os_least I
theorem i_vc_courses {k : Nat} {u : SX} {v : SY} (I : i_Rel k u v) (hk : k + 3 ≤ 1536) : wpX_courses (fun r u' => wpY_courses (fun r' v' => r' = r ∧ i_Rel (k + 3) u' v') v) u := by
  obtain ⟨f_on, f_trump, f_lead, f_played, f_firstWon, f_secondWon, f_steps, f_kind, f_entered, a_dealt, a_hand, a_trick, a_pastCard, a_pastLead, a_pastTrick, a_pastPlayed, a_pastFirst, a_pastSecond, a_choices, a_found, a_base, a_tableKey, a_tableValue⟩ := u
  obtain ⟨g_on, f_firstLeader, f_trumpSuit, f_count, a_holders, a_begun, a_played, a_players, a_waiting, a_values, a_leasts, a_ways⟩ := v
  exact os_courses I
end
