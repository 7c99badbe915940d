section
/-! pure rows to paste: stores, nI and lN arithmetic, masks, shifts, narrowing, branches by naturals (pk_le, pk_lt, pk_eq), loops (lp1 .. lp16: the measure of the state; rp1 ..: recursion), negatives. Take what you need -/
theorem pk_us {f : Nat → Int32} {k : Nat} {x : Int32} : upd f k x k = x := if_pos rfl
theorem pk_un {f : Nat → Int32} {k j : Nat} {x : Int32} (h : j ≠ k) : upd f k x j = f j := if_neg h
theorem pk_uLs {f : Nat → Int64} {k : Nat} {x : Int64} : vp_updL f k x k = x := if_pos rfl
theorem pk_uLn {f : Nat → Int64} {k j : Nat} {x : Int64} (h : j ≠ k) : vp_updL f k x j = f j := if_neg h
theorem pk_sub {a b : Nat} (h : b ≤ a) : nI a - nI b = nI (a - b) := by
  obtain ⟨c, rfl⟩ : ∃ c, a = c + b := ⟨a - b, by omega⟩
  rw [← nI_add, Int32.add_sub_cancel, Nat.add_sub_cancel]
theorem pk_m1 (n : Nat) : nI (n + 1) + (-1) = nI n := by
  rw [← nI_1, Int32.add_assoc, show (1 : Int32) + (-1) = 0 from rfl, Int32.add_zero]
theorem pk_mul (a b : Nat) : nI a * nI b = nI (a * b) := (Int32.ofNat_mul a b).symm
theorem pk_div {a d : Nat} (ha : a < 2 ^ 31) (h0 : 0 < d) (hd : d < 2 ^ 31) : nI a / nI d = nI (a / d) := by
  apply Int32.toInt_inj.mp
  rw [lg_idiv_nonneg (by rw [nI_toInt ha]; omega) (by rw [nI_toInt hd]; omega), nI_toInt ha, nI_toInt hd, nI_toInt (Nat.lt_of_le_of_lt (Nat.div_le_self a d) ha)]
  first | rfl | exact (Int.natCast_ediv _ _).symm
theorem pk_rem {a d : Nat} (ha : a < 2 ^ 31) (h0 : 0 < d) (hd : d < 2 ^ 31) : nI a - nI a / nI d * nI d = nI (a % d) := by
  rw [pk_div ha h0 hd, pk_mul, pk_sub (Nat.div_mul_le_self a d)]
  exact congrArg nI (by have := Nat.div_add_mod' a d; omega)
theorem pk_sub_toInt {a b : Nat} (ha : a < 2 ^ 30) (hb : b < 2 ^ 30) : (nI a - nI b).toInt = (a : Int) - b := by
  rw [Int32.toInt_sub, nI_toInt (by omega), nI_toInt (by omega)]
  exact Int.bmod_eq_of_le (by omega) (by omega)
theorem pk_sneg {a b : Nat} (hb : b < 2 ^ 30) (h : a < b) : nI a - nI b < 0 := by
  rw [Int32.lt_iff_toInt_lt, pk_sub_toInt (by omega) hb, show (0 : Int32).toInt = 0 from by decide]
  omega
theorem pk_ix (x : Int32) {n : Nat} (hn : n < 2 ^ 31) : x < 0 ∨ nI n ≤ x ∨ ∃ j : Nat, j < n ∧ x = nI j := by
  by_cases h : x < 0
  · exact Or.inl h
  · obtain ⟨j, hj, rfl⟩ := nI_of h
    by_cases h2 : j < n
    · exact Or.inr (Or.inr ⟨j, h2, rfl⟩)
    · exact Or.inr (Or.inl (nI_le (by omega) hj))
theorem pk_le {x y : Int32} {A B : Prop} (a b : Nat) (f : a ≤ b → A) (g : b < a → B) (hx : x = nI a := by rfl) (hy : y = nI b := by rfl) (ha : a < 2 ^ 31 := by omega) (hb : b < 2 ^ 31 := by omega) : (x ≤ y → A) ∧ (¬ x ≤ y → B) := by
  subst hx hy
  rw [nI_leI ha hb]
  exact ⟨f, fun z => g (by omega)⟩
theorem pk_lt {x y : Int32} {A B : Prop} (a b : Nat) (f : a < b → A) (g : b ≤ a → B) (hx : x = nI a := by rfl) (hy : y = nI b := by rfl) (ha : a < 2 ^ 31 := by omega) (hb : b < 2 ^ 31 := by omega) : (x < y → A) ∧ (¬ x < y → B) := by
  subst hx hy
  rw [nI_ltI ha hb]
  exact ⟨f, fun z => g (by omega)⟩
theorem pk_eq {x y : Int32} {A B : Prop} (a b : Nat) (f : a = b → A) (g : a ≠ b → B) (hx : x = nI a := by rfl) (hy : y = nI b := by rfl) (ha : a < 2 ^ 31 := by omega) (hb : b < 2 ^ 31 := by omega) : (x = y → A) ∧ (¬ x = y → B) := by
  subst hx hy
  rw [nI_eq ha hb]
  exact ⟨f, g⟩
theorem pk_in {x : Int32} (n N : Nat) (h : n < N) (hx : x = nI n := by rfl) (hN : N < 2 ^ 31 := by omega) : vp_in x N := by
  subst hx
  exact vp_in_nI h hN
theorem pk_cl {x : Int32} (n : Nat) (hx : x = nI n := by rfl) (h : n < 2 ^ 31 := by omega) : x.toNatClampNeg = n := by
  subst hx
  exact nI_clamp h
theorem pk_tn {n : Nat} (h : n < 2 ^ 32) : (nI n).toBitVec.toNat = n := Nat.mod_eq_of_lt h
theorem pk_and (x : Int32) {m : Int32} (k : Nat) (hm : m.toBitVec.toNat = 2 ^ k - 1) : x &&& m = nI (x.toBitVec.toNat % 2 ^ k) := by
  apply Int32.toBitVec_inj.mp
  apply BitVec.eq_of_toNat_eq
  rw [Int32.toBitVec_and, BitVec.toNat_and, hm, Nat.and_two_pow_sub_one_eq_mod]
  show _ = (BitVec.ofNat 32 _).toNat
  rw [BitVec.toNat_ofNat]
  exact (Nat.mod_eq_of_lt (Nat.lt_of_le_of_lt (Nat.mod_le _ _) x.toBitVec.isLt)).symm
theorem pk_andN {n : Nat} (h : n < 2 ^ 32) {m : Int32} (k : Nat) (hm : m.toBitVec.toNat = 2 ^ k - 1) : nI n &&& m = nI (n % 2 ^ k) := by
  rw [pk_and _ k hm, pk_tn h]
theorem pk_andE (x : Int32) {m : Int32} (k : Nat) (hm : m.toBitVec.toNat = 2 ^ k - 1) : ∃ j : Nat, j < 2 ^ k ∧ x &&& m = nI j := ⟨_, Nat.mod_lt _ (Nat.two_pow_pos k), pk_and x k hm⟩
theorem pk_andIn (x : Int32) {m : Int32} (k : Nat) (hm : m.toBitVec.toNat = 2 ^ k - 1) (hk : k ≤ 30) : vp_in (x &&& m) (2 ^ k) := by
  obtain ⟨j, hj, e⟩ := pk_andE x k hm
  rw [e]
  exact vp_in_nI hj (Nat.lt_of_le_of_lt (Nat.pow_le_pow_right (by decide) hk) (by decide))
theorem pk_shl (a s : Int32) (k : Nat) (hs : (s.toBitVec.smod 32).toNat = k) : (a <<< s).toBitVec.toNat = a.toBitVec.toNat * 2 ^ k % 2 ^ 32 := by
  show (a.toBitVec <<< (s.toBitVec.smod 32).toNat).toNat = _
  rw [hs, BitVec.toNat_shiftLeft, Nat.shiftLeft_eq]
theorem pk_shlN {n : Nat} (s : Int32) (k : Nat) (hs : (s.toBitVec.smod 32).toNat = k) (h : n * 2 ^ k < 2 ^ 32) : nI n <<< s = nI (n * 2 ^ k) := by
  apply Int32.toBitVec_inj.mp
  apply BitVec.eq_of_toNat_eq
  have hn : n < 2 ^ 32 := Nat.lt_of_le_of_lt (Nat.le_mul_of_pos_right n (Nat.two_pow_pos k)) h
  rw [pk_shl _ _ k hs, pk_tn hn, pk_tn h, Nat.mod_eq_of_lt h]
theorem pk_shr (a s : Int32) (k : Nat) (hs : (s.toBitVec.smod 32).toNat = k) : (a >>> s).toInt = a.toInt >>> k := by
  show (a.toBitVec.sshiftRight (s.toBitVec.smod 32).toNat).toInt = _
  rw [hs, BitVec.toInt_sshiftRight]
  rfl
theorem pk_shrN {n : Nat} (h : n < 2 ^ 31) (s : Int32) (k : Nat) (hs : (s.toBitVec.smod 32).toNat = k) : nI n >>> s = nI (n / 2 ^ k) := by
  apply Int32.toInt_inj.mp
  have h2 : n / 2 ^ k ≤ n := Nat.div_le_self _ _
  rw [pk_shr _ _ k hs, nI_toInt h, nI_toInt (by omega), Int.shiftRight_eq_div_pow]
  rfl
theorem pk_ushr (x s : Int32) (k : Nat) (hs : ((s.toUInt32 &&& Int32.toUInt32 31).toBitVec % 32).toNat = k) : (x.toUInt32 >>> (s.toUInt32 &&& Int32.toUInt32 31)).toInt32.toBitVec.toNat = x.toBitVec.toNat / 2 ^ k := by
  have e : (x.toUInt32 >>> (s.toUInt32 &&& Int32.toUInt32 31)).toInt32.toBitVec = x.toBitVec >>> k := by
    rw [← hs]
    exact UInt32.toBitVec_shiftRight _ _
  rw [e, BitVec.toNat_ushiftRight, Nat.shiftRight_eq_div_pow]
theorem pk_ushrN {n : Nat} (hn : n < 2 ^ 32) (s : Int32) (k : Nat) (hs : ((s.toUInt32 &&& Int32.toUInt32 31).toBitVec % 32).toNat = k) : ((nI n).toUInt32 >>> (s.toUInt32 &&& Int32.toUInt32 31)).toInt32 = nI (n / 2 ^ k) := by
  apply Int32.toBitVec_inj.mp
  apply BitVec.eq_of_toNat_eq
  rw [pk_ushr _ s k hs, pk_tn hn, pk_tn (Nat.lt_of_le_of_lt (Nat.div_le_self _ _) hn)]
theorem pk_nb (z : Int32) : narrow .byte (.int z.toInt8.toInt32) = .int z.toInt8.toInt32 := congrArg Value.int (by simp)
theorem pk_ns (z : Int32) : narrow .short (.int z.toInt16.toInt32) = .int z.toInt16.toInt32 := congrArg Value.int (by simp)
theorem pk_fb (r : Int32) : fits .byte (.int r.toInt8.toInt32) = true := by
  have ⟨a, b⟩ := lg_i2b_range r
  have h1 : (-128 : Int32).toInt = -128 := by decide
  have h2 : (127 : Int32).toInt = 127 := by decide
  simp only [fits, Bool.and_eq_true, decide_eq_true_eq, Int32.le_iff_toInt_le, h1, h2]
  omega
theorem pk_fs (r : Int32) : fits .short (.int r.toInt16.toInt32) = true := by
  have ⟨a, b⟩ := lg_i2s_range r
  have h1 : (-32768 : Int32).toInt = -32768 := by decide
  have h2 : (32767 : Int32).toInt = 32767 := by decide
  simp only [fits, Bool.and_eq_true, decide_eq_true_eq, Int32.le_iff_toInt_le, h1, h2]
  omega
theorem pk_charN {q : Nat} (hq : q < 65536) : narrow .char (.int (nI q)) = .int (nI q) ∧ fits .char (.int (nI q)) = true := by
  constructor
  · have e : (nI q).toUInt32.toUInt16.toUInt32.toInt32 = nI q := by
      apply Int32.toBitVec_inj.mp
      apply BitVec.eq_of_toNat_eq
      show (nI q).toUInt32.toUInt16.toUInt32.toNat = q % 2 ^ 32
      rw [UInt16.toNat_toUInt32, UInt32.toNat_toUInt16, show (nI q).toUInt32.toNat = q % 2 ^ 32 from rfl]
      omega
    exact congrArg Value.int e
  · have a : (0 : Int32) ≤ nI q := nI_pos' (by omega)
    have b : nI q ≤ 65535 := nI_le (b := 65535) (by omega) (by decide)
    show (decide ((0 : Int32) ≤ nI q) && decide (nI q ≤ 65535)) = true
    rw [decide_eq_true a, decide_eq_true b]
    rfl
theorem pk_char (x : Int32) : (x.toUInt32 % 65536).toInt32 = nI (x.toBitVec.toNat % 65536) := by
  apply Int32.toBitVec_inj.mp
  apply BitVec.eq_of_toNat_eq
  rw [pk_tn (by omega)]
  show (x.toUInt32 % 65536).toNat = _
  rw [UInt32.toNat_mod]
  rfl
theorem pk_nc (x : Int32) : narrow .char (.int (x.toUInt32 % 65536).toInt32) = .int (x.toUInt32 % 65536).toInt32 := by
  rw [pk_char]
  exact (pk_charN (Nat.mod_lt _ (by decide))).1
theorem pk_fc (x : Int32) : fits .char (.int (x.toUInt32 % 65536).toInt32) = true := by
  rw [pk_char]
  exact (pk_charN (Nat.mod_lt _ (by decide))).2
theorem pk_vb (z : Int32) : vp_nar .byte z.toInt8.toInt32 = z.toInt8.toInt32 := by rw [vp_nar_byte]; simp
theorem pk_vs (z : Int32) : vp_nar .short z.toInt16.toInt32 = z.toInt16.toInt32 := by rw [vp_nar_short]; simp
theorem pk_vc (z : Int32) : vp_nar .char (z.toUInt32 % 65536).toInt32 = (z.toUInt32 % 65536).toInt32 := Value.int.inj (pk_nc z)
theorem pk_lT {n : Nat} (h : n < 2 ^ 63) : (lN n).toInt = (n : Int) := lg_ofNat_toInt h
theorem pk_lLT {a b : Nat} (ha : a < 2 ^ 63) (hb : b < 2 ^ 63) : lN a < lN b ↔ a < b := by
  rw [Int64.lt_iff_toInt_lt, pk_lT ha, pk_lT hb]; omega
theorem pk_lLE {a b : Nat} (ha : a < 2 ^ 63) (hb : b < 2 ^ 63) : lN a ≤ lN b ↔ a ≤ b := by
  rw [Int64.le_iff_toInt_le, pk_lT ha, pk_lT hb]; omega
theorem pk_lEQ {a b : Nat} (ha : a < 2 ^ 63) (hb : b < 2 ^ 63) : lN a = lN b ↔ a = b := by
  rw [← Int64.toInt_inj, pk_lT ha, pk_lT hb]; omega
theorem pk_lOf {x : Int64} (h : ¬ x < 0) : ∃ k : Nat, k < 2 ^ 63 ∧ x = lN k := by
  rw [Int64.lt_iff_toInt_lt] at h
  have h0 : (0 : Int64).toInt = 0 := by decide
  have hx := Int64.toInt_lt x
  refine ⟨x.toInt.toNat, by omega, Int64.toInt_inj.mp ?_⟩
  rw [pk_lT (by omega)]
  omega
theorem pk_lDiv {a b : Nat} (ha : a < 2 ^ 63) (h0 : 0 < b) (hb : b < 2 ^ 63) : lN a / lN b = lN (a / b) := by
  apply Int64.toInt_inj.mp
  rw [lg_ldiv_nonneg (by rw [pk_lT ha]; omega) (by rw [pk_lT hb]; omega), pk_lT ha, pk_lT hb, pk_lT (Nat.lt_of_le_of_lt (Nat.div_le_self a b) ha)]
  rfl
theorem pk_lRem {a b : Nat} (ha : a < 2 ^ 63) (h0 : 0 < b) (hb : b < 2 ^ 63) : lN a - lN a / lN b * lN b = lN (a % b) := by
  rw [pk_lDiv ha h0 hb, lN_mul, lN_sub (Nat.div_mul_le_self a b)]
  exact congrArg lN (by have := Nat.div_add_mod' a b; omega)
theorem pk_loop {σ : Type} (W : Nat → Nat → σ → Prop) (I : Nat → σ → Prop) (e i0 : Nat) (s : σ) (hi : i0 ≤ e) (h0 : I i0 s) (hx : ∀ n s, I e s → W (n + 1) e s)
    (hs : ∀ n i s, i < e → I i s → (∀ s', I (i + 1) s' → W n (i + 1) s') → W (n + 1) i s) : ∃ n, W n i0 s :=
  ⟨e + 1, loop_i W I e hx hs (e + 1) i0 s hi (by omega) h0⟩
theorem pk_loopD {σ : Type} (W : Nat → Nat → σ → Prop) (I : Nat → σ → Prop) (hx : ∀ n s, I 0 s → W (n + 1) 0 s)
    (hs : ∀ n i s, I (i + 1) s → (∀ s', I i s' → W n i s') → W (n + 1) (i + 1) s) : ∀ (e : Nat) (s : σ), I e s → W (e + 1) e s := by
  intro e
  induction e with
  | zero => exact fun s h => hx 0 s h
  | succ e ih => exact fun s h => hs (e + 1) e s h (fun s' h' => ih s' h')
theorem pk_least (P : Nat → Prop) (h : ∃ k, P k) : ∃ k, P k ∧ ∀ j, j < k → ¬ P j := by
  obtain ⟨k, hk⟩ := h
  induction k using Nat.strongRecOn with
  | ind k ih =>
    by_cases e : ∃ j, j < k ∧ P j
    · obtain ⟨j, hj, pj⟩ := e
      exact ih j hj pj
    · exact ⟨k, hk, fun j hj pj => e ⟨j, hj, pj⟩⟩
/-! ===== Int32 by its bits: bt x i ===== -/
def bt (x : Int32) (i : Nat) : Bool := x.toBitVec.getLsbD i
theorem b_ext {x y : Int32} (h : ∀ i, i < 32 → bt x i = bt y i) : x = y := Int32.toBitVec_inj.mp (BitVec.eq_of_getLsbD_eq (fun i hi => h i hi))
theorem b_or (x y : Int32) (i : Nat) : bt (x ||| y) i = (bt x i || bt y i) := by unfold bt; rw [Int32.toBitVec_or, BitVec.getLsbD_or]
theorem b_and (x y : Int32) (i : Nat) : bt (x &&& y) i = (bt x i && bt y i) := by unfold bt; rw [Int32.toBitVec_and, BitVec.getLsbD_and]
theorem b_xor (x y : Int32) (i : Nat) : bt (x ^^^ y) i = (bt x i ^^ bt y i) := by unfold bt; rw [Int32.toBitVec_xor, BitVec.getLsbD_xor]
theorem b_big {x : Int32} {i : Nat} (h : 32 ≤ i) : bt x i = false := BitVec.getLsbD_of_ge _ _ h
theorem b_255 (i : Nat) : bt 255 i = decide (i < 8) := by
  rcases Nat.lt_or_ge i 32 with h | h
  · exact (by decide +kernel : ∀ i, i < 32 → bt 255 i = decide (i < 8)) i h
  · rw [b_big h, decide_eq_false (by omega)]
theorem b_65535 (i : Nat) : bt 65535 i = decide (i < 16) := by
  rcases Nat.lt_or_ge i 32 with h | h
  · exact (by decide +kernel : ∀ i, i < 32 → bt 65535 i = decide (i < 16)) i h
  · rw [b_big h, decide_eq_false (by omega)]
theorem b_m1 : ∀ i, i < 32 → bt (-1) i = true := by decide +kernel
theorem b_0 (i : Nat) : bt 0 i = false := BitVec.getLsbD_zero
theorem s_l : ∀ n, n < 32 → ((nI n &&& 31).toBitVec.smod 32).toNat = n := by decide +kernel
theorem s_u : ∀ n, n < 32 → (((nI n).toUInt32 &&& Int32.toUInt32 31).toBitVec % 32).toNat = n := by decide +kernel
theorem b_shl (n : Nat) (hn : n < 32) (x : Int32) {i : Nat} (hi : i < 32) : bt (x <<< (nI n &&& 31)) i = (decide (n ≤ i) && bt x (i - n)) := by
  unfold bt
  rw [Int32.toBitVec_shiftLeft]
  show (x.toBitVec <<< ((nI n &&& 31).toBitVec.smod 32).toNat).getLsbD i = _
  rw [s_l n hn, BitVec.getLsbD_shiftLeft]
  rcases Nat.lt_or_ge i n with h | h
  · simp [h, Nat.not_le.mpr h]
  · simp [hi, h, Nat.not_lt.mpr h]
theorem b_ushr (n : Nat) (hn : n < 32) (x : Int32) (i : Nat) : bt ((x.toUInt32 >>> ((nI n).toUInt32 &&& Int32.toUInt32 31)).toInt32) i = bt x (n + i) := by
  show (x.toUInt32 >>> ((nI n).toUInt32 &&& Int32.toUInt32 31)).toBitVec.getLsbD i = x.toUInt32.toBitVec.getLsbD (n + i)
  rw [UInt32.toBitVec_shiftRight]
  show (x.toUInt32.toBitVec >>> (((nI n).toUInt32 &&& Int32.toUInt32 31).toBitVec % 32).toNat).getLsbD i = _
  rw [s_u n hn, BitVec.getLsbD_ushiftRight]
theorem b_sshr (n : Nat) (hn : n < 32) (x : Int32) {i : Nat} (hi : i < 32) : bt (x >>> (nI n &&& 31)) i = if n + i < 32 then bt x (n + i) else bt x 31 := by
  unfold bt
  rw [Int32.toBitVec_shiftRight]
  show (x.toBitVec.sshiftRight ((nI n &&& 31).toBitVec.smod 32).toNat).getLsbD i = _
  rw [s_l n hn, BitVec.getLsbD_sshiftRight, BitVec.msb_eq_getLsbD_last]
  simp [hi]
theorem b_shl8 (x : Int32) {i : Nat} (hi : i < 32) : bt (x <<< ((8 : Int32) &&& 31)) i = (decide (8 ≤ i) && bt x (i - 8)) := b_shl 8 (by omega) x hi
theorem b_shl16 (x : Int32) {i : Nat} (hi : i < 32) : bt (x <<< ((16 : Int32) &&& 31)) i = (decide (16 ≤ i) && bt x (i - 16)) := b_shl 16 (by omega) x hi
theorem b_shl24 (x : Int32) {i : Nat} (hi : i < 32) : bt (x <<< ((24 : Int32) &&& 31)) i = (decide (24 ≤ i) && bt x (i - 24)) := b_shl 24 (by omega) x hi
theorem b_sshr8 (x : Int32) {i : Nat} (hi : i < 32) : bt (x >>> ((8 : Int32) &&& 31)) i = if 8 + i < 32 then bt x (8 + i) else bt x 31 := b_sshr 8 (by omega) x hi
end
section
/-! own rows: masks of lanes (Int32) and sets of nodes (Int64) by their bits; counting -/
theorem bi_1 : ∀ l, l < 32 → ∀ i, i < 32 → bt ((1 : Int32) <<< (nI l &&& 31)) i = decide (i = l) := by decide +kernel
theorem bi_z (m : Int32) {l : Nat} (hl : l < 32) : (m &&& ((1 : Int32) <<< (nI l &&& 31))) = 0 ↔ bt m l = false := by
  constructor
  · intro h
    have e := b_and m ((1 : Int32) <<< (nI l &&& 31)) l
    rw [h, b_0, bi_1 l hl l hl] at e
    simpa using e.symm
  · intro h
    apply b_ext
    intro i hi
    rw [b_and, bi_1 l hl i hi, b_0]
    by_cases c : i = l
    · rw [c, h]; rfl
    · simp [c]
theorem bi_n (m : Int32) {i : Nat} (hi : i < 32) : bt (m ^^^ (-1)) i = !bt m i := by rw [b_xor, b_m1 i hi]; simp
theorem bi_e0 {m : Int32} (h : ∀ i, i < 32 → bt m i = false) : m = 0 := b_ext (fun i hi => by rw [h i hi, b_0])
theorem bi_ne {m : Int32} (h : ¬ m = 0) : ∃ i, i < 32 ∧ bt m i = true := by
  apply Classical.byContradiction
  intro z
  apply h
  apply bi_e0
  intro i hi
  cases e : bt m i
  · rfl
  · exact absurd ⟨i, hi, e⟩ z
theorem bi_nz {m : Int32} {i : Nat} (h : bt m i = true) : ¬ m = 0 := by intro z; rw [z, b_0] at h; exact Bool.noConfusion h
theorem bi_or1 (m : Int32) {l : Nat} (hl : l < 32) {i : Nat} (hi : i < 32) : bt (m ||| ((1 : Int32) <<< (nI l &&& 31))) i = (bt m i || decide (i = l)) := by rw [b_or, bi_1 l hl i hi]
theorem bi_an1 (m : Int32) {l : Nat} (hl : l < 32) {i : Nat} (hi : i < 32) : bt (m &&& (((1 : Int32) <<< (nI l &&& 31)) ^^^ (-1))) i = (bt m i && !decide (i = l)) := by rw [b_and, bi_n _ hi, bi_1 l hl i hi]
theorem bi_all : ∀ l, l < 9 → ∀ i, i < 32 → bt (((1 : Int32) <<< (nI l &&& 31)) - 1) i = decide (i < l) := by decide +kernel
/-! Int64 -/
def bl (x : Int64) (i : Nat) : Bool := x.toBitVec.getLsbD i
theorem bl_ext {x y : Int64} (h : ∀ i, i < 64 → bl x i = bl y i) : x = y := Int64.toBitVec_inj.mp (BitVec.eq_of_getLsbD_eq (fun i hi => h i hi))
theorem bl_or (x y : Int64) (i : Nat) : bl (x ||| y) i = (bl x i || bl y i) := by unfold bl; rw [Int64.toBitVec_or, BitVec.getLsbD_or]
theorem bl_and (x y : Int64) (i : Nat) : bl (x &&& y) i = (bl x i && bl y i) := by unfold bl; rw [Int64.toBitVec_and, BitVec.getLsbD_and]
theorem bl_xor (x y : Int64) (i : Nat) : bl (x ^^^ y) i = (bl x i ^^ bl y i) := by unfold bl; rw [Int64.toBitVec_xor, BitVec.getLsbD_xor]
theorem bl_m1 : ∀ i, i < 64 → bl (-1) i = true := by decide +kernel
theorem bl_0 (i : Nat) : bl 0 i = false := BitVec.getLsbD_zero
theorem bl_1 : ∀ l, l < 64 → ∀ i, i < 64 → bl ((1 : Int64) <<< ((nI l).toInt64 &&& 63)) i = decide (i = l) := by decide +kernel
theorem bl_all : ∀ n, n < 34 → ∀ i, i < 64 → bl (((1 : Int64) <<< ((nI n).toInt64 &&& 63)) - 1) i = decide (i < n) := by decide +kernel
theorem bl_n (m : Int64) {i : Nat} (hi : i < 64) : bl (m ^^^ (-1)) i = !bl m i := by rw [bl_xor, bl_m1 i hi]; simp
theorem bl_z (m : Int64) {l : Nat} (hl : l < 64) : (m &&& ((1 : Int64) <<< ((nI l).toInt64 &&& 63))) = 0 ↔ bl m l = false := by
  constructor
  · intro h
    have e := bl_and m ((1 : Int64) <<< ((nI l).toInt64 &&& 63)) l
    rw [h, bl_0, bl_1 l hl l hl] at e
    simpa using e.symm
  · intro h
    apply bl_ext
    intro i hi
    rw [bl_and, bl_1 l hl i hi, bl_0]
    by_cases c : i = l
    · rw [c, h]; rfl
    · simp [c]
theorem bl_az (x y : Int64) : (x &&& y) = 0 ↔ ∀ i, i < 64 → ¬ (bl x i = true ∧ bl y i = true) := by
  constructor
  · intro h i _ c
    have e := bl_and x y i
    rw [h, bl_0, c.1, c.2] at e
    exact Bool.noConfusion e
  · intro h
    apply bl_ext
    intro i hi
    rw [bl_and, bl_0]
    have := h i hi
    cases hx : bl x i <;> cases hy : bl y i <;> simp_all
/-! counting -/
def cn_c (f : Nat → Bool) : Nat → Nat
  | 0 => 0
  | n + 1 => cn_c f n + (if f n = true then 1 else 0)
theorem cn_le (f : Nat → Bool) : ∀ n, cn_c f n ≤ n := by
  intro n
  induction n with
  | zero => exact Nat.le_refl _
  | succ n ih => unfold cn_c; split <;> omega
theorem cn_mono {f g : Nat → Bool} : ∀ n, (∀ i, i < n → f i = true → g i = true) → cn_c f n ≤ cn_c g n := by
  intro n
  induction n with
  | zero => intro _; exact Nat.le_refl _
  | succ n ih =>
    intro h
    have a := ih (fun i hi => h i (by omega))
    have b := h n (by omega)
    unfold cn_c
    split
    · rename_i hf
      rw [if_pos (b hf)]
      omega
    · omega
theorem cn_lt {f g : Nat → Bool} : ∀ n, (∀ i, i < n → f i = true → g i = true) → ∀ i, i < n → f i = false → g i = true → cn_c f n < cn_c g n := by
  intro n
  induction n with
  | zero => intro _ i hi; omega
  | succ n ih =>
    intro h i hi hf hg
    have b := h n (by omega)
    unfold cn_c
    rcases Nat.lt_or_ge i n with c | c
    · have a := ih (fun i hi => h i (by omega)) i c hf hg
      split
      · rename_i hf
        rw [if_pos (b hf)]
        omega
      · omega
    · have e : i = n := by omega
      subst e
      have a := cn_mono (f := f) (g := g) i (fun i hi => h i (by omega))
      rw [if_neg (by rw [hf]; exact Bool.noConfusion), if_pos hg]
      omega
theorem cn_pos {f : Nat → Bool} {n i : Nat} (hi : i < n) (h : f i = true) : 0 < cn_c f n := by
  have := cn_lt (f := fun _ => false) (g := f) n (fun _ _ h => Bool.noConfusion h) i hi rfl h
  omega
def sm_s (f : Nat → Nat) : Nat → Nat
  | 0 => 0
  | n + 1 => sm_s f n + f n
theorem sm_mono {f g : Nat → Nat} : ∀ n, (∀ i, i < n → f i ≤ g i) → sm_s f n ≤ sm_s g n := by
  intro n
  induction n with
  | zero => intro _; exact Nat.le_refl _
  | succ n ih =>
    intro h
    have a := ih (fun i hi => h i (by omega))
    have b := h n (by omega)
    unfold sm_s
    omega
theorem sm_lt {f g : Nat → Nat} : ∀ n, (∀ i, i < n → f i ≤ g i) → ∀ i, i < n → f i < g i → sm_s f n < sm_s g n := by
  intro n
  induction n with
  | zero => intro _ i hi; omega
  | succ n ih =>
    intro h i hi hf
    have b := h n (by omega)
    have a' := sm_mono (f := f) (g := g) n (fun i hi => h i (by omega))
    unfold sm_s
    rcases Nat.lt_or_ge i n with c | c
    · have a := ih (fun i hi => h i (by omega)) i c hf
      omega
    · have e : i = n := by omega
      subst e
      omega
theorem sm_bd {f : Nat → Nat} {k : Nat} : ∀ n, (∀ i, i < n → f i ≤ k) → sm_s f n ≤ n * k := by
  intro n
  induction n with
  | zero => intro _; exact Nat.zero_le _
  | succ n ih =>
    intro h
    have a := ih (fun i hi => h i (by omega))
    have b := h n (by omega)
    unfold sm_s
    rw [Nat.succ_mul]
    omega
end
section
/-! own rows: walks in a finite graph, post-dominators, join points, regions; E's edges lead from q < n to nodes at most n, n is the end -/
def gr_wk (n : Nat) (E : Nat → Nat → Prop) (p x y : Nat) : Prop :=
  ∀ S : Nat → Prop, (∀ s, E p s → s ≠ x → S s) → (∀ q s, S q → q < n → E q s → s ≠ x → S s) → S y
def gr_pd (n : Nat) (E : Nat → Nat → Prop) (x p : Nat) : Prop := x = p ∨ (p < n ∧ ¬ gr_wk n E p x n)
def gr_jn (n : Nat) (E : Nat → Nat → Prop) (p j : Nat) : Prop := j ≠ p ∧ gr_pd n E j p ∧ ∀ y, y ≠ p → gr_pd n E y p → gr_pd n E y j
section
variable {n : Nat} {E : Nat → Nat → Prop}
theorem gr_1 {p x s : Nat} (h : E p s) (hs : s ≠ x) : gr_wk n E p x s := fun _ h1 _ => h1 s h hs
theorem gr_s {p x q s : Nat} (h : gr_wk n E p x q) (hq : q < n) (e : E q s) (hs : s ≠ x) : gr_wk n E p x s :=
  fun S h1 h2 => h2 q s (h S h1 h2) hq e hs
theorem gr_ind {p x : Nat} {P : Nat → Prop} (h1 : ∀ s, E p s → s ≠ x → P s) (h2 : ∀ q s, gr_wk n E p x q → P q → q < n → E q s → s ≠ x → P s) {y : Nat} (h : gr_wk n E p x y) : P y :=
  (h (fun s => gr_wk n E p x s ∧ P s) (fun s e hs => ⟨gr_1 e hs, h1 s e hs⟩) (fun q s hq hn e hs => ⟨gr_s hq.1 hn e hs, h2 q s hq.1 hq.2 hn e hs⟩)).2
theorem gr_ne {p x y : Nat} (h : gr_wk n E p x y) : y ≠ x := gr_ind (P := fun s => s ≠ x) (fun _ _ hs => hs) (fun _ _ _ _ _ _ hs => hs) h
theorem gr_tr {p x q s : Nat} (h : gr_wk n E p x q) (hq : q < n) (h2 : gr_wk n E q x s) : gr_wk n E p x s :=
  gr_ind (P := fun s => gr_wk n E p x s) (fun _ e hs => gr_s h hq e hs) (fun _ _ _ hr hn e hs => gr_s hr hn e hs) h2
theorem gr_le (hE : ∀ q s, q < n → E q s → s ≤ n) {p x y : Nat} (hp : p < n) (h : gr_wk n E p x y) : y ≤ n :=
  gr_ind (P := fun s => s ≤ n) (fun s e _ => hE p s hp e) (fun q s _ _ hq e _ => hE q s hq e) h
theorem gr_pdtr {x y p : Nat} (h1 : gr_pd n E x y) (h2 : gr_pd n E y p) : gr_pd n E x p := by
  rcases h1 with h1 | ⟨hy, h1⟩
  · rw [h1]; exact h2
  rcases h2 with h2 | ⟨hp, h2⟩
  · rw [← h2]; exact Or.inr ⟨hy, h1⟩
  refine Or.inr ⟨hp, fun hw => ?_⟩
  have k : gr_wk n E p y n ∨ n = y ∨ gr_wk n E y x n := by
    refine gr_ind (P := fun s => gr_wk n E p y s ∨ s = y ∨ gr_wk n E y x s) ?_ ?_ hw
    · intro s e hs
      by_cases c : s = y
      · exact Or.inr (Or.inl c)
      · exact Or.inl (gr_1 e c)
    · intro q s _ hq hn e hs
      rcases hq with hq | hq | hq
      · by_cases c : s = y
        · exact Or.inr (Or.inl c)
        · exact Or.inl (gr_s hq hn e c)
      · rw [hq] at e
        exact Or.inr (Or.inr (gr_1 e hs))
      · exact Or.inr (Or.inr (gr_s hq hn e hs))
  rcases k with k | k | k
  · exact h2 k
  · omega
  · exact h1 k
theorem gr_anti (hR : ∀ p, p < n → gr_wk n E p (n + 1) n) {x y : Nat} (h1 : gr_pd n E x y) (h2 : gr_pd n E y x) : x = y := by
  rcases h1 with h | ⟨hy, h1⟩
  · exact h
  rcases h2 with h | ⟨hx, h2⟩
  · exact h.symm
  exfalso
  have k : gr_wk n E x y n ∨ n = y ∨ gr_wk n E y x n ∨ n = x := by
    refine gr_ind (P := fun s => gr_wk n E x y s ∨ s = y ∨ gr_wk n E y x s ∨ s = x) ?_ ?_ (hR x hx)
    · intro s e _
      by_cases c : s = y
      · exact Or.inr (Or.inl c)
      · exact Or.inl (gr_1 e c)
    · intro q s _ hq hn e _
      rcases hq with hq | hq | hq | hq
      · by_cases c : s = y
        · exact Or.inr (Or.inl c)
        · exact Or.inl (gr_s hq hn e c)
      · rw [hq] at e
        by_cases c : s = x
        · exact Or.inr (Or.inr (Or.inr c))
        · exact Or.inr (Or.inr (Or.inl (gr_1 e c)))
      · by_cases c : s = x
        · exact Or.inr (Or.inr (Or.inr c))
        · exact Or.inr (Or.inr (Or.inl (gr_s hq hn e c)))
      · rw [hq] at e
        by_cases c : s = y
        · exact Or.inr (Or.inl c)
        · exact Or.inl (gr_1 e c)
  rcases k with k | k | k | k
  · exact h2 k
  · omega
  · exact h1 k
  · omega
theorem gr_ex (hE : ∀ q s, q < n → E q s → s ≤ n) (hR : ∀ p, p < n → gr_wk n E p (n + 1) n) {p : Nat} (hp : p < n) : ∃ j, j ≤ n ∧ gr_jn n E p j := by
  have hDw : ∀ y, (y ≠ p ∧ gr_pd n E y p) → ¬ gr_wk n E p y n := fun y h => by
    rcases h.2 with e | e
    · exact absurd e h.1
    · exact e.2
  have hDn : n ≠ p ∧ gr_pd n E n p := ⟨by omega, Or.inr ⟨hp, fun w => gr_ne w rfl⟩⟩
  have key : ∃ j, (j ≠ p ∧ gr_pd n E j p) ∧ j ≤ n ∧ (∀ y, (y ≠ p ∧ gr_pd n E y p) → j ≠ y → gr_wk n E p y j) := by
    apply Classical.byContradiction
    intro hno
    have all : ∀ s, gr_wk n E p (n + 1) s → ¬ (s ≠ p ∧ gr_pd n E s p) ∧ ∀ y, (y ≠ p ∧ gr_pd n E y p) → gr_wk n E p y s := by
      intro s hs
      refine gr_ind (P := fun s => ¬ (s ≠ p ∧ gr_pd n E s p) ∧ ∀ y, (y ≠ p ∧ gr_pd n E y p) → gr_wk n E p y s) ?_ ?_ hs
      · intro s e _
        by_cases c : s ≠ p ∧ gr_pd n E s p
        · exact absurd ⟨s, c, hE p s hp e, fun y hy hsy => gr_1 e hsy⟩ hno
        · refine ⟨c, fun y hy => gr_1 e (fun z => c (z ▸ hy))⟩
      · intro q s _ hq hn e _
        by_cases c : s ≠ p ∧ gr_pd n E s p
        · exact absurd ⟨s, c, hE q s hn e, fun y hy hsy => gr_s (hq.2 y hy) hn e hsy⟩ hno
        · exact ⟨c, fun y hy => gr_s (hq.2 y hy) hn e (fun z => c (z ▸ hy))⟩
    exact (all n (hR p hp)).1 hDn
  obtain ⟨j, hj, hjn, hk⟩ := key
  refine ⟨j, hjn, hj.1, hj.2, fun y hy hpy => ?_⟩
  by_cases c : y = j
  · exact Or.inl c
  have w := hk y ⟨hy, hpy⟩ (fun z => c z.symm)
  have hlt : j < n := by
    rcases Nat.lt_or_ge j n with h | h
    · exact h
    · have e : j = n := by omega
      rw [e] at w
      exact absurd w (hDw y ⟨hy, hpy⟩)
  exact Or.inr ⟨hlt, fun w2 => hDw y ⟨hy, hpy⟩ (gr_tr w hlt w2)⟩
theorem gr_uq (hR : ∀ p, p < n → gr_wk n E p (n + 1) n) {p j k : Nat} (h1 : gr_jn n E p j) (h2 : gr_jn n E p k) : j = k :=
  gr_anti hR (h2.2.2 j h1.1 h1.2.1) (h1.2.2 k h2.1 h2.2.1)
theorem gr_nw {p j : Nat} (h : gr_jn n E p j) : ¬ gr_wk n E p j n := by
  rcases h.2.1 with e | e
  · exact absurd e h.1
  · exact e.2
theorem gr_rin (hE : ∀ q s, q < n → E q s → s ≤ n) {p j q : Nat} (hp : p < n) (hj : gr_jn n E p j) (h : gr_wk n E p j q) : q < n := by
  have a := gr_le hE hp h
  have b : q ≠ n := fun e => gr_nw hj (e ▸ h)
  omega
/-- the set criterion of the join point -/
theorem gr_set (hR : ∀ p, p < n → gr_wk n E p (n + 1) n) {p x : Nat} (hx : x ≤ n) (hp : p < n) : (∀ y, y ≤ n → (gr_pd n E y x ↔ (gr_pd n E y p ∧ y ≠ p))) → gr_jn n E p x := by
  intro h
  have a := (h x hx).mp (Or.inl rfl)
  refine ⟨a.2, a.1, fun y hy hpy => ?_⟩
  rcases Nat.lt_or_ge n y with c | c
  · rcases hpy with e | ⟨_, e⟩
    · exact absurd e hy
    · exfalso
      apply e
      exact gr_ind (P := fun s => gr_wk n E p y s ∨ s = y) (fun s e _ => by
        by_cases c : s = y
        · exact Or.inr c
        · exact Or.inl (gr_1 e c)) (fun q s _ hq hn e _ => by
        by_cases c : s = y
        · exact Or.inr c
        · rcases hq with hq | hq
          · exact Or.inl (gr_s hq hn e c)
          · omega) (hR p hp) |>.resolve_right (by omega)
  · exact (h y c).mpr ⟨hpy, hy⟩
theorem gr_set2 (hR : ∀ p, p < n → gr_wk n E p (n + 1) n) {p x : Nat} (h : gr_jn n E p x) (y : Nat) : gr_pd n E y x ↔ (gr_pd n E y p ∧ y ≠ p) := by
  constructor
  · intro hy
    refine ⟨gr_pdtr hy h.2.1, fun e => ?_⟩
    rw [e] at hy
    exact h.1 (gr_anti hR h.2.1 hy)
  · intro hy
    exact h.2.2 y hy.2 hy.1
section
variable {p j q k : Nat}
theorem gr_pjk (hE : ∀ q s, q < n → E q s → s ≤ n) (hp : p < n) (hj : gr_jn n E p j) (hq : gr_wk n E p j q) (hk : gr_jn n E q k) : gr_pd n E j k :=
  hk.2.2 j (fun e => gr_ne hq e.symm) (Or.inr ⟨gr_rin hE hp hj hq, fun w => gr_nw hj (gr_tr hq (gr_rin hE hp hj hq) w)⟩)
theorem gr_nj (hE : ∀ q s, q < n → E q s → s ≤ n) (hR : ∀ p, p < n → gr_wk n E p (n + 1) n) (hp : p < n) (hj : gr_jn n E p j) (hq : gr_wk n E p j q) (hk : gr_jn n E q k) : ¬ gr_wk n E q k j := by
  intro w
  have hqn := gr_rin hE hp hj hq
  have hjk := gr_pjk hE hp hj hq hk
  have ne : j ≠ k := gr_ne w
  have hle := gr_le hE hqn w
  rcases Nat.lt_or_ge j n with c | c
  · have w2 : gr_wk n E j k n := by
      apply Classical.byContradiction
      intro z
      exact ne (gr_anti hR hjk (Or.inr ⟨c, z⟩))
    exact gr_nw hk (gr_tr w c w2)
  · have e : j = n := by omega
    rw [e] at w
    exact gr_nw hk w
/-- a region holds the regions of its nodes -/
theorem gr_sub (hE : ∀ q s, q < n → E q s → s ≤ n) (hR : ∀ p, p < n → gr_wk n E p (n + 1) n) (hp : p < n) (hj : gr_jn n E p j) (hq : gr_wk n E p j q) (hk : gr_jn n E q k) {s : Nat} (h : gr_wk n E q k s) : gr_wk n E p j s := by
  have nj := gr_nj hE hR hp hj hq hk
  refine gr_ind (P := fun s => gr_wk n E p j s) ?_ ?_ h
  · intro s e hs
    refine gr_s hq (gr_rin hE hp hj hq) e (fun z => nj ?_)
    rw [← z]
    exact gr_1 e hs
  · intro r s hr hpr hn e hs
    refine gr_s hpr hn e (fun z => nj ?_)
    rw [← z]
    exact gr_s hr hn e hs
/-- the join point of a node of a region is in the region or is the region's own -/
theorem gr_jin (hE : ∀ q s, q < n → E q s → s ≤ n) (hR : ∀ p, p < n → gr_wk n E p (n + 1) n) (hp : p < n) (hj : gr_jn n E p j) (hq : gr_wk n E p j q) (hk : gr_jn n E q k) : gr_wk n E p j k ∨ k = j := by
  by_cases c : k = j
  · exact Or.inr c
  left
  apply Classical.byContradiction
  intro hno
  have nj := gr_nj hE hR hp hj hq hk
  have hqn := gr_rin hE hp hj hq
  have hno2 : ¬ gr_wk n E q j k := fun w => hno (gr_tr hq hqn w)
  have all : gr_wk n E q j n ∧ gr_wk n E q k n := by
    refine gr_ind (P := fun s => gr_wk n E q j s ∧ gr_wk n E q k s) ?_ ?_ (hR q hqn)
    · intro s e _
      have h1 : s ≠ j := fun z => nj (by rw [← z]; exact gr_1 e (fun y => c (y.symm.trans z)))
      have h2 : s ≠ k := fun z => hno2 (by rw [← z]; exact gr_1 e h1)
      exact ⟨gr_1 e h1, gr_1 e h2⟩
    · intro r s _ hr hn e _
      have h1 : s ≠ j := fun z => nj (by rw [← z]; exact gr_s hr.2 hn e (fun y => c (y.symm.trans z)))
      have h2 : s ≠ k := fun z => hno2 (by rw [← z]; exact gr_s hr.1 hn e h1)
      exact ⟨gr_s hr.1 hn e h1, gr_s hr.2 hn e h2⟩
  exact gr_nw hk all.2
end
end
end
section
/-! own rows: the program, one lane's life, what a run makes of all lanes -/
abbrev pg_P : Type := Nat × Nat × Nat × Nat × (Nat → Nat) × (Nat → Nat) × (Nat → Nat) × (Nat → Int32) × (Nat → Nat)
def pg_n (P : pg_P) : Nat := P.1
def pg_L (P : pg_P) : Nat := P.2.1
def pg_w (P : pg_P) : Nat := P.2.2.1
def pg_al (P : pg_P) : Nat := P.2.2.2.1
def pg_o (P : pg_P) : Nat → Nat := P.2.2.2.2.1
def pg_a (P : pg_P) : Nat → Nat := P.2.2.2.2.2.1
def pg_b (P : pg_P) : Nat → Nat := P.2.2.2.2.2.2.1
def pg_c (P : pg_P) : Nat → Int32 := P.2.2.2.2.2.2.2.1
def pg_j (P : pg_P) : Nat → Nat := P.2.2.2.2.2.2.2.2
def pg_tg (P : pg_P) (p : Nat) : Nat := (pg_c P p).toNatClampNeg
/-- the edges -/
def pg_E (P : pg_P) (q s : Nat) : Prop :=
  (pg_o P q = 0 ∧ s = pg_n P) ∨ (pg_o P q = 15 ∧ s = pg_tg P q) ∨ (16 ≤ pg_o P q ∧ pg_o P q ≤ 19 ∧ (s = pg_tg P q ∨ s = q + 1)) ∨ (pg_o P q ≠ 0 ∧ (pg_o P q < 15 ∨ 19 < pg_o P q) ∧ s = q + 1)
/-- an instruction that was let in -/
def pg_in (P : pg_P) (p : Nat) : Prop :=
  pg_o P p ≤ 24 ∧ pg_a P p < 8 ∧ pg_b P p < 8 ∧ ((pg_o P p = 18 ∨ pg_o P p = 19 ∨ 21 ≤ pg_o P p) → pg_a P p < 4) ∧ ((pg_o P p = 4 ∨ 23 ≤ pg_o P p) → pg_b P p < 4) ∧ (5 ≤ pg_o P p → pg_o P p ≤ 10 → ∃ k, k < 8 ∧ pg_c P p = nI k) ∧ (pg_o P p = 24 → ∃ k, k < 4 ∧ pg_c P p = nI k)
def pg_ok (P : pg_P) : Prop :=
  2 ≤ pg_L P ∧ pg_L P ≤ 8 ∧ pg_n P ≤ 32 ∧ 4 ≤ pg_w P ∧ pg_w P ≤ 16 ∧ 16 ≤ pg_al P ∧ pg_al P ≤ 128 ∧ ∀ p, p < pg_n P → pg_in P p
/-- targets are nodes -/
def pg_tok (P : pg_P) : Prop := ∀ p, p < pg_n P → 15 ≤ pg_o P p → pg_o P p ≤ 19 → pg_c P p = nI (pg_tg P p) ∧ pg_tg P p ≤ pg_n P
/-- what a good seal has found -/
def pg_se (P : pg_P) : Prop :=
  1 ≤ pg_n P ∧ pg_tok P ∧ (∀ p, p < pg_n P → gr_wk (pg_n P) (pg_E P) p (pg_n P + 1) (pg_n P)) ∧ (∀ p, p < pg_n P → pg_j P p ≤ pg_n P ∧ gr_jn (pg_n P) (pg_E P) p (pg_j P p)) ∧ (∀ p q, p < pg_n P → q < pg_n P → (pg_o P p = 16 ∨ pg_o P p = 17) → 20 ≤ pg_o P q → ¬ gr_wk (pg_n P) (pg_E P) p (pg_j P p) q)
theorem pg_El {P : pg_P} (h : pg_tok P) : ∀ q s, q < pg_n P → pg_E P q s → s ≤ pg_n P := by
  intro q s hq e
  rcases e with ⟨_, e⟩ | ⟨e1, e⟩ | ⟨e1, e2, e | e⟩ | ⟨_, _, e⟩
  · omega
  · have := (h q hq (by omega) (by omega)).2; omega
  · have := (h q hq (by omega) (by omega)).2; omega
  · omega
  · omega
/-! a lane: status, pc, steps, registers, memory, trace -/
abbrev ln_V : Type := Int32 × Nat × Nat × (Nat → Int32) × (Nat → Int32) × (Nat → Nat)
def ln_st (v : ln_V) : Int32 := v.1
def ln_pc (v : ln_V) : Nat := v.2.1
def ln_sp (v : ln_V) : Nat := v.2.2.1
def ln_rg (v : ln_V) : Nat → Int32 := v.2.2.2.1
def ln_mm (v : ln_V) : Nat → Int32 := v.2.2.2.2.1
def ln_tr (v : ln_V) : Nat → Nat := v.2.2.2.2.2
def ln_up (f : Nat → Nat) (k x : Nat) : Nat → Nat := fun j => if j = k then x else f j
def ln_ad (P : pg_P) (v : ln_V) : Int32 := ln_rg v (pg_b P (ln_pc v)) + pg_c P (ln_pc v)
def ln_lm (P : pg_P) (p : Nat) : Int32 := if pg_o P p = 12 then 16 else nI (pg_w P)
def ln_bd (P : pg_P) (v : ln_V) : Bool := decide (12 ≤ pg_o P (ln_pc v)) && decide (pg_o P (ln_pc v) ≤ 14) && (decide (ln_ad P v < 0) || decide (ln_lm P (ln_pc v) ≤ ln_ad P v))
def ln_vl (P : pg_P) (u t : Nat → Int32) (l : Nat) (v : ln_V) : Int32 :=
  if pg_o P (ln_pc v) = 1 then pg_c P (ln_pc v)
  else if pg_o P (ln_pc v) = 2 then ln_rg v (pg_b P (ln_pc v))
  else if pg_o P (ln_pc v) = 3 then nI l
  else if pg_o P (ln_pc v) = 4 then u (pg_b P (ln_pc v))
  else if pg_o P (ln_pc v) = 5 then ln_rg v (pg_b P (ln_pc v)) + ln_rg v (pg_tg P (ln_pc v))
  else if pg_o P (ln_pc v) = 6 then ln_rg v (pg_b P (ln_pc v)) - ln_rg v (pg_tg P (ln_pc v))
  else if pg_o P (ln_pc v) = 7 then ln_rg v (pg_b P (ln_pc v)) * ln_rg v (pg_tg P (ln_pc v))
  else if pg_o P (ln_pc v) = 8 then ln_rg v (pg_b P (ln_pc v)) &&& ln_rg v (pg_tg P (ln_pc v))
  else if pg_o P (ln_pc v) = 9 then ln_rg v (pg_b P (ln_pc v)) ^^^ ln_rg v (pg_tg P (ln_pc v))
  else if pg_o P (ln_pc v) = 10 then (if ln_rg v (pg_tg P (ln_pc v)) ≤ ln_rg v (pg_b P (ln_pc v)) then 0 else 1)
  else if pg_o P (ln_pc v) = 11 then ln_ad P v
  else if pg_o P (ln_pc v) = 12 then t (ln_ad P v).toNatClampNeg
  else if pg_o P (ln_pc v) = 13 then ln_mm v (ln_ad P v).toNatClampNeg
  else ln_rg v (pg_a P (ln_pc v))
def ln_tk (P : pg_P) (u : Nat → Int32) (v : ln_V) : Bool :=
  decide (pg_o P (ln_pc v) = 15) || (decide (pg_o P (ln_pc v) = 16) && decide (ln_rg v (pg_a P (ln_pc v)) = 0)) || (decide (pg_o P (ln_pc v) = 17) && !decide (ln_rg v (pg_a P (ln_pc v)) = 0)) || (decide (pg_o P (ln_pc v) = 18) && decide (u (pg_a P (ln_pc v)) = 0)) || (decide (pg_o P (ln_pc v) = 19) && !decide (u (pg_a P (ln_pc v)) = 0))
def ln_nx (P : pg_P) (u : Nat → Int32) (v : ln_V) : Nat :=
  if pg_o P (ln_pc v) = 0 then pg_n P else if ln_tk P u v = true then pg_tg P (ln_pc v) else ln_pc v + 1
def ln_step (P : pg_P) (u t : Nat → Int32) (l : Nat) (v : ln_V) : ln_V :=
  if ln_bd P v = true then (3, ln_pc v, ln_sp v + 1, ln_rg v, ln_mm v, ln_up (ln_tr v) (ln_sp v) (ln_pc v))
  else (if ln_nx P u v = pg_n P then 2 else ln_st v, ln_nx P u v, ln_sp v + 1, upd (ln_rg v) (pg_a P (ln_pc v)) (ln_vl P u t l v), if pg_o P (ln_pc v) = 14 then upd (ln_mm v) (ln_ad P v).toNatClampNeg (ln_rg v (pg_a P (ln_pc v))) else ln_mm v, ln_up (ln_tr v) (ln_sp v) (ln_pc v))
def ln_nf (P : pg_P) (u t : Nat → Int32) (l : Nat) : Nat → ln_V → ln_V
  | 0, v => v
  | k + 1, v => if ln_st v = 1 then (if ln_sp v < pg_al P then (if pg_o P (ln_pc v) < 20 then ln_nf P u t l k (ln_step P u t l v) else v) else (4, v.2)) else v
section
variable {P : pg_P} {u t : Nat → Int32} {l : Nat}
theorem ln_sp1 (v : ln_V) : ln_sp (ln_step P u t l v) = ln_sp v + 1 := by unfold ln_step; split <;> rfl
theorem ln_tr1 (v : ln_V) : ln_tr (ln_step P u t l v) = ln_up (ln_tr v) (ln_sp v) (ln_pc v) := by unfold ln_step; split <;> rfl
theorem ln_pc1 (v : ln_V) (h : ln_bd P v = false) : ln_pc (ln_step P u t l v) = ln_nx P u v := by unfold ln_step; rw [if_neg (by rw [h]; exact Bool.noConfusion)]; rfl
theorem ln_st1 (v : ln_V) (h : ln_bd P v = false) : ln_st (ln_step P u t l v) = if ln_nx P u v = pg_n P then 2 else ln_st v := by unfold ln_step; rw [if_neg (by rw [h]; exact Bool.noConfusion)]; rfl
theorem ln_st2 (v : ln_V) (h : ln_bd P v = true) : ln_st (ln_step P u t l v) = 3 := by unfold ln_step; rw [if_pos h]; rfl
theorem ln_bd0 (v : ln_V) (h : ¬ (12 ≤ pg_o P (ln_pc v) ∧ pg_o P (ln_pc v) ≤ 14)) : ln_bd P v = false := by
  unfold ln_bd
  by_cases c : 12 ≤ pg_o P (ln_pc v)
  · have d : ¬ pg_o P (ln_pc v) ≤ 14 := fun d => h ⟨c, d⟩
    simp [d]
  · simp [c]
/-- a step to a node by an edge -/
theorem ln_edge (v : ln_V) (ho : pg_o P (ln_pc v) ≤ 24) : pg_E P (ln_pc v) (ln_nx P u v) := by
  unfold ln_nx pg_E
  by_cases c0 : pg_o P (ln_pc v) = 0
  · rw [if_pos c0]; exact Or.inl ⟨c0, rfl⟩
  rw [if_neg c0]
  by_cases ct : ln_tk P u v = true
  · rw [if_pos ct]
    unfold ln_tk at ct
    simp only [Bool.or_eq_true, Bool.and_eq_true, decide_eq_true_eq] at ct
    rcases ct with (((ct | ct) | ct) | ct) | ct
    · exact Or.inr (Or.inl ⟨ct, rfl⟩)
    · exact Or.inr (Or.inr (Or.inl ⟨by omega, by omega, Or.inl rfl⟩))
    · exact Or.inr (Or.inr (Or.inl ⟨by omega, by omega, Or.inl rfl⟩))
    · exact Or.inr (Or.inr (Or.inl ⟨by omega, by omega, Or.inl rfl⟩))
    · exact Or.inr (Or.inr (Or.inl ⟨by omega, by omega, Or.inl rfl⟩))
  · rw [if_neg ct]
    have n15 : pg_o P (ln_pc v) ≠ 15 := by
      intro z
      apply ct
      unfold ln_tk
      simp [z]
    by_cases cb : 16 ≤ pg_o P (ln_pc v) ∧ pg_o P (ln_pc v) ≤ 19
    · exact Or.inr (Or.inr (Or.inl ⟨cb.1, cb.2, Or.inr rfl⟩))
    · exact Or.inr (Or.inr (Or.inr ⟨c0, by omega, rfl⟩))
theorem ln_nxle (h : pg_tok P) (v : ln_V) (hp : ln_pc v < pg_n P) (ho : pg_o P (ln_pc v) ≤ 24) : ln_nx P u v ≤ pg_n P := pg_El h _ _ hp (ln_edge v ho)
/-- alone: more fuel than steps are left changes nothing -/
theorem ln_stab : ∀ (k : Nat) (v : ln_V), 0 < k → pg_al P < k + ln_sp v → ln_nf P u t l (k + 1) v = ln_nf P u t l k v := by
  intro k
  induction k with
  | zero => intro v h; omega
  | succ k ih =>
    intro v _ h
    unfold ln_nf
    by_cases c1 : ln_st v = 1
    · rw [if_pos c1, if_pos c1]
      by_cases c2 : ln_sp v < pg_al P
      · rw [if_pos c2, if_pos c2]
        by_cases c3 : pg_o P (ln_pc v) < 20
        · rw [if_pos c3, if_pos c3]
          exact ih _ (by omega) (by rw [ln_sp1]; omega)
        · rw [if_neg c3, if_neg c3]
      · rw [if_neg c2, if_neg c2]
    · rw [if_neg c1, if_neg c1]
theorem ln_nfstep (hal : pg_al P ≤ 128) {v : ln_V} (h1 : ln_st v = 1) (h2 : ln_sp v < pg_al P) (h3 : pg_o P (ln_pc v) < 20) : ln_nf P u t l 129 (ln_step P u t l v) = ln_nf P u t l 129 v := by
  have e : ln_nf P u t l 129 v = ln_nf P u t l 128 (ln_step P u t l v) := by
    rw [show (129 : Nat) = 128 + 1 from rfl, ln_nf, if_pos h1, if_pos h2, if_pos h3]
  rw [e]
  exact ln_stab 128 _ (by omega) (by rw [ln_sp1]; omega)
theorem ln_nfstop {v : ln_V} (h1 : ln_st v ≠ 1) (k : Nat) : ln_nf P u t l k v = v := by
  cases k with
  | zero => rfl
  | succ k => rw [ln_nf, if_neg h1]
theorem ln_nfspent {v : ln_V} (h1 : ln_st v = 1) (h2 : ¬ ln_sp v < pg_al P) (k : Nat) : ln_nf P u t l (k + 1) v = (4, v.2) := by
  rw [ln_nf, if_pos h1, if_neg h2]
theorem ln_nfsync {v : ln_V} (h3 : ¬ pg_o P (ln_pc v) < 20) (h2 : ln_st v = 1 → ln_sp v < pg_al P) (k : Nat) : ln_nf P u t l k v = v := by
  cases k with
  | zero => rfl
  | succ k =>
    rw [ln_nf]
    by_cases c1 : ln_st v = 1
    · rw [if_pos c1, if_pos (h2 c1), if_neg h3]
    · rw [if_neg c1]
/-! what a later state of a lane keeps -/
def ln_ft (f : ln_V) (i : Nat) : Nat := if i < ln_sp f then ln_tr f i else ln_pc f
def ln_ext (v f : ln_V) : Prop := ln_sp v ≤ ln_sp f ∧ (∀ i, i < ln_sp v → ln_tr f i = ln_tr v i) ∧ ln_ft f (ln_sp v) = ln_pc v ∧ (ln_st v ≠ 1 → f = v)
theorem ln_ext0 (v : ln_V) : ln_ext v v := ⟨Nat.le_refl _, fun _ _ => rfl, by unfold ln_ft; rw [if_neg (Nat.lt_irrefl _)], fun _ => rfl⟩
theorem ln_ext1 {v f : ln_V} (h1 : ln_st v = 1) (h : ln_ext (ln_step P u t l v) f) : ln_ext v f := by
  have e := h.1
  rw [ln_sp1] at e
  refine ⟨by omega, fun i hi => ?_, ?_, fun z => absurd h1 z⟩
  · rw [h.2.1 i (by rw [ln_sp1]; omega), ln_tr1]
    exact if_neg (by omega)
  · unfold ln_ft
    rw [if_pos (by omega), h.2.1 _ (by rw [ln_sp1]; omega), ln_tr1]
    exact if_pos rfl
theorem ln_ext4 {v f : ln_V} (h1 : ln_st v = 1) (h : ln_ext ((4, v.2) : ln_V) f) : ln_ext v f := by
  have e : f = (4, v.2) := h.2.2.2 (by show ¬ (4 : Int32) = 1; decide)
  rw [e]
  refine ⟨Nat.le_refl _, fun i hi => rfl, ?_, fun z => absurd h1 z⟩
  unfold ln_ft
  exact if_neg (Nat.lt_irrefl _)
theorem ln_extnf {f : ln_V} : ∀ (k : Nat) (v : ln_V), ln_ext (ln_nf P u t l k v) f → ln_ext v f := by
  intro k
  induction k with
  | zero => intro v h; exact h
  | succ k ih =>
    intro v h
    unfold ln_nf at h
    by_cases c1 : ln_st v = 1
    · rw [if_pos c1] at h
      by_cases c2 : ln_sp v < pg_al P
      · rw [if_pos c2] at h
        by_cases c3 : pg_o P (ln_pc v) < 20
        · rw [if_pos c3] at h
          exact ln_ext1 c1 (ih _ h)
        · rw [if_neg c3] at h
          exact h
      · rw [if_neg c2] at h
        exact ln_ext4 c1 h
    · rw [if_neg c1] at h
      exact h
/-- good lanes: pc a node, running lanes at an instruction, steps within the allowance -/
def ln_gd (P : pg_P) (v : ln_V) : Prop := ln_pc v ≤ pg_n P ∧ (ln_st v = 1 → ln_pc v < pg_n P) ∧ ln_sp v ≤ pg_al P ∧ (∀ i, i < ln_sp v → ln_tr v i < pg_n P)
theorem ln_gd1 (ht : pg_tok P) (hin : ∀ p, p < pg_n P → pg_in P p) {v : ln_V} (h : ln_gd P v) (h1 : ln_st v = 1) (h2 : ln_sp v < pg_al P) : ln_gd P (ln_step P u t l v) := by
  have hp := h.2.1 h1
  refine ⟨?_, ?_, by rw [ln_sp1]; omega, ?_⟩
  · cases hb : ln_bd P v
    · rw [ln_pc1 v hb]; exact ln_nxle ht v hp (hin _ hp).1
    · unfold ln_step; rw [if_pos hb]; exact h.1
  · intro hs
    cases hb : ln_bd P v
    · rw [ln_st1 v hb] at hs
      rw [ln_pc1 v hb]
      have := ln_nxle (u := u) ht v hp (hin _ hp).1
      by_cases c : ln_nx P u v = pg_n P
      · rw [if_pos c] at hs; exact absurd hs (by decide)
      · omega
    · rw [ln_st2 v hb] at hs; exact absurd hs (by decide)
  · intro i hi
    rw [ln_sp1] at hi
    rw [ln_tr1]
    unfold ln_up
    by_cases c : i = ln_sp v
    · rw [if_pos c]; exact hp
    · rw [if_neg c]; exact h.2.2.2 i (by omega)
theorem ln_gd4 {v : ln_V} (h : ln_gd P v) : ln_gd P ((4, v.2) : ln_V) := ⟨h.1, fun z => absurd z (by show ¬ (4 : Int32) = 1; decide), h.2.2.1, h.2.2.2⟩
theorem ln_gdnf (ht : pg_tok P) (hin : ∀ p, p < pg_n P → pg_in P p) : ∀ (k : Nat) (v : ln_V), ln_gd P v → ln_gd P (ln_nf P u t l k v) := by
  intro k
  induction k with
  | zero => intro v h; exact h
  | succ k ih =>
    intro v h
    unfold ln_nf
    by_cases c1 : ln_st v = 1
    · rw [if_pos c1]
      by_cases c2 : ln_sp v < pg_al P
      · rw [if_pos c2]
        by_cases c3 : pg_o P (ln_pc v) < 20
        · rw [if_pos c3]
          exact ih _ (ln_gd1 ht hin h c1 c2)
        · rw [if_neg c3]
          exact h
      · rw [if_neg c2]
        exact ln_gd4 h
    · rw [if_neg c1]
      exact h
/-- at the end of going alone: stopped, or at a SYNC with a step left -/
theorem ln_nfend : ∀ (k : Nat) (v : ln_V), 0 < k → pg_al P < k + ln_sp v → ln_st (ln_nf P u t l k v) = 1 → 20 ≤ pg_o P (ln_pc (ln_nf P u t l k v)) ∧ ln_sp (ln_nf P u t l k v) < pg_al P := by
  intro k
  induction k with
  | zero => intro v h; omega
  | succ k ih =>
    intro v _ hk h
    unfold ln_nf at h ⊢
    by_cases c1 : ln_st v = 1
    · rw [if_pos c1] at h ⊢
      by_cases c2 : ln_sp v < pg_al P
      · rw [if_pos c2] at h ⊢
        by_cases c3 : pg_o P (ln_pc v) < 20
        · rw [if_pos c3] at h ⊢
          exact ih _ (by omega) (by rw [ln_sp1]; omega) h
        · rw [if_neg c3] at h ⊢
          exact ⟨by omega, c2⟩
      · rw [if_neg c2] at h
        exact absurd h (by show ¬ (4 : Int32) = 1; decide)
    · rw [if_neg c1] at h
      exact absurd h c1
theorem ln_nfsp : ∀ (k : Nat) (v : ln_V), ln_sp v ≤ ln_sp (ln_nf P u t l k v) := by
  intro k v
  exact (ln_extnf k v (ln_ext0 _)).1
end
end
section
/-! own rows: all lanes, round by round; the pairs of carrying-outs that are together -/
def bm_m (f : Nat → Bool) : Nat → Nat
  | 0 => 0
  | k + 1 => bm_m f k + (if f k = true then 2 ^ k else 0)
def rn_nf (P : pg_P) (u t : Nat → Int32) (c : Nat → ln_V) : Nat → ln_V := fun l => if l < pg_L P then ln_nf P u t l 129 (c l) else c l
def sy_v (P : pg_P) (c : Nat → ln_V) (p : Nat) : Int32 := nI (bm_m (fun l => decide (ln_st (c l) = 1) && !decide (ln_rg (c l) (pg_b P p) = 0)) (pg_L P))
def sy_u (P : pg_P) (c : Nat → ln_V) (u : Nat → Int32) (p : Nat) : Nat → Int32 :=
  if pg_o P p = 21 then upd u (pg_a P p) (sy_v P c p) else if pg_o P p = 22 then upd u (pg_a P p) (pg_c P p) else if pg_o P p = 23 then upd u (pg_a P p) (u (pg_b P p) + pg_c P p) else if pg_o P p = 24 then upd u (pg_a P p) (u (pg_b P p) + u (pg_tg P p)) else u
def sy_c (P : pg_P) (u t : Nat → Int32) (c : Nat → ln_V) : Nat → ln_V := fun l => if l < pg_L P ∧ ln_st (c l) = 1 then ln_step P u t l (c l) else c l
def sy_b (P : pg_P) (b : Int32) (p : Nat) : Int32 := if pg_o P p = 20 then b + 1 else b
abbrev rn_S : Type := (Nat → ln_V) × (Nat → Int32) × Int32
def rn_fin (P : pg_P) (t : Nat → Int32) : Nat → (Nat → ln_V) → (Nat → Int32) → Int32 → rn_S → Prop
  | 0, c, u, b, F => F = (c, u, b)
  | k + 1, c, u, b, F =>
    ((∀ l, l < pg_L P → ln_st (rn_nf P u t c l) ≠ 1) → F = (rn_nf P u t c, u, b)) ∧
    (∀ l, l < pg_L P → ln_st (rn_nf P u t c l) = 1 → (∀ m, m < l → ln_st (rn_nf P u t c m) ≠ 1) →
      (pg_o P (ln_pc (rn_nf P u t c l)) = 20 → F = (sy_c P u t (rn_nf P u t c), sy_u P (rn_nf P u t c) u (ln_pc (rn_nf P u t c l)), sy_b P b (ln_pc (rn_nf P u t c l)))) ∧
      (pg_o P (ln_pc (rn_nf P u t c l)) ≠ 20 → rn_fin P t k (sy_c P u t (rn_nf P u t c)) (sy_u P (rn_nf P u t c) u (ln_pc (rn_nf P u t c l))) (sy_b P b (ln_pc (rn_nf P u t c l))) F))
section
variable {P : pg_P} {u t : Nat → Int32} {b : Int32} {F : rn_S}
theorem rn_same {k : Nat} {c c' : Nat → ln_V} (e : rn_nf P u t c' = rn_nf P u t c) (h : rn_fin P t (k + 1) c u b F) : rn_fin P t (k + 1) c' u b F := by
  unfold rn_fin at h ⊢
  rw [e]
  exact h
theorem rn_least {p : Nat → Prop} (h : ∃ l, l < pg_L P ∧ p l) : ∃ l, l < pg_L P ∧ p l ∧ ∀ m, m < l → ¬ p m := by
  obtain ⟨l, hl, hm⟩ := pk_least (fun l => l < pg_L P ∧ p l) h
  exact ⟨l, hl.1, hl.2, fun m hml hp => hm m hml ⟨by omega, hp⟩⟩
theorem rn_ext : ∀ (k : Nat) (c : Nat → ln_V) (u : Nat → Int32) (b : Int32), rn_fin P t k c u b F → ∀ l, l < pg_L P → ln_ext (c l) (F.1 l) := by
  intro k
  induction k with
  | zero =>
    intro c u b h l _
    unfold rn_fin at h
    rw [h]
    exact ln_ext0 _
  | succ k ih =>
    intro c u b h l hl
    unfold rn_fin at h
    have step : ln_ext (rn_nf P u t c l) (F.1 l) := by
      by_cases run : ∃ l, l < pg_L P ∧ ln_st (rn_nf P u t c l) = 1
      · obtain ⟨m, hm, h1, h2⟩ := rn_least run
        have hh := h.2 m hm h1 h2
        have hs : ln_ext (sy_c P u t (rn_nf P u t c) l) (F.1 l) := by
          by_cases o20 : pg_o P (ln_pc (rn_nf P u t c m)) = 20
          · rw [hh.1 o20]; exact ln_ext0 _
          · exact ih _ _ _ (hh.2 o20) l hl
        unfold sy_c at hs
        by_cases c1 : ln_st (rn_nf P u t c l) = 1
        · rw [if_pos ⟨hl, c1⟩] at hs
          exact ln_ext1 c1 hs
        · rw [if_neg (fun z => c1 z.2)] at hs
          exact hs
      · rw [h.1 (fun l hl z => run ⟨l, hl, z⟩)]
        exact ln_ext0 _
    unfold rn_nf at step
    rw [if_pos hl] at step
    exact ln_extnf 129 _ step
end
/-! pairs -/
def pr_fs (f : ln_V) (w i i' : Nat) : Prop := i ≤ i' ∧ i' ≤ ln_sp f ∧ ln_ft f i' = w ∧ ∀ m, i ≤ m → m < i' → ln_ft f m ≠ w
def pr_br (P : pg_P) (p : Nat) : Prop := pg_o P p = 16 ∨ pg_o P p = 17
def pr_st (P : pg_P) (f g : ln_V) (i j i' j' : Nat) : Prop :=
  i < ln_sp f ∧ j < ln_sp g ∧ (((¬ pr_br P (ln_ft f i) ∨ ln_ft f (i + 1) = ln_ft g (j + 1)) ∧ i' = i + 1 ∧ j' = j + 1) ∨ ((pr_br P (ln_ft f i) ∧ ln_ft f (i + 1) ≠ ln_ft g (j + 1)) ∧ pr_fs f (pg_j P (ln_ft f i)) (i + 1) i' ∧ pr_fs g (pg_j P (ln_ft f i)) (j + 1) j'))
def pr_k (P : pg_P) (f g : ln_V) : Nat → Nat → Nat → Prop
  | 0, i, j => i = 0 ∧ j = 0
  | k + 1, i', j' => ∃ i j, pr_k P f g k i j ∧ pr_st P f g i j i' j'
def pr_p (P : pg_P) (f g : ln_V) (i j : Nat) : Prop := ∃ k, pr_k P f g k i j
section
variable {P : pg_P} {f g : ln_V}
theorem pr_fsu {h : ln_V} {w i a b : Nat} (h1 : pr_fs h w i a) (h2 : pr_fs h w i b) : a = b := by
  rcases Nat.lt_trichotomy a b with c | c | c
  · exact absurd h1.2.2.1 (h2.2.2.2 a h1.1 c)
  · exact c
  · exact absurd h2.2.2.1 (h1.2.2.2 b h2.1 c)
theorem pr_stu {i j a b a' b' : Nat} (h1 : pr_st P f g i j a b) (h2 : pr_st P f g i j a' b') : a = a' ∧ b = b' := by
  rcases h1.2.2 with ⟨p1, e1, e2⟩ | ⟨p1, e1, e2⟩ <;> rcases h2.2.2 with ⟨p2, e3, e4⟩ | ⟨p2, e3, e4⟩
  · exact ⟨by omega, by omega⟩
  · rcases p1 with p1 | p1
    · exact absurd p2.1 p1
    · exact absurd p1 p2.2
  · rcases p2 with p2 | p2
    · exact absurd p1.1 p2
    · exact absurd p2 p1.2
  · exact ⟨pr_fsu e1 e3, pr_fsu e2 e4⟩
theorem pr_stlt {i j a b : Nat} (h : pr_st P f g i j a b) : i < a ∧ j < b := by
  rcases h.2.2 with ⟨_, e1, e2⟩ | ⟨_, e1, e2⟩
  · omega
  · have := e1.1; have := e2.1; omega
theorem pr_ku : ∀ k {i j i' j' : Nat}, pr_k P f g k i j → pr_k P f g k i' j' → i = i' ∧ j = j' := by
  intro k
  induction k with
  | zero => intro i j i' j' h1 h2; exact ⟨h1.1.trans h2.1.symm, h1.2.trans h2.2.symm⟩
  | succ k ih =>
    intro i j i' j' ⟨a, b, h1, s1⟩ ⟨a', b', h2, s2⟩
    obtain ⟨e1, e2⟩ := ih h1 h2
    subst e1 e2
    exact pr_stu s1 s2
theorem pr_kle : ∀ d {k i j : Nat}, pr_k P f g (k + d) i j → ∃ a b, pr_k P f g k a b ∧ a + d ≤ i ∧ b + d ≤ j := by
  intro d
  induction d with
  | zero => intro k i j h; exact ⟨i, j, h, Nat.le_refl _, Nat.le_refl _⟩
  | succ d ih =>
    intro k i j h
    obtain ⟨a, b, h1, s1⟩ := h
    obtain ⟨a', b', h2, e1, e2⟩ := ih h1
    have := pr_stlt s1
    exact ⟨a', b', h2, by omega, by omega⟩
theorem pr_kge {k i j : Nat} (h : pr_k P f g k i j) : k ≤ i ∧ k ≤ j := by
  obtain ⟨a, b, _, e1, e2⟩ := pr_kle (k := 0) k (by rw [Nat.zero_add]; exact h)
  omega
theorem pr_klt {k k' i j i' j' : Nat} (h1 : pr_k P f g k i j) (h2 : pr_k P f g k' i' j') (hk : k < k') : i < i' ∧ j < j' := by
  obtain ⟨a, b, h3, e1, e2⟩ := pr_kle (k := k) (k' - k) (by rw [Nat.add_sub_cancel' (Nat.le_of_lt hk)]; exact h2)
  obtain ⟨e3, e4⟩ := pr_ku k h1 h3
  omega
theorem pr_mono {i j i' j' : Nat} (h1 : pr_p P f g i j) (h2 : pr_p P f g i' j') : (i < i' ↔ j < j') := by
  obtain ⟨k, h1⟩ := h1
  obtain ⟨k', h2⟩ := h2
  rcases Nat.lt_trichotomy k k' with c | c | c
  · have := pr_klt h1 h2 c; omega
  · subst c
    have := pr_ku k h1 h2
    omega
  · have := pr_klt h2 h1 c; omega
theorem pr_0 : pr_p P f g 0 0 := ⟨0, rfl, rfl⟩
theorem pr_nx {i j i' j' : Nat} (h1 : pr_p P f g i j) (h2 : pr_st P f g i j i' j') : pr_p P f g i' j' := by
  obtain ⟨k, h1⟩ := h1
  exact ⟨k + 1, i, j, h1, h2⟩
theorem pr_kaft {k k' i j i' j' : Nat} (h1 : pr_k P f g k i j) (h2 : pr_k P f g k' i' j') (hk : k < k') : ∃ a b, pr_st P f g i j a b ∧ a ≤ i' ∧ b ≤ j' := by
  obtain ⟨a, b, h3, e1, e2⟩ := pr_kle (k := k + 1) (k' - (k + 1)) (by rw [Nat.add_sub_cancel' hk]; exact h2)
  obtain ⟨i0, j0, h4, s⟩ := h3
  obtain ⟨e3, e4⟩ := pr_ku k h1 h4
  subst e3 e4
  exact ⟨a, b, s, by omega, by omega⟩
theorem pr_aft {i j i' j' : Nat} (h1 : pr_p P f g i j) (h2 : pr_p P f g i' j') (hi : i < i') : ∃ a b, pr_st P f g i j a b ∧ a ≤ i' ∧ b ≤ j' := by
  obtain ⟨k, h1⟩ := h1
  obtain ⟨k', h2⟩ := h2
  rcases Nat.lt_trichotomy k k' with c | c | c
  · exact pr_kaft h1 h2 c
  · subst c
    have := pr_ku k h1 h2
    omega
  · have := pr_klt h2 h1 c; omega
end
/-! bits of a mask built by adding -/
theorem bm_lt (f : Nat → Bool) : ∀ k, bm_m f k < 2 ^ k := by
  intro k
  induction k with
  | zero => exact Nat.lt_succ_self 0
  | succ k ih => unfold bm_m; rw [Nat.pow_succ]; split <;> omega
end
section
/-! own rows: the reconvergence stack against the pairs. D entries; pk: their indices, mk: their masks; ghosts br: the branch that made an entry, pa: the entry it was made of -/
def iv_tp (D : Nat) (mk : Nat → Int32) (k l : Nat) : Prop := k < D ∧ bt (mk k) l = true ∧ ∀ i, k < i → i < D → bt (mk i) l = false
def iv_hc (D : Nat) (mk : Nat → Int32) (k a b : Nat) : Prop := k < D ∧ bt (mk k) a = true ∧ bt (mk k) b = true ∧ ∀ i, k < i → i < D → ¬ (bt (mk i) a = true ∧ bt (mk i) b = true)
def iv_s1 (P : pg_P) (pk : Nat → Nat) (mk : Nat → Int32) (br pa : Nat → Nat) (k : Nat) : Prop :=
  pa k < k ∧ (∀ l, bt (mk k) l = true → bt (mk (pa k)) l = true) ∧ (∀ i, pa k < i → i < k → ∀ l, bt (mk i) l = true → bt (mk k) l = true → False) ∧
    br k < pg_n P ∧ pr_br P (br k) ∧ pk (pa k) = pg_j P (br k) ∧ (gr_wk (pg_n P) (pg_E P) (br k) (pg_j P (br k)) (pk k) ∨ pk k = pg_j P (br k)) ∧ (pa k = 0 ∨ gr_wk (pg_n P) (pg_E P) (br (pa k)) (pg_j P (br (pa k))) (br k))
def iv_stk (P : pg_P) (D : Nat) (pk : Nat → Nat) (mk : Nat → Int32) (br pa : Nat → Nat) : Prop := ∀ k, 1 ≤ k → k < D → iv_s1 P pk mk br pa k
def iv_pt (P : pg_P) (F c : Nat → ln_V) (w a b : Nat) : Prop :=
  ∃ i j, pr_p P (F a) (F b) i j ∧ i < ln_sp (c a) ∧ j < ln_sp (c b) ∧ pr_br P (ln_ft (F a) i) ∧ ln_ft (F a) (i + 1) ≠ ln_ft (F b) (j + 1) ∧ pg_j P (ln_ft (F a) i) = w ∧ (∀ m, i + 1 ≤ m → m < ln_sp (c a) → ln_ft (F a) m ≠ w) ∧ (∀ m, j + 1 ≤ m → m < ln_sp (c b) → ln_ft (F b) m ≠ w)
def iv_ln (P : pg_P) (c : Nat → ln_V) (D : Nat) (pk : Nat → Nat) (mk : Nat → Int32) : Prop :=
  ∀ l, l < pg_L P → ln_st (c l) = 1 → (1 ≤ D ∧ bt (mk 0) l = true) ∧ ∀ k, iv_tp D mk k l → ln_pc (c l) = pk k
def iv_pr (P : pg_P) (F c : Nat → ln_V) (D : Nat) (pk : Nat → Nat) (mk : Nat → Int32) : Prop :=
  ∀ a b, a < pg_L P → b < pg_L P → a ≠ b → ln_st (c a) = 1 → ln_st (c b) = 1 →
    (∀ k, iv_tp D mk k a → iv_tp D mk k b → pr_p P (F a) (F b) (ln_sp (c a)) (ln_sp (c b))) ∧ (∀ k, iv_hc D mk k a b → ¬ (iv_tp D mk k a ∧ iv_tp D mk k b) → iv_pt P F c (pk k) a b)
def iv_U (P : pg_P) (F c : Nat → ln_V) : Prop :=
  ∀ a b, a < pg_L P → b < pg_L P → a ≠ b → ∀ i j, pr_p P (F a) (F b) i j → i < ln_sp (F a) → j < ln_sp (F b) → (i < ln_sp (c a) ↔ j < ln_sp (c b))
def iv_ex (P : pg_P) (F c : Nat → ln_V) : Prop := ∀ l, l < pg_L P → ln_ext (c l) (F l)
theorem gx_max {p : Nat → Prop} : ∀ D, 1 ≤ D → p 0 → ∃ k, k < D ∧ p k ∧ ∀ i, k < i → i < D → ¬ p i := by
  intro D
  induction D with
  | zero => intro h; omega
  | succ D ih =>
    intro _ h0
    by_cases c : p D
    · exact ⟨D, by omega, c, fun i hi hd => by omega⟩
    · rcases Nat.eq_zero_or_pos D with z | z
      · subst z; exact absurd h0 c
      · obtain ⟨k, hk, hp, hm⟩ := ih z h0
        refine ⟨k, by omega, hp, fun i hi hd => ?_⟩
        rcases Nat.lt_or_ge i D with e | e
        · exact hm i hi e
        · have : i = D := by omega
          rw [this]; exact c
section
variable {P : pg_P} {F c c' : Nat → ln_V} {D t : Nat} {pk : Nat → Nat} {mk : Nat → Int32} {br pa : Nat → Nat}
theorem iv_ft (hx : iv_ex P F c) {l : Nat} (hl : l < pg_L P) : ln_ft (F l) (ln_sp (c l)) = ln_pc (c l) := (hx l hl).2.2.1
/-- what an entry carries out is none of the waiting indices below it -/
theorem iv_chain (hs : pg_se P) (h : iv_stk P D pk mk br pa) {l : Nat} : ∀ k, 1 ≤ k → k < D → bt (mk k) l = true → ∀ q, gr_wk (pg_n P) (pg_E P) (br k) (pg_j P (br k)) q → ∀ i, i < k → bt (mk i) l = true → q ≠ pk i := by
  intro k
  induction k using Nat.strongRecOn with
  | ind k ih =>
    intro h1 hD hb q hq i hi hbi
    obtain ⟨s1, s2, s3, s4, s5, s6, s7, s8⟩ := h k h1 hD
    rcases Nat.lt_trichotomy i (pa k) with e | e | e
    · have hpa : 1 ≤ pa k := by omega
      have hw : gr_wk (pg_n P) (pg_E P) (br (pa k)) (pg_j P (br (pa k))) (br k) := by
        rcases s8 with z | z
        · omega
        · exact z
      have q2 := gr_sub (pg_El hs.2.1) hs.2.2.1 (h (pa k) hpa (by omega)).2.2.2.1 (hs.2.2.2.1 _ (h (pa k) hpa (by omega)).2.2.2.1).2 hw (hs.2.2.2.1 _ s4).2 hq
      exact ih (pa k) s1 hpa (by omega) (s2 l hb) q q2 i e hbi
    · rw [e, s6]; exact gr_ne hq
    · exact absurd hb (fun z => s3 i e hi l hbi z)
/-- lanes that stop, their steps as they were -/
theorem iv_drop (hd : ∀ l, l < pg_L P → c' l = c l ∨ (ln_st (c' l) ≠ 1 ∧ ln_sp (c' l) = ln_sp (c l))) (h1 : iv_ln P c D pk mk) (h2 : iv_pr P F c D pk mk) (h3 : iv_U P F c) : iv_ln P c' D pk mk ∧ iv_pr P F c' D pk mk ∧ iv_U P F c' := by
  have hr : ∀ l, l < pg_L P → ln_st (c' l) = 1 → c' l = c l := fun l hl z => by
    rcases hd l hl with e | e
    · exact e
    · exact absurd z e.1
  have hsp : ∀ l, l < pg_L P → ln_sp (c' l) = ln_sp (c l) := fun l hl => by
    rcases hd l hl with e | e
    · rw [e]
    · exact e.2
  refine ⟨?_, ?_, ?_⟩
  · intro l hl z
    have e := hr l hl z
    rw [e] at z ⊢
    exact h1 l hl z
  · intro a b ha hb hab za zb
    have ea := hr a ha za
    have eb := hr b hb zb
    rw [ea] at za
    rw [eb] at zb
    have h := h2 a b ha hb hab za zb
    unfold iv_pt
    rw [ea, eb]
    exact h
  · intro a b ha hb hab i j hp hi hj
    rw [hsp a ha, hsp b hb]
    exact h3 a b ha hb hab i j hp hi hj
/-- the top entry goes, no running lane in it -/
theorem iv_pop1 (hn : ∀ l, l < pg_L P → ln_st (c l) = 1 → bt (mk t) l = false) (h1 : iv_ln P c (t + 1) pk mk) (h2 : iv_pr P F c (t + 1) pk mk) : iv_ln P c t pk mk ∧ iv_pr P F c t pk mk := by
  have tp : ∀ l k, l < pg_L P → ln_st (c l) = 1 → iv_tp t mk k l → iv_tp (t + 1) mk k l := by
    intro l k hl z hk
    refine ⟨by have := hk.1; omega, hk.2.1, fun i hi hd => ?_⟩
    rcases Nat.lt_or_ge i t with e | e
    · exact hk.2.2 i hi e
    · have : i = t := by omega
      rw [this]; exact hn l hl z
  refine ⟨?_, ?_⟩
  · intro l hl z
    have h := h1 l hl z
    refine ⟨⟨?_, h.1.2⟩, fun k hk => h.2 k (tp l k hl z hk)⟩
    rcases Nat.eq_zero_or_pos t with e | e
    · subst e
      rw [hn l hl z] at h
      exact absurd h.1.2 (by decide)
    · exact e
  · intro a b ha hb hab za zb
    have h := h2 a b ha hb hab za zb
    refine ⟨fun k k1 k2 => h.1 k (tp a k ha za k1) (tp b k hb zb k2), fun k hk hno => ?_⟩
    refine h.2 k ⟨by have := hk.1; omega, hk.2.1, hk.2.2.1, fun i hi hd => ?_⟩ (fun z => hno ⟨⟨hk.1, hk.2.1, fun i hi hd => z.1.2.2 i hi (by omega)⟩, ⟨hk.1, hk.2.2.1, fun i hi hd => z.2.2.2 i hi (by omega)⟩⟩)
    rcases Nat.lt_or_ge i t with e | e
    · exact hk.2.2.2 i hi e
    · have : i = t := by omega
      rw [this, hn a ha za]
      intro z
      exact absurd z.1 (by decide)
theorem iv_stkpop (h : iv_stk P (t + 1) pk mk br pa) : iv_stk P t pk mk br pa := fun k h1 h2 => h k h1 (by omega)
/-- the top entry goes, it has come to its join point -/
theorem iv_pop2 (ht : 1 ≤ t) (hx : iv_ex P F c) (hst : iv_stk P (t + 1) pk mk br pa) (hj : pk t = pg_j P (br t)) (h1 : iv_ln P c (t + 1) pk mk) (h2 : iv_pr P F c (t + 1) pk mk) : iv_ln P c t pk mk ∧ iv_pr P F c t pk mk := by
  obtain ⟨s1, s2, s3, s4, s5, s6, s7, s8⟩ := hst t ht (by omega)
  have top : ∀ l, bt (mk t) l = true → iv_tp (t + 1) mk t l := fun l hl => ⟨by omega, hl, fun i hi hd => by omega⟩
  have tpp : ∀ l, bt (mk t) l = true → ∀ k, iv_tp t mk k l → k = pa t := by
    intro l hl k hk
    rcases Nat.lt_trichotomy k (pa t) with e | e | e
    · have := hk.2.2 (pa t) e s1
      rw [s2 l hl] at this
      exact absurd this (by decide)
    · exact e
    · exact absurd hl (fun z => s3 k e hk.1 l hk.2.1 z)
  have tpn : ∀ l, ¬ bt (mk t) l = true → ∀ k, iv_tp t mk k l → iv_tp (t + 1) mk k l := by
    intro l hl k hk
    refine ⟨by have := hk.1; omega, hk.2.1, fun i hi hd => ?_⟩
    rcases Nat.lt_or_ge i t with e | e
    · exact hk.2.2 i hi e
    · have : i = t := by omega
      rw [this]
      cases z : bt (mk t) l
      · rfl
      · exact absurd z hl
  have pcs : ∀ l, l < pg_L P → ln_st (c l) = 1 → ∀ k, iv_tp t mk k l → ln_pc (c l) = pk k := by
    intro l hl z k hk
    by_cases m : bt (mk t) l = true
    · rw [tpp l m k hk, s6, ← hj]
      exact (h1 l hl z).2 t (top l m)
    · exact (h1 l hl z).2 k (tpn l m k hk)
  have hcup : ∀ a b k, iv_hc t mk k a b → ¬ (bt (mk t) a = true ∧ bt (mk t) b = true) → iv_hc (t + 1) mk k a b := by
    intro a b k hk hno
    refine ⟨by have := hk.1; omega, hk.2.1, hk.2.2.1, fun i hi hd => ?_⟩
    rcases Nat.lt_or_ge i t with e | e
    · exact hk.2.2.2 i hi e
    · have : i = t := by omega
      rw [this]; exact hno
  refine ⟨fun l hl z => ⟨⟨ht, (h1 l hl z).1.2⟩, pcs l hl z⟩, ?_⟩
  intro a b ha hb hab za zb
  have h := h2 a b ha hb hab za zb
  refine ⟨fun k k1 k2 => ?_, fun k hk hno => ?_⟩
  · by_cases ma : bt (mk t) a = true
    · by_cases mb : bt (mk t) b = true
      · exact h.1 t (top a ma) (top b mb)
      · have hk : iv_hc t mk k a b := ⟨k1.1, k1.2.1, k2.2.1, fun i hi hd z => by rw [k1.2.2 i hi hd] at z; exact absurd z.1 (by decide)⟩
        obtain ⟨i, j, p1, p2, p3, p4, p5, p6, p7, p8⟩ := h.2 k (hcup a b k hk (fun z => mb z.2)) (fun z => by
          have := z.1.2.2 t k1.1 (by omega)
          rw [ma] at this
          exact absurd this (by decide))
        have ea := iv_ft hx ha
        have eb := iv_ft hx hb
        rw [pcs a ha za k k1] at ea
        rw [pcs b hb zb k k2] at eb
        refine pr_nx p1 ⟨by have := (hx a ha).1; omega, by have := (hx b hb).1; omega, Or.inr ⟨⟨p4, p5⟩, ?_, ?_⟩⟩
        · rw [p6]; exact ⟨by omega, (hx a ha).1, ea, p7⟩
        · rw [p6]; exact ⟨by omega, (hx b hb).1, eb, p8⟩
    · by_cases mb : bt (mk t) b = true
      · have hk : iv_hc t mk k a b := ⟨k1.1, k1.2.1, k2.2.1, fun i hi hd z => by rw [k1.2.2 i hi hd] at z; exact absurd z.1 (by decide)⟩
        obtain ⟨i, j, p1, p2, p3, p4, p5, p6, p7, p8⟩ := h.2 k (hcup a b k hk (fun z => ma z.1)) (fun z => by
          have := z.2.2.2 t k1.1 (by omega)
          rw [mb] at this
          exact absurd this (by decide))
        have ea := iv_ft hx ha
        have eb := iv_ft hx hb
        rw [pcs a ha za k k1] at ea
        rw [pcs b hb zb k k2] at eb
        refine pr_nx p1 ⟨by have := (hx a ha).1; omega, by have := (hx b hb).1; omega, Or.inr ⟨⟨p4, p5⟩, ?_, ?_⟩⟩
        · rw [p6]; exact ⟨by omega, (hx a ha).1, ea, p7⟩
        · rw [p6]; exact ⟨by omega, (hx b hb).1, eb, p8⟩
      · exact h.1 k (tpn a ma k k1) (tpn b mb k k2)
  · by_cases mab : bt (mk t) a = true ∧ bt (mk t) b = true
    · exfalso
      have tpa : ∀ l, bt (mk t) l = true → iv_tp t mk (pa t) l := fun l hl => ⟨s1, s2 l hl, fun i hi hd => by
        cases z : bt (mk i) l
        · rfl
        · exact absurd hl (fun y => s3 i hi hd l z y)⟩
      have ek : k = pa t := by
        rcases Nat.lt_trichotomy k (pa t) with e | e | e
        · exact absurd ⟨s2 a mab.1, s2 b mab.2⟩ (hk.2.2.2 (pa t) e s1)
        · exact e
        · exact absurd mab.1 (fun z => s3 k e hk.1 a hk.2.1 z)
      rw [ek] at hno
      exact hno ⟨tpa a mab.1, tpa b mab.2⟩
    · refine h.2 k (hcup a b k hk mab) (fun z => hno ?_)
      exact ⟨⟨hk.1, hk.2.1, fun i hi hd => z.1.2.2 i hi (by omega)⟩, ⟨hk.1, hk.2.2.1, fun i hi hd => z.2.2.2 i hi (by omega)⟩⟩
end
end
section
/-! own rows: a carrying-out by the top entry's lanes keeps the invariant -/
section
variable {P : pg_P} {F c c' : Nat → ln_V} {t : Nat} {pk : Nat → Nat} {mk : Nat → Int32} {br pa : Nat → Nat} {m : Int32}
/-- m: the lanes that carry out: the running ones of the top entry -/
def iv_m (P : pg_P) (c : Nat → ln_V) (mk : Nat → Int32) (t : Nat) (m : Int32) : Prop := ∀ l, l < pg_L P → (bt m l = true ↔ (ln_st (c l) = 1 ∧ bt (mk t) l = true))
def iv_e (P : pg_P) (pk br : Nat → Nat) (t : Nat) : Prop := t = 0 ∨ gr_wk (pg_n P) (pg_E P) (br t) (pg_j P (br t)) (pk t)
theorem iv_tpt {l : Nat} (h : bt (mk t) l = true) : iv_tp (t + 1) mk t l := ⟨by omega, h, fun i hi hd => by omega⟩
theorem iv_exne (hs : pg_se P) (hst : iv_stk P (t + 1) pk mk br pa) (he : iv_e P pk br t) {l k : Nat} (hl : bt (mk t) l = true) (hk : bt (mk k) l = true) (hkt : k < t) : pk t ≠ pk k := by
  rcases he with z | z
  · omega
  · exact iv_chain hs hst t (by omega) (by omega) hl _ z k hkt hk
theorem iv_hcex (h1 : iv_ln P c (t + 1) pk mk) {a b : Nat} (ha : a < pg_L P) (hb : b < pg_L P) (za : ln_st (c a) = 1) (zb : ln_st (c b) = 1) : ∃ k, iv_hc (t + 1) mk k a b := by
  obtain ⟨k, hk, hp, hm⟩ := gx_max (p := fun k => bt (mk k) a = true ∧ bt (mk k) b = true) (t + 1) (by omega) ⟨(h1 a ha za).1.2, (h1 b hb zb).1.2⟩
  exact ⟨k, hk, hp.1, hp.2, hm⟩
theorem iv_no1 (hs : pg_se P) (hx : iv_ex P F c) (hst : iv_stk P (t + 1) pk mk br pa) (h1 : iv_ln P c (t + 1) pk mk) (h2 : iv_pr P F c (t + 1) pk mk) (h3 : iv_U P F c) (hm : iv_m P c mk t m) (he : iv_e P pk br t)
    {a b j : Nat} (ha : a < pg_L P) (hb : b < pg_L P) (hab : a ≠ b) (ma : bt m a = true) (mb : ¬ bt m b = true) (hp : pr_p P (F a) (F b) (ln_sp (c a)) j) (hi : ln_sp (c a) < ln_sp (F a)) (hj : j < ln_sp (F b)) : False := by
  have za := (hm a ha).mp ma
  by_cases zb : ln_st (c b) = 1
  · have nb : ¬ bt (mk t) b = true := fun z => mb ((hm b hb).mpr ⟨zb, z⟩)
    obtain ⟨k, hk⟩ := iv_hcex h1 ha hb za.1 zb
    have hkt : k < t := by
      have := hk.1
      rcases Nat.lt_or_ge k t with e | e
      · exact e
      · have e2 : k = t := by omega
        rw [e2] at hk
        exact absurd hk.2.2.1 nb
    obtain ⟨i0, j0, p1, p2, p3, p4, p5, p6, p7, p8⟩ := (h2 a b ha hb hab za.1 zb).2 k hk (fun z => by
      have := z.1.2.2 t hkt (by omega)
      rw [za.2] at this
      exact absurd this (by decide))
    obtain ⟨x, y, s, q1, q2⟩ := pr_aft p1 hp p2
    rcases s.2.2 with ⟨s1, _⟩ | ⟨_, s1, _⟩
    · rcases s1 with s1 | s1
      · exact s1 p4
      · exact p5 s1
    · rw [p6] at s1
      rcases Nat.lt_or_ge x (ln_sp (c a)) with e | e
      · exact p7 x s1.1 e s1.2.2.1
      · have e2 : x = ln_sp (c a) := by omega
        have e3 := s1.2.2.1
        rw [e2, iv_ft hx ha, (h1 a ha za.1).2 t (iv_tpt za.2)] at e3
        exact iv_exne hs hst he za.2 hk.2.1 hkt e3
  · have e := (hx b hb).2.2.2 zb
    have := h3 a b ha hb hab _ j hp hi hj
    rw [e] at hj
    omega
theorem iv_no2 (hs : pg_se P) (hx : iv_ex P F c) (hst : iv_stk P (t + 1) pk mk br pa) (h1 : iv_ln P c (t + 1) pk mk) (h2 : iv_pr P F c (t + 1) pk mk) (h3 : iv_U P F c) (hm : iv_m P c mk t m) (he : iv_e P pk br t)
    {a b i : Nat} (ha : a < pg_L P) (hb : b < pg_L P) (hab : a ≠ b) (ma : ¬ bt m a = true) (mb : bt m b = true) (hp : pr_p P (F a) (F b) i (ln_sp (c b))) (hi : i < ln_sp (F a)) (hj : ln_sp (c b) < ln_sp (F b)) : False := by
  have zb := (hm b hb).mp mb
  by_cases za : ln_st (c a) = 1
  · have na : ¬ bt (mk t) a = true := fun z => ma ((hm a ha).mpr ⟨za, z⟩)
    obtain ⟨k, hk⟩ := iv_hcex h1 ha hb za zb.1
    have hkt : k < t := by
      have := hk.1
      rcases Nat.lt_or_ge k t with e | e
      · exact e
      · have e2 : k = t := by omega
        rw [e2] at hk
        exact absurd hk.2.1 na
    obtain ⟨i0, j0, p1, p2, p3, p4, p5, p6, p7, p8⟩ := (h2 a b ha hb hab za zb.1).2 k hk (fun z => by
      have := z.2.2.2 t hkt (by omega)
      rw [zb.2] at this
      exact absurd this (by decide))
    obtain ⟨x, y, s, q1, q2⟩ := pr_aft p1 hp ((pr_mono p1 hp).mpr p3)
    rcases s.2.2 with ⟨s1, _⟩ | ⟨_, _, s1⟩
    · rcases s1 with s1 | s1
      · exact s1 p4
      · exact p5 s1
    · rw [p6] at s1
      rcases Nat.lt_or_ge y (ln_sp (c b)) with e | e
      · exact p8 y s1.1 e s1.2.2.1
      · have e2 : y = ln_sp (c b) := by omega
        have e3 := s1.2.2.1
        rw [e2, iv_ft hx hb, (h1 b hb zb.1).2 t (iv_tpt zb.2)] at e3
        exact iv_exne hs hst he zb.2 hk.2.2.1 hkt e3
  · have e := (hx a ha).2.2.2 za
    have := h3 a b ha hb hab i _ hp hi hj
    rw [e] at hi
    omega
/-- who carries out: one step more; the others as they were -/
def iv_go (P : pg_P) (c c' : Nat → ln_V) (m : Int32) : Prop := ∀ l, l < pg_L P → (bt m l = true → ln_sp (c' l) = ln_sp (c l) + 1) ∧ (¬ bt m l = true → c' l = c l)
theorem iv_Ux (hs : pg_se P) (hx : iv_ex P F c) (hx' : iv_ex P F c') (hst : iv_stk P (t + 1) pk mk br pa) (h1 : iv_ln P c (t + 1) pk mk) (h2 : iv_pr P F c (t + 1) pk mk) (h3 : iv_U P F c) (hm : iv_m P c mk t m) (he : iv_e P pk br t) (hg : iv_go P c c' m) : iv_U P F c' := by
  intro a b ha hb hab i j hp hi hj
  have old := h3 a b ha hb hab i j hp hi hj
  by_cases ma : bt m a = true
  · have ea := (hg a ha).1 ma
    have la := (hx' a ha).1
    by_cases mb : bt m b = true
    · have eb := (hg b hb).1 mb
      have za := (hm a ha).mp ma
      have zb := (hm b hb).mp mb
      have hpp := (h2 a b ha hb hab za.1 zb.1).1 t (iv_tpt za.2) (iv_tpt zb.2)
      have m1 := pr_mono hp hpp
      have m2 := pr_mono hpp hp
      omega
    · have eb := (hg b hb).2 mb
      rw [eb]
      constructor
      · intro q
        rcases Nat.lt_or_ge i (ln_sp (c a)) with e | e
        · exact old.mp e
        · have e2 : i = ln_sp (c a) := by omega
          rw [e2] at hp
          exact absurd hp (fun z => iv_no1 hs hx hst h1 h2 h3 hm he ha hb hab ma mb z (by omega) hj)
      · intro q
        have := old.mpr q
        omega
  · have ea := (hg a ha).2 ma
    rw [ea]
    by_cases mb : bt m b = true
    · have eb := (hg b hb).1 mb
      have lb := (hx' b hb).1
      constructor
      · intro q
        have := old.mp q
        omega
      · intro q
        rcases Nat.lt_or_ge j (ln_sp (c b)) with e | e
        · exact old.mpr e
        · have e2 : j = ln_sp (c b) := by omega
          rw [e2] at hp
          exact absurd hp (fun z => iv_no2 hs hx hst h1 h2 h3 hm he ha hb hab ma mb z hi (by omega))
    · rw [(hg b hb).2 mb]
      exact old
theorem iv_ptx {w a b : Nat} (h : iv_pt P F c w a b) (ha : ln_sp (c' a) = ln_sp (c a) ∨ (ln_sp (c' a) = ln_sp (c a) + 1 ∧ ln_ft (F a) (ln_sp (c a)) ≠ w)) (hb : ln_sp (c' b) = ln_sp (c b) ∨ (ln_sp (c' b) = ln_sp (c b) + 1 ∧ ln_ft (F b) (ln_sp (c b)) ≠ w)) : iv_pt P F c' w a b := by
  obtain ⟨i, j, p1, p2, p3, p4, p5, p6, p7, p8⟩ := h
  refine ⟨i, j, p1, ?_, ?_, p4, p5, p6, ?_, ?_⟩
  · rcases ha with e | e <;> omega
  · rcases hb with e | e <;> omega
  · intro q q1 q2
    rcases ha with e | e
    · exact p7 q q1 (by omega)
    · rcases Nat.lt_or_ge q (ln_sp (c a)) with z | z
      · exact p7 q q1 z
      · have : q = ln_sp (c a) := by omega
        rw [this]; exact e.2
  · intro q q1 q2
    rcases hb with e | e
    · exact p8 q q1 (by omega)
    · rcases Nat.lt_or_ge q (ln_sp (c b)) with z | z
      · exact p8 q q1 z
      · have : q = ln_sp (c b) := by omega
        rw [this]; exact e.2
/-- the parted pairs below the top keep parted -/
theorem iv_ptk (hs : pg_se P) (hx : iv_ex P F c) (hst : iv_stk P (t + 1) pk mk br pa) (h1 : iv_ln P c (t + 1) pk mk) (hm : iv_m P c mk t m) (he : iv_e P pk br t) (hg : iv_go P c c' m)
    {a b k : Nat} (ha : a < pg_L P) (hb : b < pg_L P) (hkt : k < t) (ka : bt (mk k) a = true) (kb : bt (mk k) b = true) (h : iv_pt P F c (pk k) a b) : iv_pt P F c' (pk k) a b := by
  have one : ∀ l, l < pg_L P → bt (mk k) l = true → ln_sp (c' l) = ln_sp (c l) ∨ (ln_sp (c' l) = ln_sp (c l) + 1 ∧ ln_ft (F l) (ln_sp (c l)) ≠ pk k) := by
    intro l hl kl
    by_cases ml : bt m l = true
    · have z := (hm l hl).mp ml
      refine Or.inr ⟨(hg l hl).1 ml, ?_⟩
      rw [iv_ft hx hl, (h1 l hl z.1).2 t (iv_tpt z.2)]
      exact iv_exne hs hst he z.2 kl hkt
    · rw [(hg l hl).2 ml]; exact Or.inl rfl
  exact iv_ptx h (one a ha ka) (one b hb kb)
theorem iv_run (hm : iv_m P c mk t m) (hg : iv_go P c c' m) {l : Nat} (hl : l < pg_L P) (z : ln_st (c' l) = 1) : ln_st (c l) = 1 := by
  by_cases ml : bt m l = true
  · exact ((hm l hl).mp ml).1
  · rw [← (hg l hl).2 ml]; exact z
/-- all to one index: no new entry -/
theorem iv_exec (hs : pg_se P) (hx : iv_ex P F c) (hx' : iv_ex P F c') (hst : iv_stk P (t + 1) pk mk br pa) (h1 : iv_ln P c (t + 1) pk mk) (h2 : iv_pr P F c (t + 1) pk mk) (h3 : iv_U P F c) (hm : iv_m P c mk t m) (he : iv_e P pk br t) (hg : iv_go P c c' m)
    {tg : Nat} (hpc : ∀ l, l < pg_L P → bt m l = true → ln_st (c' l) = 1 → ln_pc (c' l) = tg) (hr : t = 0 ∨ gr_wk (pg_n P) (pg_E P) (br t) (pg_j P (br t)) tg ∨ tg = pg_j P (br t)) :
    iv_stk P (t + 1) (ln_up pk t tg) mk br pa ∧ iv_ln P c' (t + 1) (ln_up pk t tg) mk ∧ iv_pr P F c' (t + 1) (ln_up pk t tg) mk ∧ iv_U P F c' := by
  have uk : ∀ k, k ≠ t → ln_up pk t tg k = pk k := fun k hk => if_neg hk
  have ut : ln_up pk t tg t = tg := if_pos rfl
  refine ⟨?_, ?_, ?_, iv_Ux hs hx hx' hst h1 h2 h3 hm he hg⟩
  · intro k k1 k2
    obtain ⟨s1, s2, s3, s4, s5, s6, s7, s8⟩ := hst k k1 k2
    refine ⟨s1, s2, s3, s4, s5, by rw [uk _ (by omega)]; exact s6, ?_, s8⟩
    by_cases e : k = t
    · subst e
      rw [ut]
      rcases hr with z | z
      · omega
      · exact z
    · rw [uk k e]; exact s7
  · intro l hl z
    have zc := iv_run hm hg hl z
    have h := h1 l hl zc
    refine ⟨h.1, fun k hk => ?_⟩
    by_cases e : k = t
    · subst e
      rw [ut]
      exact hpc l hl ((hm l hl).mpr ⟨zc, hk.2.1⟩) z
    · have ml : ¬ bt m l = true := fun y => by
        have := hk.2.2 t (by have := hk.1; omega) (by omega)
        rw [((hm l hl).mp y).2] at this
        exact absurd this (by decide)
      rw [uk k e, (hg l hl).2 ml]
      exact h.2 k hk
  · intro a b ha hb hab za zb
    have ca := iv_run hm hg ha za
    have cb := iv_run hm hg hb zb
    have h := h2 a b ha hb hab ca cb
    refine ⟨fun k k1 k2 => ?_, fun k hk hno => ?_⟩
    · by_cases e : k = t
      · subst e
        have ma := (hm a ha).mpr ⟨ca, k1.2.1⟩
        have mb := (hm b hb).mpr ⟨cb, k2.2.1⟩
        have pa' := iv_ft hx' ha
        have pb' := iv_ft hx' hb
        rw [(hg a ha).1 ma, hpc a ha ma za] at pa'
        rw [(hg b hb).1 mb, hpc b hb mb zb] at pb'
        have la := (hx' a ha).1
        have lb := (hx' b hb).1
        rw [(hg a ha).1 ma] at la
        rw [(hg b hb).1 mb] at lb
        rw [(hg a ha).1 ma, (hg b hb).1 mb]
        exact pr_nx (h.1 k k1 k2) ⟨la, lb, Or.inl ⟨Or.inr (pa'.trans pb'.symm), rfl, rfl⟩⟩
      · have nm : ∀ l, l < pg_L P → iv_tp (t + 1) mk k l → c' l = c l := fun l hl hk => (hg l hl).2 (fun y => by
          have := hk.2.2 t (by have := hk.1; omega) (by omega)
          rw [((hm l hl).mp y).2] at this
          exact absurd this (by decide))
        rw [nm a ha k1, nm b hb k2]
        exact h.1 k k1 k2
    · have e : k ≠ t := fun e => by
        subst e
        exact hno ⟨iv_tpt hk.2.1, iv_tpt hk.2.2.1⟩
      rw [uk k e]
      exact iv_ptk hs hx hst h1 hm he hg ha hb (by have := hk.1; omega) hk.2.1 hk.2.2.1 (h.2 k hk hno)
end
end
section
/-! own rows: lanes part at a branch: two new entries -/
section
variable {P : pg_P} {F c c' : Nat → ln_V} {t : Nat} {pk : Nat → Nat} {mk : Nat → Int32} {br pa : Nat → Nat} {m m1 m2 : Int32}
def iv_pk (pk : Nat → Nat) (t w t1 t2 : Nat) : Nat → Nat := fun k => if k = t then w else if k = t + 1 then t1 else if k = t + 2 then t2 else pk k
def iv_mk (mk : Nat → Int32) (t : Nat) (m1 m2 : Int32) : Nat → Int32 := fun k => if k = t + 1 then m1 else if k = t + 2 then m2 else mk k
def iv_gh (g : Nat → Nat) (t x : Nat) : Nat → Nat := fun k => if k = t + 1 then x else if k = t + 2 then x else g k
theorem iv_push (hs : pg_se P) (hx : iv_ex P F c) (hx' : iv_ex P F c') (hst : iv_stk P (t + 1) pk mk br pa) (h1 : iv_ln P c (t + 1) pk mk) (h2 : iv_pr P F c (t + 1) pk mk) (h3 : iv_U P F c) (hm : iv_m P c mk t m) (he : iv_e P pk br t) (hg : iv_go P c c' m)
    {t1 t2 : Nat} (hpn : pk t < pg_n P) (hbr : pr_br P (pk t)) (ht12 : t1 ≠ t2) (hE1 : pg_E P (pk t) t1) (hE2 : pg_E P (pk t) t2)
    (hm1 : ∀ l, bt m1 l = true → bt m l = true) (hm2 : ∀ l, bt m2 l = true → bt m l = true) (hm12 : ∀ l, bt m l = true → (bt m1 l = true ∧ ¬ bt m2 l = true) ∨ (¬ bt m1 l = true ∧ bt m2 l = true)) (hmt : ∀ l, bt m l = true → bt (mk t) l = true)
    (hp1 : ∀ l, l < pg_L P → bt m1 l = true → ln_st (c' l) = 1 → ln_pc (c' l) = t1) (hp2 : ∀ l, l < pg_L P → bt m2 l = true → ln_st (c' l) = 1 → ln_pc (c' l) = t2) :
    iv_stk P (t + 3) (iv_pk pk t (pg_j P (pk t)) t1 t2) (iv_mk mk t m1 m2) (iv_gh br t (pk t)) (iv_gh pa t t) ∧ iv_ln P c' (t + 3) (iv_pk pk t (pg_j P (pk t)) t1 t2) (iv_mk mk t m1 m2) ∧ iv_pr P F c' (t + 3) (iv_pk pk t (pg_j P (pk t)) t1 t2) (iv_mk mk t m1 m2) ∧ iv_U P F c' := by
  have jn := (hs.2.2.2.1 _ hpn).2
  have k0 : iv_pk pk t (pg_j P (pk t)) t1 t2 t = pg_j P (pk t) := if_pos rfl
  have k1 : iv_pk pk t (pg_j P (pk t)) t1 t2 (t + 1) = t1 := by unfold iv_pk; rw [if_neg (by omega), if_pos rfl]
  have k2 : iv_pk pk t (pg_j P (pk t)) t1 t2 (t + 2) = t2 := by unfold iv_pk; rw [if_neg (by omega), if_neg (by omega), if_pos rfl]
  have kk : ∀ k, k < t → iv_pk pk t (pg_j P (pk t)) t1 t2 k = pk k := fun k hk => by unfold iv_pk; rw [if_neg (by omega), if_neg (by omega), if_neg (by omega)]
  have n1 : iv_mk mk t m1 m2 (t + 1) = m1 := if_pos rfl
  have n2 : iv_mk mk t m1 m2 (t + 2) = m2 := by unfold iv_mk; rw [if_neg (by omega), if_pos rfl]
  have nk : ∀ k, k ≤ t → iv_mk mk t m1 m2 k = mk k := fun k hk => by unfold iv_mk; rw [if_neg (by omega), if_neg (by omega)]
  have g1 : ∀ g x, iv_gh g t x (t + 1) = x := fun g x => if_pos rfl
  have g2 : ∀ g x, iv_gh g t x (t + 2) = x := fun g x => by unfold iv_gh; rw [if_neg (by omega), if_pos rfl]
  have gk : ∀ g x k, k ≤ t → iv_gh g t x k = g k := fun g x k hk => by unfold iv_gh; rw [if_neg (by omega), if_neg (by omega)]
  have reg : ∀ s, pg_E P (pk t) s → gr_wk (pg_n P) (pg_E P) (pk t) (pg_j P (pk t)) s ∨ s = pg_j P (pk t) := fun s e => by
    by_cases z : s = pg_j P (pk t)
    · exact Or.inr z
    · exact Or.inl (gr_1 e z)
  have jin : t = 0 ∨ gr_wk (pg_n P) (pg_E P) (br t) (pg_j P (br t)) (pg_j P (pk t)) ∨ pg_j P (pk t) = pg_j P (br t) := by
    rcases he with z | z
    · exact Or.inl z
    · rcases Nat.eq_zero_or_pos t with t0 | t0
      · exact Or.inl t0
      · have b := (hst t t0 (by omega)).2.2.2.1
        exact Or.inr (gr_jin (pg_El hs.2.1) hs.2.2.1 b (hs.2.2.2.1 _ b).2 z jn)
  have pa0 : (iv_gh pa t t (t + 1) = 0 ∨ gr_wk (pg_n P) (pg_E P) (iv_gh br t (pk t) t) (pg_j P (iv_gh br t (pk t) t)) (pk t)) := by
    rw [g1, gk br _ t (Nat.le_refl _)]
    exact he
  -- tops in the new stack
  have topm : ∀ l, bt m l = true → ∀ k, iv_tp (t + 3) (iv_mk mk t m1 m2) k l → (k = t + 1 ∧ bt m1 l = true) ∨ (k = t + 2 ∧ bt m2 l = true) := by
    intro l ml k hk
    have h3' := hk.1
    rcases hm12 l ml with ⟨z1, z2⟩ | ⟨z1, z2⟩
    · rcases Nat.lt_trichotomy k (t + 1) with e | e | e
      · have := hk.2.2 (t + 1) e (by omega)
        rw [n1, z1] at this
        exact absurd this (by decide)
      · exact Or.inl ⟨e, z1⟩
      · have e2 : k = t + 2 := by omega
        have := hk.2.1
        rw [e2, n2] at this
        exact absurd this z2
    · rcases Nat.lt_or_ge k (t + 2) with e | e
      · have := hk.2.2 (t + 2) e (by omega)
        rw [n2, z2] at this
        exact absurd this (by decide)
      · exact Or.inr ⟨by omega, z2⟩
  have topn : ∀ l, ¬ bt m l = true → ∀ k, iv_tp (t + 3) (iv_mk mk t m1 m2) k l → iv_tp (t + 1) mk k l := by
    intro l ml k hk
    have h3' := hk.1
    have hkt : k ≤ t := by
      rcases Nat.lt_or_ge t k with e | e
      · exfalso
        have := hk.2.1
        rcases Nat.lt_or_ge k (t + 2) with e2 | e2
        · have e3 : k = t + 1 := by omega
          rw [e3, n1] at this
          exact ml (hm1 l this)
        · have e3 : k = t + 2 := by omega
          rw [e3, n2] at this
          exact ml (hm2 l this)
      · exact e
    refine ⟨by omega, ?_, fun i hi hd => ?_⟩
    · have := hk.2.1
      rw [nk k hkt] at this
      exact this
    · have := hk.2.2 i hi (by omega)
      rw [nk i (by omega)] at this
      exact this
  refine ⟨?_, ?_, ?_, iv_Ux hs hx hx' hst h1 h2 h3 hm he hg⟩
  · intro k q1 q2
    rcases Nat.lt_trichotomy k (t + 1) with e | e | e
    · obtain ⟨s1, s2, s3, s4, s5, s6, s7, s8⟩ := hst k q1 (by omega)
      have hpa : pa k ≤ t := by omega
      unfold iv_s1
      rw [gk pa _ k (by omega), gk br _ k (by omega), gk br _ (pa k) hpa, nk k (by omega), nk (pa k) hpa]
      refine ⟨s1, s2, ?_, s4, s5, by rw [kk (pa k) (by omega)]; exact s6, ?_, s8⟩
      · intro i i1 i2 l b1 b2
        rw [nk i (by omega)] at b1
        exact s3 i i1 i2 l b1 b2
      · by_cases ek : k = t
        · rw [ek, k0]
          rcases jin with z | z
          · omega
          · exact z
        · rw [kk k (by omega)]; exact s7
    · subst e
      unfold iv_s1
      rw [g1, g1, n1, nk t (Nat.le_refl _), k0, k1]
      refine ⟨by omega, fun l hl => hmt l (hm1 l hl), fun i i1 i2 => by omega, hpn, hbr, rfl, reg t1 hE1, ?_⟩
      rw [gk br _ t (Nat.le_refl _)]
      exact he
    · have e2 : k = t + 2 := by omega
      subst e2
      unfold iv_s1
      rw [g2, g2, n2, nk t (Nat.le_refl _), k0, k2]
      refine ⟨by omega, fun l hl => hmt l (hm2 l hl), fun i i1 i2 l b1 b2 => ?_, hpn, hbr, rfl, reg t2 hE2, ?_⟩
      · have e3 : i = t + 1 := by omega
        rw [e3, n1] at b1
        rcases hm12 l (hm1 l b1) with z | z
        · exact z.2 b2
        · exact z.1 b1
      · rw [gk br _ t (Nat.le_refl _)]
        exact he
  · intro l hl z
    have zc := iv_run hm hg hl z
    have h := h1 l hl zc
    refine ⟨⟨by omega, by rw [nk 0 (by omega)]; exact h.1.2⟩, fun k hk => ?_⟩
    by_cases ml : bt m l = true
    · rcases topm l ml k hk with ⟨e, b⟩ | ⟨e, b⟩
      · rw [e, k1]; exact hp1 l hl b z
      · rw [e, k2]; exact hp2 l hl b z
    · have tp := topn l ml k hk
      have nkt : k ≠ t := fun e => by
        subst e
        exact ml ((hm l hl).mpr ⟨zc, tp.2.1⟩)
      rw [kk k (by have := tp.1; omega), (hg l hl).2 ml]
      exact h.2 k tp
  · intro a b ha hb hab za zb
    have ca := iv_run hm hg ha za
    have cb := iv_run hm hg hb zb
    have h := h2 a b ha hb hab ca cb
    refine ⟨fun k q1 q2 => ?_, fun k hk hno => ?_⟩
    · by_cases ma : bt m a = true
      · have ta := topm a ma k q1
        by_cases mb : bt m b = true
        · have tb := topm b mb k q2
          have pa' := iv_ft hx' ha
          have pb' := iv_ft hx' hb
          rw [(hg a ha).1 ma] at pa'
          rw [(hg b hb).1 mb] at pb'
          have la := (hx' a ha).1
          have lb := (hx' b hb).1
          rw [(hg a ha).1 ma] at la
          rw [(hg b hb).1 mb] at lb
          rw [(hg a ha).1 ma, (hg b hb).1 mb]
          have same : ln_pc (c' a) = ln_pc (c' b) := by
            rcases ta with ⟨e, x⟩ | ⟨e, x⟩ <;> rcases tb with ⟨e', x'⟩ | ⟨e', x'⟩
            · rw [hp1 a ha x za, hp1 b hb x' zb]
            · omega
            · omega
            · rw [hp2 a ha x za, hp2 b hb x' zb]
          exact pr_nx (h.1 t (iv_tpt (hmt a ma)) (iv_tpt (hmt b mb))) ⟨la, lb, Or.inl ⟨Or.inr (pa'.trans (same.trans pb'.symm)), rfl, rfl⟩⟩
        · have := (topn b mb k q2).1
          rcases ta with z | z <;> omega
      · have ta := topn a ma k q1
        by_cases mb : bt m b = true
        · have := ta.1
          rcases topm b mb k q2 with z | z <;> omega
        · rw [(hg a ha).2 ma, (hg b hb).2 mb]
          exact h.1 k ta (topn b mb k q2)
    · rcases Nat.lt_trichotomy k t with e | e | e
      · rw [kk k e]
        have hk' : iv_hc (t + 1) mk k a b := by
          refine ⟨by omega, by have := hk.2.1; rw [nk k (by omega)] at this; exact this, by have := hk.2.2.1; rw [nk k (by omega)] at this; exact this, fun i hi hd => ?_⟩
          have := hk.2.2.2 i hi (by omega)
          rw [nk i (by omega)] at this
          exact this
        refine iv_ptk hs hx hst h1 hm he hg ha hb e hk'.2.1 hk'.2.2.1 (h.2 k hk' (fun z => hno ?_))
        have up : ∀ l, l < pg_L P → ln_st (c l) = 1 → iv_tp (t + 1) mk k l → iv_tp (t + 3) (iv_mk mk t m1 m2) k l := by
          intro l hl zl hk2
          have nl : ¬ bt m l = true := fun y => by
            have := hk2.2.2 t e (by omega)
            rw [((hm l hl).mp y).2] at this
            exact absurd this (by decide)
          refine ⟨by omega, by rw [nk k (by omega)]; exact hk2.2.1, fun i hi hd => ?_⟩
          rcases Nat.lt_trichotomy i (t + 1) with f | f | f
          · rw [nk i (by omega)]; exact hk2.2.2 i hi f
          · rw [f, n1]
            cases y : bt m1 l
            · rfl
            · exact absurd (hm1 l y) nl
          · have f2 : i = t + 2 := by omega
            rw [f2, n2]
            cases y : bt m2 l
            · rfl
            · exact absurd (hm2 l y) nl
        exact ⟨up a ha ca z.1, up b hb cb z.2⟩
      · subst e
        rw [k0]
        have kta : bt (mk k) a = true := by have := hk.2.1; rw [nk k (Nat.le_refl _)] at this; exact this
        have ktb : bt (mk k) b = true := by have := hk.2.2.1; rw [nk k (Nat.le_refl _)] at this; exact this
        have ma := (hm a ha).mpr ⟨ca, kta⟩
        have mb := (hm b hb).mpr ⟨cb, ktb⟩
        have ne : ln_pc (c' a) ≠ ln_pc (c' b) := by
          rcases hm12 a ma with ⟨x1, x2⟩ | ⟨x1, x2⟩ <;> rcases hm12 b mb with ⟨y1, y2⟩ | ⟨y1, y2⟩
          · have := hk.2.2.2 (k + 1) (by omega) (by omega)
            rw [n1] at this
            exact absurd ⟨x1, y1⟩ this
          · rw [hp1 a ha x1 za, hp2 b hb y2 zb]; exact ht12
          · rw [hp2 a ha x2 za, hp1 b hb y1 zb]; exact ht12.symm
          · have := hk.2.2.2 (k + 2) (by omega) (by omega)
            rw [n2] at this
            exact absurd ⟨x2, y2⟩ this
        have pa' := iv_ft hx' ha
        have pb' := iv_ft hx' hb
        have ea := (hg a ha).1 ma
        have eb := (hg b hb).1 mb
        rw [ea] at pa'
        rw [eb] at pb'
        have pa0 := iv_ft hx ha
        rw [(h1 a ha ca).2 k (iv_tpt kta)] at pa0
        refine ⟨ln_sp (c a), ln_sp (c b), h.1 k (iv_tpt kta) (iv_tpt ktb), by omega, by omega, by rw [pa0]; exact hbr, by rw [pa', pb']; exact ne, by rw [pa0], fun q q1 q2 => by omega, fun q q1 q2 => by omega⟩
      · exfalso
        have h3' := hk.1
        rcases Nat.lt_or_ge k (t + 2) with e2 | e2
        · have e3 : k = t + 1 := by omega
          subst e3
          have x1 := hk.2.1
          have x2 := hk.2.2.1
          rw [n1] at x1 x2
          have up : ∀ l, bt m1 l = true → iv_tp (t + 3) (iv_mk mk t m1 m2) (t + 1) l := fun l hl => ⟨by omega, by rw [n1]; exact hl, fun i hi hd => by
            have : i = t + 2 := by omega
            rw [this, n2]
            cases y : bt m2 l
            · rfl
            · rcases hm12 l (hm1 l hl) with z | z
              · exact absurd y z.2
              · exact absurd hl z.1⟩
          exact hno ⟨up a x1, up b x2⟩
        · have e3 : k = t + 2 := by omega
          subst e3
          have x1 := hk.2.1
          have x2 := hk.2.2.1
          exact hno ⟨⟨by omega, x1, fun i hi hd => by omega⟩, ⟨by omega, x2, fun i hi hd => by omega⟩⟩
end
end
section
/-! own rows: the mates; the count of the stack; the start -/
def mt_in (f : ln_V) (s p : Nat) : Prop := ∃ i, i < s ∧ ln_ft f i = p
def mt_pr (P : pg_P) (F : Nat → ln_V) (s a p b : Nat) : Prop := ∃ i j, pr_p P (F a) (F b) i j ∧ i < s ∧ j < ln_sp (F b) ∧ ln_ft (F a) i = p ∧ ∀ q, i < q → q < s → ln_ft (F a) q ≠ p
def iv_M (P : pg_P) (F : Nat → ln_V) (s : Nat → Nat) (mt mt0 : Nat → Int32) : Prop :=
  ∀ a p, a < pg_L P → p < 32 →
    (mt_in (F a) (s a) p → ∀ b, b < 32 → (bt (mt (32 * a + p)) b = true ↔ (b = a ∨ (b < pg_L P ∧ b ≠ a ∧ mt_pr P F (s a) a p b)))) ∧ (¬ mt_in (F a) (s a) p → mt (32 * a + p) = mt0 (32 * a + p))
section
variable {P : pg_P} {F c c' : Nat → ln_V} {t : Nat} {pk : Nat → Nat} {mk : Nat → Int32} {br pa : Nat → Nat} {m : Int32} {mt mt' mt0 : Nat → Int32}
theorem iv_Mx {p0 : Nat} (hL : pg_L P ≤ 32) (hg : iv_go P c c' m) (hmL : ∀ b, bt m b = true → b < pg_L P)
    (hpair : ∀ a b, a < pg_L P → b < pg_L P → a ≠ b → bt m a = true → (bt m b = true ↔ ∃ j, j < ln_sp (F b) ∧ pr_p P (F a) (F b) (ln_sp (c a)) j))
    (hft : ∀ a, a < pg_L P → bt m a = true → ln_ft (F a) (ln_sp (c a)) = p0)
    (hmt : ∀ a p, a < pg_L P → p < 32 → mt' (32 * a + p) = if bt m a = true ∧ p = p0 then m else mt (32 * a + p))
    (hM : iv_M P F (fun l => ln_sp (c l)) mt mt0) : iv_M P F (fun l => ln_sp (c' l)) mt' mt0 := by
  intro a p ha hp
  have old := hM a p ha hp
  dsimp only at old ⊢
  rw [hmt a p ha hp]
  by_cases ma : bt m a = true
  · rw [(hg a ha).1 ma]
    have fa := hft a ha ma
    by_cases e : p = p0
    · rw [if_pos ⟨ma, e⟩]
      refine ⟨fun _ b hb => ?_, fun z => absurd ⟨ln_sp (c a), by omega, fa.trans e.symm⟩ z⟩
      by_cases eb : b = a
      · rw [eb]; exact ⟨fun _ => Or.inl rfl, fun _ => ma⟩
      · constructor
        · intro mb
          have hbL := hmL b mb
          obtain ⟨j, hj, hpj⟩ := (hpair a b ha hbL (fun z => eb z.symm) ma).mp mb
          exact Or.inr ⟨hbL, eb, ln_sp (c a), j, hpj, by omega, hj, fa.trans e.symm, fun q q1 q2 => by omega⟩
        · intro h
          rcases h with h | ⟨hbL, _, i, j, h1, h2, h3, h4, h5⟩
          · exact absurd h eb
          · have ei : i = ln_sp (c a) := by
              rcases Nat.lt_or_ge i (ln_sp (c a)) with z | z
              · exact absurd (fa.trans e.symm) (h5 _ z (by omega))
              · omega
            rw [ei] at h1
            exact (hpair a b ha hbL (fun z => eb z.symm) ma).mpr ⟨j, h3, h1⟩
    · rw [if_neg (fun z => e z.2)]
      have hin : mt_in (F a) (ln_sp (c a) + 1) p ↔ mt_in (F a) (ln_sp (c a)) p := by
        constructor
        · intro ⟨i, h1, h2⟩
          rcases Nat.lt_or_ge i (ln_sp (c a)) with z | z
          · exact ⟨i, z, h2⟩
          · have ei : i = ln_sp (c a) := by omega
            rw [ei, fa] at h2
            exact absurd h2.symm e
        · intro ⟨i, h1, h2⟩
          exact ⟨i, by omega, h2⟩
      have hpr : ∀ b, mt_pr P F (ln_sp (c a) + 1) a p b ↔ mt_pr P F (ln_sp (c a)) a p b := by
        intro b
        constructor
        · intro ⟨i, j, h1, h2, h3, h4, h5⟩
          rcases Nat.lt_or_ge i (ln_sp (c a)) with z | z
          · exact ⟨i, j, h1, z, h3, h4, fun q q1 q2 => h5 q q1 (by omega)⟩
          · have ei : i = ln_sp (c a) := by omega
            rw [ei, fa] at h4
            exact absurd h4.symm e
        · intro ⟨i, j, h1, h2, h3, h4, h5⟩
          refine ⟨i, j, h1, by omega, h3, h4, fun q q1 q2 => ?_⟩
          rcases Nat.lt_or_ge q (ln_sp (c a)) with z | z
          · exact h5 q q1 z
          · have eq : q = ln_sp (c a) := by omega
            rw [eq, fa]
            exact fun y => e y.symm
      refine ⟨fun h b hb => ?_, fun h => old.2 (fun z => h (hin.mpr z))⟩
      rw [hpr b]
      exact old.1 (hin.mp h) b hb
  · rw [if_neg (fun z => ma z.1), (hg a ha).2 ma]
    exact old
theorem iv_pair (hs : pg_se P) (hx : iv_ex P F c) (hx' : iv_ex P F c') (hst : iv_stk P (t + 1) pk mk br pa) (h1 : iv_ln P c (t + 1) pk mk) (h2 : iv_pr P F c (t + 1) pk mk) (h3 : iv_U P F c) (hm : iv_m P c mk t m) (he : iv_e P pk br t) (hg : iv_go P c c' m) :
    ∀ a b, a < pg_L P → b < pg_L P → a ≠ b → bt m a = true → (bt m b = true ↔ ∃ j, j < ln_sp (F b) ∧ pr_p P (F a) (F b) (ln_sp (c a)) j) := by
  intro a b ha hb hab ma
  have za := (hm a ha).mp ma
  have la := (hx' a ha).1
  rw [(hg a ha).1 ma] at la
  constructor
  · intro mb
    have zb := (hm b hb).mp mb
    have lb := (hx' b hb).1
    rw [(hg b hb).1 mb] at lb
    exact ⟨ln_sp (c b), lb, (h2 a b ha hb hab za.1 zb.1).1 t (iv_tpt za.2) (iv_tpt zb.2)⟩
  · intro ⟨j, hj, hp⟩
    apply Classical.byContradiction
    intro mb
    exact iv_no1 hs hx hst h1 h2 h3 hm he ha hb hab ma mb hp la hj
/-- the stack is never full -/
def iv_cn (D : Nat) (mk : Nat → Int32) : Prop := ∀ k, k < D → cn_c (bt (mk k)) 8 + (k + 1) / 2 ≤ 8
theorem iv_cn14 (h : iv_cn (t + 1) mk) {l : Nat} (hl : l < 8) (hb : bt (mk t) l = true) : t ≤ 14 := by
  have a := h t (by omega)
  have b := cn_pos hl hb
  omega
theorem iv_cnpush {m1 m2 : Int32} (h : iv_cn (t + 1) mk) (h1 : ∀ l, bt m1 l = true → bt (mk t) l = true) (h2 : ∀ l, bt m2 l = true → bt (mk t) l = true) (hd : ∀ l, bt m1 l = true → bt m2 l = true → False) {a b : Nat} (ha : a < 8) (hb : b < 8) (za : bt m1 a = true) (zb : bt m2 b = true) : t ≤ 12 ∧ iv_cn (t + 3) (iv_mk mk t m1 m2) := by
  have n1 : iv_mk mk t m1 m2 (t + 1) = m1 := if_pos rfl
  have n2 : iv_mk mk t m1 m2 (t + 2) = m2 := by unfold iv_mk; rw [if_neg (by omega), if_pos rfl]
  have nk : ∀ k, k ≤ t → iv_mk mk t m1 m2 k = mk k := fun k hk => by unfold iv_mk; rw [if_neg (by omega), if_neg (by omega)]
  have c0 := h t (by omega)
  have fb : bt m1 b = false := by
    cases y : bt m1 b
    · rfl
    · exact absurd zb (fun z => hd b y z)
  have fa : bt m2 a = false := by
    cases y : bt m2 a
    · rfl
    · exact absurd za (fun z => hd a z y)
  have c1 := cn_lt (f := bt m1) (g := bt (mk t)) 8 (fun i _ hi => h1 i hi) b hb fb (h2 b zb)
  have c2 := cn_lt (f := bt m2) (g := bt (mk t)) 8 (fun i _ hi => h2 i hi) a ha fa (h1 a za)
  have p1 := cn_pos ha za
  refine ⟨by omega, fun k hk => ?_⟩
  rcases Nat.lt_trichotomy k (t + 1) with e | e | e
  · rw [nk k (by omega)]; exact h k (by omega)
  · rw [e, n1]; omega
  · have e2 : k = t + 2 := by omega
    rw [e2, n2]; omega
theorem iv_cnpop (h : iv_cn (t + 1) mk) : iv_cn t mk := fun k hk => h k (by omega)
/-- the start of a run: all running lanes at one index, one entry -/
theorem iv_start (h0 : ∀ l, l < pg_L P → ln_sp (c l) = 0) (hpc : ∀ l, l < pg_L P → ln_st (c l) = 1 → ln_pc (c l) = pk 0 ∧ bt (mk 0) l = true) :
    iv_stk P 1 pk mk br pa ∧ iv_ln P c 1 pk mk ∧ iv_pr P F c 1 pk mk ∧ iv_U P F c ∧ iv_M P F (fun l => ln_sp (c l)) mt mt ∧ iv_cn 1 mk := by
  refine ⟨fun k h1 h2 => by omega, ?_, ?_, ?_, ?_, ?_⟩
  · intro l hl z
    refine ⟨⟨Nat.le_refl _, (hpc l hl z).2⟩, fun k hk => ?_⟩
    have e : k = 0 := by have := hk.1; omega
    rw [e]; exact (hpc l hl z).1
  · intro a b ha hb hab za zb
    refine ⟨fun k _ _ => ?_, fun k hk hno => ?_⟩
    · rw [h0 a ha, h0 b hb]; exact pr_0
    · have e : k = 0 := by have := hk.1; omega
      subst e
      exact absurd ⟨⟨hk.1, hk.2.1, fun i hi hd => by omega⟩, ⟨hk.1, hk.2.2.1, fun i hi hd => by omega⟩⟩ hno
  · intro a b ha hb _ i j _ _ _
    rw [h0 a ha, h0 b hb]
    omega
  · intro a p ha hp
    dsimp only
    rw [h0 a ha]
    exact ⟨fun ⟨i, h1, _⟩ => by omega, fun _ => rfl⟩
  · intro k hk
    have e : k = 0 := by omega
    have := cn_le (bt (mk k)) 8
    omega
end
end
section
/-! own rows: the class's seal, walked: targets, edges, exits -/
def px_ok (P : pg_P) (xo xa xb xc : Nat → Int32) : Prop := ∀ p, p < pg_n P → xo p = nI (pg_o P p) ∧ xa p = nI (pg_a P p) ∧ xb p = nI (pg_b P p) ∧ xc p = pg_c P p
def bd_t (P : pg_P) (p : Nat) : Prop := 15 ≤ pg_o P p ∧ pg_o P p ≤ 19 ∧ (pg_c P p < 0 ∨ ¬ pg_c P p ≤ nI (pg_n P))
def px_su (P : pg_P) (xsu : Nat → Int64) : Prop := ∀ p, p < pg_n P → ∀ x, x < 64 → (bl (xsu p) x = true ↔ pg_E P p x)
theorem px_tok {P : pg_P} (hn : pg_n P ≤ 32) (h : ∀ p, p < pg_n P → ¬ bd_t P p) : pg_tok P := by
  intro p hp h1 h2
  have h0 : ¬ pg_c P p < 0 := fun z => h p hp ⟨h1, h2, Or.inl z⟩
  have h3 : pg_c P p ≤ nI (pg_n P) := Classical.byContradiction fun z => h p hp ⟨h1, h2, Or.inr z⟩
  obtain ⟨j, hj, e⟩ := nI_of h0
  have e2 : pg_tg P p = j := by unfold pg_tg; rw [e, nI_clamp hj]
  rw [e2]
  rw [e, nI_leI hj (by omega)] at h3
  exact ⟨e, h3⟩
section
variable {P : pg_P} {xL xC xW xA xP xN xF xR xB xD : Int32} {xo xa xb xc : Nat → Int32} {xsu xpd xrg : Nat → Int64} {xjn xst xpc xsp xre xme xma xun xta xkp xkm xkj : Nat → Int32}
theorem xs_bt {post : Int32 → Prop} (hx : px_ok P xo xa xb xc) (hn : pg_n P ≤ 32) (ho : ∀ p, p < pg_n P → pg_o P p ≤ 24) {e : Nat} (he : e ≤ pg_n P) (hno : ∀ p, p < e → ¬ bd_t P p) (hend : e = pg_n P → post (-1)) (hbad : e < pg_n P → bd_t P e ∧ post (nI e)) :
    wpX_firstBadTarget post (xL, xC, xW, xA, xP, nI (pg_n P), xF, xR, xB, xD, xo, xa, xb, xc, xsu, xpd, xrg, xjn, xst, xpc, xsp, xre, xme, xma, xun, xta, xkp, xkm, xkj) := by
  refine loop_0 (fun n i (_ : Unit) => wX_firstBadTarget_2 post xL xC xW xA xP (nI (pg_n P)) xF xR xB xD xo xa xb xc xsu xpd xrg xjn xst xpc xsp xre xme xma xun xta xkp xkm xkj n (nI i)) (fun _ _ => True) e () trivial ?_ ?_
  · intro n _ _
    rcases Nat.lt_or_ge e (pg_n P) with c | c
    · obtain ⟨⟨b1, b2, b3⟩, hp⟩ := hbad c
      have h1 : ¬ nI (pg_n P) ≤ nI e := nI_ge c (by omega)
      have hv : vp_in (nI e) 32 := vp_in_nI (by omega) (by omega)
      have f1 := (hx e c).1
      have f4 := (hx e c).2.2.2
      have g1 : ¬ nI (pg_o P e) < 15 := nI_nlt (b := 15) (by omega) (by omega)
      have g2 : ¬ 19 < nI (pg_o P e) := nI_nlt (a := 19) (by omega) (by omega)
      have z1 : ¬ (1 : Int32) = 0 := by decide
      have hc : (nI e).toNatClampNeg = e := nI_clamp (by omega)
      simp only [wX_firstBadTarget_2, wX_firstBadTarget_36, wX_firstBadTarget_37, hc, f1, f4, h1, hv, g1, g2, z1, not_true_eq_false, not_false_eq_true, false_implies, true_implies, and_true, true_and, forall_eq, forall_const]
      rcases b3 with b3 | b3
      · exact ⟨fun _ => hp, fun z => absurd b3 z⟩
      · exact ⟨fun _ => hp, fun _ => ⟨fun z => absurd z b3, fun _ => hp⟩⟩
    · exact br_t (nI_le c (by omega)) (hend (by omega))
  · intro n i _ hi _ ih
    have c : i < pg_n P := by omega
    have h1 : ¬ nI (pg_n P) ≤ nI i := nI_ge c (by omega)
    have hv : vp_in (nI i) 32 := vp_in_nI (by omega) (by omega)
    have f1 := (hx i c).1
    have f4 := (hx i c).2.2.2
    have z1 : ¬ (1 : Int32) = 0 := by decide
    have hc : (nI i).toNatClampNeg = i := nI_clamp (by omega)
    have o24 := ho i c
    have ih' := ih () trivial
    simp only [wX_firstBadTarget_2, wX_firstBadTarget_36, wX_firstBadTarget_37, hc, f1, f4, h1, hv, z1, nI_1, not_true_eq_false, not_false_eq_true, false_implies, true_implies, and_true, true_and, forall_eq, forall_const]
    refine pk_lt (pg_o P i) 15 (fun _ => ih') (fun g1 => ?_)
    refine pk_lt 19 (pg_o P i) (fun _ => ih') (fun g2 => ?_)
    have nb : ¬ (pg_c P i < 0 ∨ ¬ pg_c P i ≤ nI (pg_n P)) := fun z => hno i hi ⟨g1, g2, z⟩
    exact ⟨fun z => absurd (Or.inl z) nb, fun _ => ⟨fun _ => ih', fun z => absurd (Or.inr z) nb⟩⟩
theorem xs_be {post : SX → Prop} (hx : px_ok P xo xa xb xc) (hn : pg_n P ≤ 32) (ho : ∀ p, p < pg_n P → pg_o P p ≤ 24) (ht : pg_tok P) (hpost : ∀ su, px_su P su → post (xL, xC, xW, xA, xP, nI (pg_n P), xF, xR, xB, xD, xo, xa, xb, xc, su, xpd, xrg, xjn, xst, xpc, xsp, xre, xme, xma, xun, xta, xkp, xkm, xkj)) :
    wpX_buildEdges post (xL, xC, xW, xA, xP, nI (pg_n P), xF, xR, xB, xD, xo, xa, xb, xc, xsu, xpd, xrg, xjn, xst, xpc, xsp, xre, xme, xma, xun, xta, xkp, xkm, xkj) := by
  refine loop_0 (fun n i (s : Nat → Int64) => wX_buildEdges_2 post xL xC xW xA xP (nI (pg_n P)) xF xR xB xD n (nI i) xo xa xb xc s xpd xrg xjn xst xpc xsp xre xme xma xun xta xkp xkm xkj) (fun i s => ∀ p, p < i → ∀ x, x < 64 → (bl (s p) x = true ↔ pg_E P p x)) (pg_n P) xsu (fun p hp => by omega) ?_ ?_
  · intro n s hs
    refine br_t (nI_le (Nat.le_refl _) (by omega)) ⟨vp_in_nI (by omega) (by omega), nm_e (hpost _ ?_)⟩
    intro p hp x hxx
    rw [nI_clamp (by omega), pk_uLn (by omega)]
    exact hs p hp x hxx
  · intro n i s c hs ih
    have h1 : ¬ nI (pg_n P) ≤ nI i := nI_ge c (by omega)
    have hv : vp_in (nI i) 32 := vp_in_nI (by omega) (by omega)
    have hv2 : vp_in (nI i) 33 := vp_in_nI (by omega) (by omega)
    have f1 := (hx i c).1
    have f4 := (hx i c).2.2.2
    have hc : (nI i).toNatClampNeg = i := nI_clamp (by omega)
    have o24 := ho i c
    have new : ∀ y : Int64, (∀ x, x < 64 → (bl y x = true ↔ pg_E P i x)) → ∀ p, p < i + 1 → ∀ x, x < 64 → (bl (vp_updL s i y p) x = true ↔ pg_E P p x) := by
      intro y hy p hp x hx
      by_cases e : p = i
      · subst e; rw [pk_uLs]; exact hy x hx
      · rw [pk_uLn e]; exact hs p (by omega) x hx
    simp only [wX_buildEdges_2, hc, f1, f4, h1, hv, hv2, nI_1, not_true_eq_false, not_false_eq_true, false_implies, true_implies, and_true, true_and, forall_eq, forall_const]
    refine pk_eq (pg_o P i) 0 (fun z => ?_) (fun z0 => pk_eq (pg_o P i) 15 (fun z => ?_) (fun z15 => pk_lt (pg_o P i) 16 (fun z => ?_) (fun z16 => pk_lt 19 (pg_o P i) (fun z => ?_) (fun z19 => ?_))))
    · refine ih _ (new _ fun x hx => ?_)
      rw [bl_1 _ (by omega) x hx]
      unfold pg_E
      simp only [decide_eq_true_eq]
      omega
    · refine ih _ (new _ fun x hx => ?_)
      obtain ⟨t1, t2⟩ := ht i c (by omega) (by omega)
      rw [t1, bl_1 _ (by omega) x hx]
      unfold pg_E
      simp only [decide_eq_true_eq]
      omega
    · refine ih _ (new _ fun x hx => ?_)
      rw [bl_1 _ (by omega) x hx]
      unfold pg_E
      simp only [decide_eq_true_eq]
      omega
    · refine ih _ (new _ fun x hx => ?_)
      rw [bl_1 _ (by omega) x hx]
      unfold pg_E
      simp only [decide_eq_true_eq]
      omega
    · refine ih _ (new _ fun x hx => ?_)
      obtain ⟨t1, t2⟩ := ht i c (by omega) (by omega)
      rw [t1, bl_or, bl_1 _ (by omega) x hx, bl_1 _ (by omega) x hx]
      unfold pg_E
      simp only [Bool.or_eq_true, decide_eq_true_eq]
      omega
/-! exits -/
def rx_ok (P : pg_P) (R : Int64) : Prop := bl R (pg_n P) = true ∧ ∀ x, x < 64 → bl R x = true → x = pg_n P ∨ (x < pg_n P ∧ gr_wk (pg_n P) (pg_E P) x (pg_n P + 1) (pg_n P))
def rx_cl (P : pg_P) (R R' : Int64) : Prop := ∀ p, p < pg_n P → (∃ s, s ≤ pg_n P ∧ pg_E P p s ∧ bl R s = true) → bl R' p = true
theorem rx_all {R : Int64} (ht : pg_tok P) (hn : pg_n P ≤ 32) (h : rx_ok P R) (hc : rx_cl P R R) {p : Nat} (hp : p < pg_n P) : bl R p = true ↔ gr_wk (pg_n P) (pg_E P) p (pg_n P + 1) (pg_n P) := by
  constructor
  · intro hb
    rcases h.2 p (by omega) hb with z | z
    · omega
    · exact z.2
  · intro hw
    apply Classical.byContradiction
    intro hno
    have step : ∀ q s, q < pg_n P → ¬ bl R q = true → pg_E P q s → ¬ bl R s = true := fun q s hq nq e z => nq (hc q hq ⟨s, pg_El ht q s hq e, e, z⟩)
    have : ¬ bl R (pg_n P) = true := gr_ind (P := fun s => ¬ bl R s = true) (fun s e _ => step p s hp hno e) (fun q s _ hq hqn e _ => step q s hqn hq e) hw
    exact this h.1
theorem rx_n1 (i : Nat) : nI i + (-1) = nI i - 1 := (Int32.sub_eq_add_neg _ _).symm
theorem rx_neg : nI 0 - 1 < 0 := by decide
theorem xs_in {post : Int32 → Prop} {J : Int64 → Int32 → Int32 → Prop} {k : Int32} {R0 : Int64} (hsu : px_su P xsu) (ht : pg_tok P) (hn : pg_n P ≤ 32) (h0 : rx_ok P R0)
    (hJ : ∀ R, rx_ok P R → (∀ x, bl R0 x = true → bl R x = true) → rx_cl P R0 R → J R (if R = R0 then 0 else 1) (k + 1)) :
    ∃ n, wX_firstWithoutExit_36 post J k R0 xL xC xW xA xP (nI (pg_n P)) xF xR xB xD xo xa xb xc xsu xpd xrg xjn xst xpc xsp xre xme xma xun xta xkp xkm xkj n R0 (nI (pg_n P) - 1) := by
  refine ⟨pg_n P + 1, pk_loopD (fun n i (R : Int64) => wX_firstWithoutExit_36 post J k R0 xL xC xW xA xP (nI (pg_n P)) xF xR xB xD xo xa xb xc xsu xpd xrg xjn xst xpc xsp xre xme xma xun xta xkp xkm xkj n R (nI i - 1)) (fun i R => i ≤ pg_n P ∧ rx_ok P R ∧ (∀ x, bl R0 x = true → bl R x = true) ∧ ∀ p, i ≤ p → p < pg_n P → (∃ s, s ≤ pg_n P ∧ pg_E P p s ∧ bl R0 s = true) → bl R p = true) ?_ ?_ (pg_n P) R0 ⟨Nat.le_refl _, h0, fun _ h => h, fun p h1 h2 => by omega⟩⟩
  · intro n R ⟨_, h1, h2, h3⟩
    have hJ' := hJ R h1 h2 (fun p hp => h3 p (Nat.zero_le _) hp)
    refine br_t rx_neg (br_c (fun e => nm_e ?_) (fun e => nm_e ?_))
    · rw [if_pos e] at hJ'; exact hJ'
    · rw [if_neg e] at hJ'; exact hJ'
  · intro n i R ⟨hi, h1, h2, h3⟩ ih
    have e1 : nI (i + 1) - 1 = nI i := nI_pred i
    have n0 : ¬ nI i < 0 := nI_pos (by omega)
    have hv : vp_in (nI i) 33 := vp_in_nI (by omega) (by omega)
    have hc : (nI i).toNatClampNeg = i := nI_clamp (by omega)
    have hi' : i < pg_n P := by omega
    simp only [wX_firstWithoutExit_36, e1, n0, hv, hc, rx_n1, not_true_eq_false, not_false_eq_true, false_implies, true_implies, and_true, true_and, forall_eq, forall_const]
    refine br_c (fun z => ih R ⟨by omega, h1, h2, fun p p1 p2 p3 => ?_⟩) (fun z => ih _ ⟨by omega, ⟨?_, ?_⟩, ?_, ?_⟩)
    · by_cases e : p = i
      · subst e
        obtain ⟨s, s1, s2, s3⟩ := p3
        exact absurd ⟨(hsu p p2 s (by omega)).mpr s2, h2 s s3⟩ ((bl_az _ _).mp z s (by omega))
      · exact h3 p (by omega) p2 p3
    · rw [bl_or, h1.1]; rfl
    · intro x hx hb
      rw [bl_or, bl_1 i (by omega) x hx] at hb
      simp only [Bool.or_eq_true, decide_eq_true_eq] at hb
      rcases hb with hb | hb
      · exact h1.2 x hx hb
      · subst hb
        right
        refine ⟨hi', ?_⟩
        have ⟨s, s1, s2, s3⟩ : ∃ s, s < 64 ∧ bl (xsu x) s = true ∧ bl R s = true := by
          apply Classical.byContradiction
          intro no
          exact z ((bl_az _ _).mpr fun s hs b => no ⟨s, hs, b.1, b.2⟩)
        have e := (hsu x hi' s s1).mp s2
        have w : gr_wk (pg_n P) (pg_E P) x (pg_n P + 1) s := gr_1 e (by have := pg_El ht x s hi' e; omega)
        rcases h1.2 s s1 s3 with q | q
        · rw [q] at w; exact w
        · exact gr_tr w q.1 q.2
    · intro x hb
      rw [bl_or, h2 x hb]; rfl
    · intro p p1 p2 p3
      rw [bl_or]
      by_cases e : p = i
      · rw [e, bl_1 i (by omega) i (by omega)]; simp
      · rw [h3 p (by omega) p2 p3]; rfl
theorem xs_end {post : Int32 → Prop} {R : Int64} (hn : pg_n P ≤ 32) (hR : ∀ p, p < pg_n P → (bl R p = true ↔ gr_wk (pg_n P) (pg_E P) p (pg_n P + 1) (pg_n P))) {e : Nat} (he : e ≤ pg_n P) (hno : ∀ p, p < e → gr_wk (pg_n P) (pg_E P) p (pg_n P + 1) (pg_n P)) (hend : e = pg_n P → post (-1)) (hbad : e < pg_n P → ¬ gr_wk (pg_n P) (pg_E P) e (pg_n P + 1) (pg_n P) ∧ post (nI e)) :
    ∃ n, wX_firstWithoutExit_90 post R xL xC xW xA xP (nI (pg_n P)) xF xR xB xD xo xa xb xc xsu xpd xrg xjn xst xpc xsp xre xme xma xun xta xkp xkm xkj n 0 := by
  refine loop_0 (fun n i (_ : Unit) => wX_firstWithoutExit_90 post R xL xC xW xA xP (nI (pg_n P)) xF xR xB xD xo xa xb xc xsu xpd xrg xjn xst xpc xsp xre xme xma xun xta xkp xkm xkj n (nI i)) (fun _ _ => True) e () trivial ?_ ?_
  · intro n _ _
    rcases Nat.lt_or_ge e (pg_n P) with c | c
    · have h := hbad c
      refine br_f (nI_ge c (by omega)) (br_t ((bl_z R (by omega)).mpr ?_) h.2)
      cases z : bl R e
      · rfl
      · exact absurd ((hR e c).mp z) h.1
    · exact br_t (nI_le c (by omega)) (hend (by omega))
  · intro n i _ hi _ ih
    have hb := (hR i (by omega)).mpr (hno i hi)
    refine br_f (nI_ge (by omega) (by omega)) (br_f (fun z => ?_) (nm_r (nI_1 i) (ih () trivial)))
    rw [(bl_z R (by omega)).mp z] at hb
    exact absurd hb (by decide)
theorem xs_we {post : Int32 → Prop} (hsu : px_su P xsu) (ht : pg_tok P) (hn : pg_n P ≤ 32) {e : Nat} (he : e ≤ pg_n P) (hno : ∀ p, p < e → gr_wk (pg_n P) (pg_E P) p (pg_n P + 1) (pg_n P)) (hend : e = pg_n P → post (-1)) (hbad : e < pg_n P → ¬ gr_wk (pg_n P) (pg_E P) e (pg_n P + 1) (pg_n P) ∧ post (nI e)) :
    wpX_firstWithoutExit post (xL, xC, xW, xA, xP, nI (pg_n P), xF, xR, xB, xD, xo, xa, xb, xc, xsu, xpd, xrg, xjn, xst, xpc, xsp, xre, xme, xma, xun, xta, xkp, xkm, xkj) := by
  have done : ∀ R k m, 0 < m → rx_ok P R → rx_cl P R R → wX_firstWithoutExit_12 post xL xC xW xA xP (nI (pg_n P)) xF xR xB xD xo xa xb xc xsu xpd xrg xjn xst xpc xsp xre xme xma xun xta xkp xkm xkj m R 0 k := by
    intro R k m hm h1 h2
    cases m with
    | zero => omega
    | succ m => exact br_t rfl (xs_end hn (fun p hp => rx_all ht hn h1 h2 hp) he hno hend hbad)
  have loop : ∀ d R k, pg_n P + 1 ≤ d + cn_c (bl R) (pg_n P + 1) → rx_ok P R → k + 1 ≤ cn_c (bl R) (pg_n P + 1) → ∀ m, d + 1 < m → wX_firstWithoutExit_12 post xL xC xW xA xP (nI (pg_n P)) xF xR xB xD xo xa xb xc xsu xpd xrg xjn xst xpc xsp xre xme xma xun xta xkp xkm xkj m R 1 (nI k) := by
    intro d
    induction d with
    | zero =>
      intro R k hd h1 hk m hm
      cases m with
      | zero => omega
      | succ m =>
        have hle := cn_le (bl R) (pg_n P + 1)
        refine br_f (by decide) (br_f (nI_nlt (by omega) (by omega)) (nm_e (xs_in hsu ht hn h1 fun R' r1 r2 r3 => ?_)))
        have same : R' = R := by
          apply bl_ext
          intro x hx
          cases z : bl R x
          · cases y : bl R' x
            · rfl
            · exfalso
              have : x < pg_n P + 1 := by rcases r1.2 x hx y with q | q <;> omega
              have := cn_lt (f := bl R) (g := bl R') (pg_n P + 1) (fun i _ h => r2 i h) x this z y
              have := cn_le (bl R') (pg_n P + 1)
              omega
          · exact r2 x z
        rw [if_pos same]
        rw [same] at r3 ⊢
        exact done R _ m (by omega) h1 r3
    | succ d ih =>
      intro R k hd h1 hk m hm
      cases m with
      | zero => omega
      | succ m =>
        have hle := cn_le (bl R) (pg_n P + 1)
        refine br_f (by decide) (br_f (nI_nlt (by omega) (by omega)) (nm_e (xs_in hsu ht hn h1 fun R' r1 r2 r3 => ?_)))
        by_cases same : R' = R
        · rw [if_pos same]
          rw [same] at r3 ⊢
          exact done R _ m (by omega) h1 r3
        · rw [if_neg same, nI_1]
          have ⟨x, hx, y, z⟩ : ∃ x, x < 64 ∧ bl R' x = true ∧ bl R x = false := by
            apply Classical.byContradiction
            intro no
            apply same
            apply bl_ext
            intro x hx
            cases z : bl R x
            · cases y : bl R' x
              · rfl
              · exact absurd ⟨x, hx, y, z⟩ no
            · exact r2 x z
          have hxn : x < pg_n P + 1 := by rcases r1.2 x hx y with q | q <;> omega
          have := cn_lt (f := bl R) (g := bl R') (pg_n P + 1) (fun i _ h => r2 i h) x hxn z y
          exact ih R' (k + 1) (by omega) r1 (by omega) m (by omega)
  have start : rx_ok P ((1 : Int64) <<< ((nI (pg_n P)).toInt64 &&& 63)) := by
    refine ⟨by rw [bl_1 _ (by omega) _ (by omega)]; simp, fun x hx hb => ?_⟩
    rw [bl_1 _ (by omega) x hx] at hb
    exact Or.inl (by simpa using hb)
  refine nm_e ⟨pg_n P + 3, ?_⟩
  have := cn_pos (f := bl ((1 : Int64) <<< ((nI (pg_n P)).toInt64 &&& 63))) (n := pg_n P + 1) (i := pg_n P) (by omega) start.1
  exact loop (pg_n P + 1) _ 0 (by omega) start (by omega) _ (by omega)
end
end
section
/-! own rows: the class's post-dominator sets -/
def pd_F (P : pg_P) (pd : Nat → Int64) (p x : Nat) : Prop := x = p ∨ (x ≤ pg_n P ∧ ∀ s, s ≤ pg_n P → pg_E P p s → bl (pd s) x = true)
def pd_ok (P : pg_P) (pd : Nat → Int64) : Prop :=
  (∀ p x, p ≤ pg_n P → x ≤ pg_n P → gr_pd (pg_n P) (pg_E P) x p → bl (pd p) x = true) ∧ (∀ p x, p ≤ pg_n P → x < 64 → bl (pd p) x = true → x ≤ pg_n P) ∧ (∀ x, x < 64 → (bl (pd (pg_n P)) x = true ↔ x = pg_n P)) ∧ (∀ p x, p < pg_n P → x < 64 → pd_F P pd p x → bl (pd p) x = true)
def pd_fx (P : pg_P) (pd : Nat → Int64) (p : Nat) : Prop := ∀ x, x < 64 → bl (pd p) x = true → pd_F P pd p x
def pd_M (P : pg_P) (pd : Nat → Int64) : Nat := sm_s (fun p => cn_c (bl (pd p)) (pg_n P + 1)) (pg_n P)
def px_pd (P : pg_P) (pd : Nat → Int64) : Prop := ∀ p x, p ≤ pg_n P → x < 64 → (bl (pd p) x = true ↔ (x ≤ pg_n P ∧ gr_pd (pg_n P) (pg_E P) x p))
section
variable {P : pg_P} {pd : Nat → Int64}
theorem pd_low (ht : pg_tok P) {p x : Nat} (hp : p < pg_n P) (h : gr_pd (pg_n P) (pg_E P) x p) (hx : x ≠ p) {s : Nat} (e : pg_E P p s) : gr_pd (pg_n P) (pg_E P) x s := by
  rcases h with h | ⟨_, h⟩
  · exact absurd h hx
  by_cases c : s = x
  · exact Or.inl c.symm
  have w : gr_wk (pg_n P) (pg_E P) p x s := gr_1 e c
  have hs := pg_El ht p s hp e
  have sn : s < pg_n P := by
    rcases Nat.lt_or_ge s (pg_n P) with z | z
    · exact z
    · have : s = pg_n P := by omega
      rw [this] at w
      exact absurd w h
  exact Or.inr ⟨sn, fun w2 => h (gr_tr w sn w2)⟩
theorem pd_end (ht : pg_tok P) (hn : pg_n P ≤ 32) (h : pd_ok P pd) (hf : ∀ p, p < pg_n P → pd_fx P pd p) : px_pd P pd := by
  intro p x hp hx
  constructor
  · intro hb
    have hxn := h.2.1 p x hp hx hb
    refine ⟨hxn, ?_⟩
    by_cases c : x = p
    · exact Or.inl c
    have pn : p < pg_n P := by
      rcases Nat.lt_or_ge p (pg_n P) with z | z
      · exact z
      · have e : p = pg_n P := by omega
        rw [e] at hb
        have := (h.2.2.1 x hx).mp hb
        omega
    refine Or.inr ⟨pn, fun w => ?_⟩
    have step : ∀ q, q < pg_n P → q ≠ x → bl (pd q) x = true → ∀ s, pg_E P q s → bl (pd s) x = true := by
      intro q hq hqx hb s e
      rcases hf q hq x hx hb with z | z
      · exact absurd z.symm hqx
      · exact z.2 s (pg_El ht q s hq e) e
    have all := gr_ind (P := fun s => bl (pd s) x = true) (fun s e _ => step p pn (fun z => c z.symm) hb s e) (fun q s hq ih hqn e _ => step q hqn (gr_ne hq) ih s e) w
    have := (h.2.2.1 x hx).mp all
    exact gr_ne w this.symm
  · intro ⟨h1, h2⟩
    exact h.1 p x hp h1 h2
/-- one entry made anew -/
theorem pd_put (ht : pg_tok P) (hn : pg_n P ≤ 32) (h : pd_ok P pd) {p : Nat} (hp : p < pg_n P) {y : Int64} (hy : ∀ x, x < 64 → (bl y x = true ↔ pd_F P pd p x)) : pd_ok P (vp_updL pd p y) ∧ (y ≠ pd p → pd_M P (vp_updL pd p y) < pd_M P pd) := by
  have ue : vp_updL pd p y p = y := pk_uLs
  have un : ∀ q, q ≠ p → vp_updL pd p y q = pd q := fun q hq => pk_uLn hq
  have sub : ∀ q x, x < 64 → bl (vp_updL pd p y q) x = true → bl (pd q) x = true := by
    intro q x hx hb
    by_cases e : q = p
    · rw [e, ue] at hb
      rw [e]
      exact h.2.2.2 p x hp hx ((hy x hx).mp hb)
    · rw [un q e] at hb; exact hb
  have Fsub : ∀ q x, x < 64 → pd_F P (vp_updL pd p y) q x → pd_F P pd q x := by
    intro q x hx hF
    rcases hF with z | z
    · exact Or.inl z
    · exact Or.inr ⟨z.1, fun s s1 s2 => sub s x hx (z.2 s s1 s2)⟩
  refine ⟨⟨?_, ?_, ?_, ?_⟩, ?_⟩
  · intro q x hq hx hpd
    by_cases e : q = p
    · rw [e, ue]
      rw [e] at hpd
      refine (hy x (by omega)).mpr ?_
      by_cases c : x = p
      · exact Or.inl c
      · exact Or.inr ⟨hx, fun s s1 s2 => h.1 s x s1 hx (pd_low ht hp hpd c s2)⟩
    · rw [un q e]; exact h.1 q x hq hx hpd
  · intro q x hq hx hb
    exact h.2.1 q x hq hx (sub q x hx hb)
  · intro x hx
    rw [un _ (by omega)]
    exact h.2.2.1 x hx
  · intro q x hq hx hF
    have hF' := Fsub q x hx hF
    by_cases e : q = p
    · rw [e, ue]
      rw [e] at hF'
      exact (hy x hx).mpr hF'
    · rw [un q e]; exact h.2.2.2 q x hq hx hF'
  · intro hne
    have ⟨x, hx, b1, b2⟩ : ∃ x, x < 64 ∧ bl (pd p) x = true ∧ bl y x = false := by
      apply Classical.byContradiction
      intro no
      apply hne
      apply bl_ext
      intro x hx
      cases z : bl y x
      · cases w : bl (pd p) x
        · rfl
        · exact absurd ⟨x, hx, w, z⟩ no
      · exact (h.2.2.2 p x hp hx ((hy x hx).mp z)).symm
    have hxn := h.2.1 p x (by omega) hx b1
    unfold pd_M
    refine sm_lt (pg_n P) (fun i hi => cn_mono _ (fun j hj hb => sub i j (by omega) hb)) p hp ?_
    rw [ue]
    refine cn_lt _ (fun j hj hb => ?_) x (by omega) b2 b1
    have := sub p j (by omega) (by rw [ue]; exact hb)
    exact this
end
section
variable {P : pg_P} {xL xC xW xA xP xN xF xR xB xD : Int32} {xo xa xb xc : Nat → Int32} {xsu xpd xrg : Nat → Int64} {xjn xst xpc xsp xre xme xma xun xta xkp xkm xkj : Nat → Int32}
theorem xd_co {post : Int64 → Prop} (hsu : px_su P xsu) (hn : pg_n P ≤ 32) {p : Nat} (hp : p < pg_n P) {al : Int64} (ha : ∀ x, x < 64 → (bl al x = true ↔ x ≤ pg_n P))
    (hpost : ∀ r, (∀ x, x < 64 → (bl (r ||| ((1 : Int64) <<< ((nI p).toInt64 &&& 63))) x = true ↔ pd_F P xpd p x)) → post r) :
    wpX_commonOfSuccessors post (xL, xC, xW, xA, xP, nI (pg_n P), xF, xR, xB, xD, xo, xa, xb, xc, xsu, xpd, xrg, xjn, xst, xpc, xsp, xre, xme, xma, xun, xta, xkp, xkm, xkj) (nI p) al := by
  refine loop_0 (fun n i (r : Int64) => wX_commonOfSuccessors_6 post (nI p) xL xC xW xA xP (nI (pg_n P)) xF xR xB xD xo xa xb xc xsu xpd xrg xjn xst xpc xsp xre xme xma xun xta xkp xkm xkj n r (nI i)) (fun i r => i ≤ pg_n P + 1 ∧ ∀ x, x < 64 → (bl r x = true ↔ (x ≤ pg_n P ∧ ∀ s, s < i → pg_E P p s → bl (xpd s) x = true))) (pg_n P + 1) al ⟨by omega, fun x hx => ⟨fun h => ⟨(ha x hx).mp h, fun s hs => by omega⟩, fun h => (ha x hx).mpr h.1⟩⟩ ?_ ?_
  · intro n r ⟨_, hr⟩
    refine br_t (nI_lt (by omega) (by omega)) (hpost r fun x hx => ?_)
    rw [bl_or, bl_1 p (by omega) x hx]
    unfold pd_F
    simp only [Bool.or_eq_true, decide_eq_true_eq]
    rw [hr x hx]
    constructor
    · intro h
      rcases h with h | h
      · exact Or.inr ⟨h.1, fun s s1 => h.2 s (by omega)⟩
      · exact Or.inl h
    · intro h
      rcases h with h | h
      · exact Or.inr h
      · exact Or.inl ⟨h.1, fun s s1 => h.2 s (by omega)⟩
  · intro n i r hi ⟨_, hr⟩ ih
    have hc : (nI p).toNatClampNeg = p := nI_clamp (by omega)
    have hc2 : (nI i).toNatClampNeg = i := nI_clamp (by omega)
    have hv : vp_in (nI p) 33 := vp_in_nI (by omega) (by omega)
    have hv2 : vp_in (nI i) 33 := vp_in_nI (by omega) (by omega)
    have h1 : ¬ nI (pg_n P) < nI i := nI_nlt (by omega) (by omega)
    simp only [wX_commonOfSuccessors_6, hc, hc2, hv, hv2, h1, nI_1, not_true_eq_false, not_false_eq_true, false_implies, true_implies, and_true, true_and, forall_eq, forall_const]
    refine br_c (fun z => ih r ⟨by omega, fun x hx => ?_⟩) (fun z => ih _ ⟨by omega, fun x hx => ?_⟩)
    · rw [hr x hx]
      have ne : ¬ pg_E P p i := fun e => by
        have := (bl_z _ (by omega)).mp z
        rw [(hsu p hp i (by omega)).mpr e] at this
        exact absurd this (by decide)
      constructor
      · intro h
        refine ⟨h.1, fun s s1 s2 => ?_⟩
        by_cases e : s = i
        · rw [e] at s2; exact absurd s2 ne
        · exact h.2 s (by omega) s2
      · intro h
        exact ⟨h.1, fun s s1 => h.2 s (by omega)⟩
    · rw [bl_and, Bool.and_eq_true, hr x hx]
      have ye : pg_E P p i := by
        apply (hsu p hp i (by omega)).mp
        cases q : bl (xsu p) i
        · exact absurd ((bl_z _ (by omega)).mpr q) z
        · rfl
      constructor
      · intro h
        refine ⟨h.1.1, fun s s1 s2 => ?_⟩
        by_cases e : s = i
        · rw [e]; exact h.2
        · exact h.1.2 s (by omega) s2
      · intro h
        exact ⟨⟨h.1, fun s s1 => h.2 s (by omega)⟩, h.2 i (by omega) ye⟩
theorem xd_in {post : SX → Prop} {J : Int32 → Int32 → (Nat → Int32) → (Nat → Int32) → (Nat → Int32) → (Nat → Int32) → (Nat → Int64) → (Nat → Int64) → (Nat → Int64) → (Nat → Int32) → (Nat → Int32) → (Nat → Int32) → (Nat → Int32) → (Nat → Int32) → (Nat → Int32) → (Nat → Int32) → (Nat → Int32) → (Nat → Int32) → (Nat → Int32) → (Nat → Int32) → (Nat → Int32) → Prop} {lim k : Int32} (hsu : px_su P xsu) (ht : pg_tok P) (hn : pg_n P ≤ 32) {al : Int64} (ha : ∀ x, x < 64 → (bl al x = true ↔ x ≤ pg_n P)) (h0 : pd_ok P xpd)
    (hJ1 : (∀ p, p < pg_n P → pd_fx P xpd p) → J 0 (k + 1) xo xa xb xc xsu xpd xrg xjn xst xpc xsp xre xme xma xun xta xkp xkm xkj) (hJ2 : ∀ pd, pd_ok P pd → pd_M P pd < pd_M P xpd → J 1 (k + 1) xo xa xb xc xsu pd xrg xjn xst xpc xsp xre xme xma xun xta xkp xkm xkj) :
    ∃ n, wX_findPostDominators_93 post J al lim k xL xC xW xA xP (nI (pg_n P)) xF xR xB xD n 0 (nI (pg_n P) - 1) xo xa xb xc xsu xpd xrg xjn xst xpc xsp xre xme xma xun xta xkp xkm xkj := by
  refine ⟨pg_n P + 1, pk_loopD (fun n i (s : Int32 × (Nat → Int64)) => wX_findPostDominators_93 post J al lim k xL xC xW xA xP (nI (pg_n P)) xF xR xB xD n s.1 (nI i - 1) xo xa xb xc xsu s.2 xrg xjn xst xpc xsp xre xme xma xun xta xkp xkm xkj)
    (fun i s => i ≤ pg_n P ∧ pd_ok P s.2 ∧ ((s.1 = 0 ∧ s.2 = xpd ∧ ∀ p, i ≤ p → p < pg_n P → pd_fx P xpd p) ∨ (s.1 = 1 ∧ pd_M P s.2 < pd_M P xpd))) ?_ ?_ (pg_n P) (0, xpd) ⟨Nat.le_refl _, h0, Or.inl ⟨rfl, rfl, fun p h1 h2 => by omega⟩⟩⟩
  · intro n s ⟨_, h1, h2⟩
    refine br_t rx_neg (nm_e ?_)
    rcases h2 with ⟨e1, e2, e3⟩ | ⟨e1, e2⟩
    · rw [e1, e2]; exact hJ1 (fun p hp => e3 p (Nat.zero_le _) hp)
    · rw [e1]; exact hJ2 _ h1 e2
  · intro n i s ⟨hi, h1, h2⟩ ih
    obtain ⟨fl, pd⟩ := s
    dsimp only at h1 h2 ih ⊢
    have e1 : nI (i + 1) - 1 = nI i := nI_pred i
    have n0 : ¬ nI i < 0 := nI_pos (by omega)
    have hv : vp_in (nI i) 33 := vp_in_nI (by omega) (by omega)
    have hc : (nI i).toNatClampNeg = i := nI_clamp (by omega)
    simp only [wX_findPostDominators_93, e1, n0, not_true_eq_false, not_false_eq_true, false_implies, true_implies, and_true, true_and, forall_eq, forall_const]
    refine xd_co hsu hn (by omega) ha (fun r hr => ?_)
    have put := pd_put ht hn h1 (p := i) (by omega) hr
    simp only [hv, hc, rx_n1, not_true_eq_false, not_false_eq_true, false_implies, true_implies, and_true, true_and, forall_eq, forall_const]
    refine br_c (fun z => ih (fl, pd) ⟨by omega, h1, ?_⟩) (fun z => ih (1, vp_updL pd i (r ||| ((1 : Int64) <<< ((nI i).toInt64 &&& 63)))) ⟨by omega, put.1, Or.inr ⟨rfl, ?_⟩⟩)
    · rcases h2 with ⟨q1, q2, q3⟩ | q
      · refine Or.inl ⟨q1, q2, fun p p1 p2 => ?_⟩
        by_cases e : p = i
        · rw [e, ← q2]
          intro x hx hb
          rw [← z] at hb
          exact (hr x hx).mp hb
        · exact q3 p (by omega) p2
      · exact Or.inr q
    · have lt := put.2 z
      rcases h2 with ⟨q1, q2, q3⟩ | q
      · dsimp only; rw [q2] at lt ⊢; exact lt
      · exact Nat.lt_trans lt q.2
theorem xd_all (hn : pg_n P ≤ 32) : ∀ x, x < 64 → (bl (((1 : Int64) <<< ((nI (pg_n P) + 1).toInt64 &&& 63)) - 1) x = true ↔ x ≤ pg_n P) := by
  intro x hx
  rw [nI_1, bl_all (pg_n P + 1) (by omega) x hx, decide_eq_true_eq]
  omega
theorem xd_pd {post : SX → Prop} (hsu : px_su P xsu) (ht : pg_tok P) (hn : pg_n P ≤ 32) (hpost : ∀ pd, px_pd P pd → post (xL, xC, xW, xA, xP, nI (pg_n P), xF, xR, xB, xD, xo, xa, xb, xc, xsu, pd, xrg, xjn, xst, xpc, xsp, xre, xme, xma, xun, xta, xkp, xkm, xkj)) :
    wpX_findPostDominators post (xL, xC, xW, xA, xP, nI (pg_n P), xF, xR, xB, xD, xo, xa, xb, xc, xsu, xpd, xrg, xjn, xst, xpc, xsp, xre, xme, xma, xun, xta, xkp, xkm, xkj) := by
  refine nm_e ?_
  have ha := xd_all hn
  generalize ((1 : Int64) <<< ((nI (pg_n P) + 1).toInt64 &&& 63)) - 1 = al at ha
  have lim : ((nI (pg_n P) + 1) * (nI (pg_n P) + 1)) + 1 = nI ((pg_n P + 1) * (pg_n P + 1) + 1) := by rw [nI_1, pk_mul, nI_1]
  have sq : (pg_n P + 1) * (pg_n P + 1) ≤ 33 * 33 := Nat.mul_le_mul (by omega) (by omega)
  have sq2 : pg_n P * (pg_n P + 1) ≤ (pg_n P + 1) * (pg_n P + 1) := Nat.mul_le_mul (by omega) (by omega)
  have loop : ∀ d pd k, pd_ok P pd → pd_M P pd ≤ d → pd_M P pd + k ≤ pg_n P * (pg_n P + 1) → ∀ m, d + 1 < m → wX_findPostDominators_71 post al (nI ((pg_n P + 1) * (pg_n P + 1) + 1)) xL xC xW xA xP (nI (pg_n P)) xF xR xB xD m 1 (nI k) xo xa xb xc xsu pd xrg xjn xst xpc xsp xre xme xma xun xta xkp xkm xkj := by
    intro d
    induction d with
    | zero =>
      intro pd k h1 h2 h3 m hm
      cases m with
      | zero => omega
      | succ m =>
        refine br_f (by decide) (br_f (nI_ge (by omega) (by omega)) (nm_e (xd_in hsu ht hn ha h1 (fun hf => ?_) (fun pd' q1 q2 => by omega))))
        cases m with
        | zero => omega
        | succ m => exact br_t rfl (hpost _ (pd_end ht hn h1 hf))
    | succ d ih =>
      intro pd k h1 h2 h3 m hm
      cases m with
      | zero => omega
      | succ m =>
        refine br_f (by decide) (br_f (nI_ge (by omega) (by omega)) (nm_e (xd_in hsu ht hn ha h1 (fun hf => ?_) (fun pd' q1 q2 => ?_))))
        · cases m with
          | zero => omega
          | succ m => exact br_t rfl (hpost _ (pd_end ht hn h1 hf))
        · rw [nI_1]
          exact ih pd' (k + 1) q1 (by omega) (by omega) m (by omega)
  refine loop_0 (fun n i (s : Nat → Int64) => wX_findPostDominators_13 post al xL xC xW xA xP (nI (pg_n P)) xF xR xB xD n (nI i) xo xa xb xc xsu s xrg xjn xst xpc xsp xre xme xma xun xta xkp xkm xkj) (fun i s => ∀ p, p < i → s p = al) (pg_n P) xpd (fun p hp => by omega) ?_ ?_
  · intro n s hs
    refine br_t (nI_le (Nat.le_refl _) (by omega)) ⟨vp_in_nI (by omega) (by omega), nm_e (nm_r lim ?_)⟩
    rw [nI_clamp (by omega)]
    have ok : pd_ok P (vp_updL s (pg_n P) ((1 : Int64) <<< ((nI (pg_n P)).toInt64 &&& 63))) := by
      have un : ∀ q, q < pg_n P → vp_updL s (pg_n P) ((1 : Int64) <<< ((nI (pg_n P)).toInt64 &&& 63)) q = al := fun q hq => by rw [pk_uLn (by omega)]; exact hs q hq
      have ue : vp_updL s (pg_n P) ((1 : Int64) <<< ((nI (pg_n P)).toInt64 &&& 63)) (pg_n P) = (1 : Int64) <<< ((nI (pg_n P)).toInt64 &&& 63) := pk_uLs
      have b1 : ∀ x, x < 64 → (bl ((1 : Int64) <<< ((nI (pg_n P)).toInt64 &&& 63)) x = true ↔ x = pg_n P) := fun x hx => by rw [bl_1 _ (by omega) x hx, decide_eq_true_eq]
      refine ⟨?_, ?_, ?_, ?_⟩
      · intro p x hp hx hpd
        rcases Nat.lt_or_ge p (pg_n P) with c | c
        · rw [un p c]; exact (ha x (by omega)).mpr hx
        · have e : p = pg_n P := by omega
          rw [e, ue]
          rw [e] at hpd
          refine (b1 x (by omega)).mpr ?_
          rcases hpd with z | z
          · exact z
          · omega
      · intro p x hp hx hb
        rcases Nat.lt_or_ge p (pg_n P) with c | c
        · rw [un p c] at hb; exact (ha x hx).mp hb
        · have e : p = pg_n P := by omega
          rw [e, ue] at hb
          have := (b1 x hx).mp hb
          omega
      · intro x hx
        rw [ue]; exact b1 x hx
      · intro p x hp hx hF
        rw [un p hp]
        refine (ha x hx).mpr ?_
        rcases hF with z | z
        · omega
        · exact z.1
    have mb : pd_M P (vp_updL s (pg_n P) ((1 : Int64) <<< ((nI (pg_n P)).toInt64 &&& 63))) ≤ pg_n P * (pg_n P + 1) := sm_bd _ (fun i _ => cn_le _ _)
    exact ⟨pd_M P (vp_updL s (pg_n P) ((1 : Int64) <<< ((nI (pg_n P)).toInt64 &&& 63))) + 2, loop _ _ 0 ok (Nat.le_refl _) (by omega) _ (by omega)⟩
  · intro n i s hi hs ih
    refine br_f (nI_ge hi (by omega)) ⟨vp_in_nI (by omega) (by omega), nm_e (nm_r (nI_1 i) (ih _ (fun p hp => ?_)))⟩
    rw [nI_clamp (by omega)]
    by_cases e : p = i
    · rw [e, pk_uLs]
    · rw [pk_uLn e]; exact hs p (by omega)
end
end
section
/-! own rows: the class's join points, regions, parted SYNC; its seal -/
def px_jn (P : pg_P) (xjn : Nat → Int32) : Prop := ∀ p, p < pg_n P → xjn p = nI (pg_j P p)
def px_rg (P : pg_P) (xrg : Nat → Int64) : Prop := ∀ p, p < pg_n P → ∀ x, x < 64 → (bl (xrg p) x = true ↔ gr_wk (pg_n P) (pg_E P) p (pg_j P p) x)
section
variable {P : pg_P} {xL xC xW xA xP xN xF xR xB xD : Int32} {xo xa xb xc : Nat → Int32} {xsu xpd xrg : Nat → Int64} {xjn xst xpc xsp xre xme xma xun xta xkp xkm xkj : Nat → Int32}
theorem xj_eq (hn : pg_n P ≤ 32) (hR : ∀ p, p < pg_n P → gr_wk (pg_n P) (pg_E P) p (pg_n P + 1) (pg_n P)) (hJ : ∀ p, p < pg_n P → pg_j P p ≤ pg_n P ∧ gr_jn (pg_n P) (pg_E P) p (pg_j P p)) (hpd : px_pd P xpd) {p x : Nat} (hp : p < pg_n P) (hx : x ≤ pg_n P) :
    xpd x = (xpd p &&& (((1 : Int64) <<< ((nI p).toInt64 &&& 63)) ^^^ (-1))) ↔ x = pg_j P p := by
  constructor
  · intro e
    refine gr_uq hR (gr_set hR hx hp fun y hy => ?_) (hJ p hp).2
    have b : bl (xpd x) y = bl (xpd p &&& (((1 : Int64) <<< ((nI p).toInt64 &&& 63)) ^^^ (-1))) y := by rw [← e]
    rw [bl_and, bl_n _ (by omega), bl_1 p (by omega) y (by omega)] at b
    have b1 := hpd x y hx (by omega)
    have b2 := hpd p y (by omega) (by omega)
    constructor
    · intro h
      have z := b1.mpr ⟨hy, h⟩
      rw [b] at z
      simp only [Bool.and_eq_true, Bool.not_eq_true', decide_eq_false_iff_not] at z
      exact ⟨(b2.mp z.1).2, z.2⟩
    · intro h
      apply And.right
      apply b1.mp
      rw [b, b2.mpr ⟨hy, h.1⟩]
      simp [h.2]
  · intro e
    apply bl_ext
    intro y hy
    rw [bl_and, bl_n _ hy, bl_1 p (by omega) y hy]
    have b1 := hpd x y hx hy
    have b2 := hpd p y (by omega) hy
    have g := gr_set2 hR (hJ p hp).2 y
    rw [← e] at g
    cases z : bl (xpd x) y
    · cases w : bl (xpd p) y
      · rfl
      · by_cases q : y = p
        · simp [q]
        · exfalso
          have := b1.mpr ⟨(b2.mp w).1, g.mpr ⟨(b2.mp w).2, q⟩⟩
          rw [z] at this
          exact absurd this (by decide)
    · have q := b1.mp z
      have q2 := g.mp q.2
      rw [b2.mpr ⟨q.1, q2.1⟩]
      simp [q2.2]
theorem xj_jp {post : SX → Prop} (hn : pg_n P ≤ 32) (hR : ∀ p, p < pg_n P → gr_wk (pg_n P) (pg_E P) p (pg_n P + 1) (pg_n P)) (hJ : ∀ p, p < pg_n P → pg_j P p ≤ pg_n P ∧ gr_jn (pg_n P) (pg_E P) p (pg_j P p)) (hpd : px_pd P xpd) (hpost : ∀ jn, px_jn P jn → post (xL, xC, xW, xA, xP, nI (pg_n P), xF, xR, xB, xD, xo, xa, xb, xc, xsu, xpd, xrg, jn, xst, xpc, xsp, xre, xme, xma, xun, xta, xkp, xkm, xkj)) :
    wpX_findJoinPoints post (xL, xC, xW, xA, xP, nI (pg_n P), xF, xR, xB, xD, xo, xa, xb, xc, xsu, xpd, xrg, xjn, xst, xpc, xsp, xre, xme, xma, xun, xta, xkp, xkm, xkj) := by
  refine loop_0 (fun n i (s : Nat → Int32) => wX_findJoinPoints_2 post xL xC xW xA xP (nI (pg_n P)) xF xR xB xD n (nI i) xo xa xb xc xsu xpd xrg s xst xpc xsp xre xme xma xun xta xkp xkm xkj) (fun i s => ∀ p, p < i → s p = nI (pg_j P p)) (pg_n P) xjn (fun p hp => by omega) ?_ ?_
  · intro n s hs
    exact br_t (nI_le (Nat.le_refl _) (by omega)) (hpost s hs)
  · intro n i s hi hs ih
    have hc : (nI i).toNatClampNeg = i := nI_clamp (by omega)
    refine br_f (nI_ge hi (by omega)) ⟨vp_in_nI (by omega) (by omega), nm_e ⟨vp_in_nI (by omega) (by omega), nm_e ?_⟩⟩
    rw [hc]
    refine loop_0 (fun n' x (s' : Nat → Int32) => wX_findJoinPoints_38 post (wX_findJoinPoints_2 post xL xC xW xA xP (nI (pg_n P)) xF xR xB xD n) (nI i) (xpd i &&& (((1 : Int64) <<< ((nI i).toInt64 &&& 63)) ^^^ (-1))) xL xC xW xA xP (nI (pg_n P)) xF xR xB xD n' (nI x) xo xa xb xc xsu xpd xrg s' xst xpc xsp xre xme xma xun xta xkp xkm xkj) (fun x s' => x ≤ pg_n P + 1 ∧ (∀ p, p < i → s' p = nI (pg_j P p)) ∧ (pg_j P i < x → s' i = nI (pg_j P i))) (pg_n P + 1) _ ⟨by omega, fun p hp => by rw [pk_un (by omega)]; exact hs p hp, fun z => by omega⟩ ?_ ?_
    · intro n' s' ⟨_, h1, h2⟩
      refine br_t (nI_lt (by omega) (by omega)) (nm_r (nI_1 i) (ih s' (fun p hp => ?_)))
      by_cases e : p = i
      · rw [e]; exact h2 (by have := (hJ i hi).1; omega)
      · exact h1 p (by omega)
    · intro n' x s' hx ⟨_, h1, h2⟩ ih2
      have hc2 : (nI x).toNatClampNeg = x := nI_clamp (by omega)
      refine br_f (nI_nlt (by omega) (by omega)) ⟨vp_in_nI (by omega) (by omega), ?_⟩
      rw [hc2]
      have key := xj_eq hn hR hJ hpd hi (x := x) (by omega)
      refine br_c (fun z => ⟨vp_in_nI (by omega) (by omega), nm_e (nm_r (nI_1 x) (ih2 _ ⟨by omega, fun p hp => ?_, fun _ => ?_⟩))⟩) (fun z => nm_r (nI_1 x) (ih2 s' ⟨by omega, h1, fun q => ?_⟩))
      · rw [hc, pk_un (by omega)]; exact h1 p hp
      · rw [hc, pk_us, key.mp z]
      · refine h2 ?_
        have : x ≠ pg_j P i := fun e => z (key.mpr e)
        omega
theorem xj_so {post : Int64 → Prop} (hsu : px_su P xsu) (hn : pg_n P ≤ 32) {m : Int64} (hpost : ∀ r, (∀ x, x < 64 → (bl r x = true ↔ ∃ q, q < pg_n P ∧ bl m q = true ∧ pg_E P q x)) → post r) :
    wpX_successorsOf post (xL, xC, xW, xA, xP, nI (pg_n P), xF, xR, xB, xD, xo, xa, xb, xc, xsu, xpd, xrg, xjn, xst, xpc, xsp, xre, xme, xma, xun, xta, xkp, xkm, xkj) m := by
  refine loop_0 (fun n i (r : Int64) => wX_successorsOf_5 post m xL xC xW xA xP (nI (pg_n P)) xF xR xB xD xo xa xb xc xsu xpd xrg xjn xst xpc xsp xre xme xma xun xta xkp xkm xkj n r (nI i)) (fun i r => ∀ x, x < 64 → (bl r x = true ↔ ∃ q, q < i ∧ bl m q = true ∧ pg_E P q x)) (pg_n P) 0 (fun x hx => ⟨fun h => by rw [bl_0] at h; exact absurd h (by decide), fun ⟨q, h, _⟩ => by omega⟩) ?_ ?_
  · intro n r hr
    exact br_t (nI_le (Nat.le_refl _) (by omega)) (hpost r hr)
  · intro n i r hi hr ih
    refine br_f (nI_ge hi (by omega)) (br_c (fun z => nm_r (nI_1 i) (ih r fun x hx => ?_)) (fun z => ⟨vp_in_nI (by omega) (by omega), nm_e (nm_r (nI_1 i) (ih _ fun x hx => ?_))⟩))
    · rw [hr x hx]
      have zf := (bl_z m (by omega)).mp z
      constructor
      · intro ⟨q, q1, q2⟩; exact ⟨q, by omega, q2⟩
      · intro ⟨q, q1, q2, q3⟩
        by_cases e : q = i
        · rw [e, zf] at q2; exact absurd q2 (by decide)
        · exact ⟨q, by omega, q2, q3⟩
    · rw [nI_clamp (by omega), bl_or, Bool.or_eq_true, hr x hx, hsu i hi x hx]
      have zt : bl m i = true := by
        cases q : bl m i
        · exact absurd ((bl_z m (by omega)).mpr q) z
        · rfl
      constructor
      · intro h
        rcases h with ⟨q, q1, q2⟩ | h
        · exact ⟨q, by omega, q2⟩
        · exact ⟨i, by omega, zt, h⟩
      · intro ⟨q, q1, q2, q3⟩
        by_cases e : q = i
        · rw [e] at q3; exact Or.inr q3
        · exact Or.inl ⟨q, by omega, q2, q3⟩
theorem xj_rg1 {post : SX → Prop} {J : Int32 → (Nat → Int32) → (Nat → Int32) → (Nat → Int32) → (Nat → Int32) → (Nat → Int64) → (Nat → Int64) → (Nat → Int64) → (Nat → Int32) → (Nat → Int32) → (Nat → Int32) → (Nat → Int32) → (Nat → Int32) → (Nat → Int32) → (Nat → Int32) → (Nat → Int32) → (Nat → Int32) → (Nat → Int32) → (Nat → Int32) → (Nat → Int32) → Prop} (hsu : px_su P xsu) (ht : pg_tok P) (hn : pg_n P ≤ 32) {p : Nat} (hp : p < pg_n P) (hj : pg_j P p ≤ pg_n P)
    (hJ : ∀ r, (∀ x, x < 64 → (bl r x = true ↔ gr_wk (pg_n P) (pg_E P) p (pg_j P p) x)) → J (nI (p + 1)) xo xa xb xc xsu xpd (vp_updL xrg p r) xjn xst xpc xsp xre xme xma xun xta xkp xkm xkj) :
    ∃ n, wX_findRegions_39 post J (nI p) (((1 : Int64) <<< ((nI (pg_j P p)).toInt64 &&& 63)) ^^^ (-1)) xL xC xW xA xP (nI (pg_n P)) xF xR xB xD xo xa xb xc xsu xpd xrg xjn xst xpc xsp xre xme xma xun xta xkp xkm xkj n (xsu p &&& (((1 : Int64) <<< ((nI (pg_j P p)).toInt64 &&& 63)) ^^^ (-1))) 0 0 := by
  have hopen : ∀ x, x < 64 → bl (((1 : Int64) <<< ((nI (pg_j P p)).toInt64 &&& 63)) ^^^ (-1)) x = !decide (x = pg_j P p) := fun x hx => by rw [bl_n _ hx, bl_1 _ (by omega) x hx]
  generalize ((1 : Int64) <<< ((nI (pg_j P p)).toInt64 &&& 63)) ^^^ (-1) = op at hopen
  have hc : (nI p).toNatClampNeg = p := nI_clamp (by omega)
  have hv : vp_in (nI p) 32 := vp_in_nI (by omega) (by omega)
  have e2 : nI (pg_n P) + 2 = nI (pg_n P + 2) := nI_add (pg_n P) 2
  -- seen: sound, holds the successors; done: a part whose successors are seen
  have fin : ∀ S D : Int64, (∀ x, x < 64 → bl S x = true → gr_wk (pg_n P) (pg_E P) p (pg_j P p) x) → (∀ x, x < 64 → pg_E P p x → x ≠ pg_j P p → bl S x = true) → (∀ q x, q < pg_n P → x < 64 → bl D q = true → pg_E P q x → x ≠ pg_j P p → bl S x = true) → S = D → ∀ x, x < 64 → (bl S x = true ↔ gr_wk (pg_n P) (pg_E P) p (pg_j P p) x) := by
    intro S D h1 h2 h3 e x hx
    refine ⟨h1 x hx, fun w => ?_⟩
    exact gr_ind (P := fun s => bl S s = true) (fun s e1 hs => h2 s (by have := pg_El ht p s hp e1; omega) e1 hs) (fun q s _ hq hqn e1 hs => h3 q s hqn (by have := pg_El ht q s hqn e1; omega) (by rw [← e]; exact hq) e1 hs) w
  have main : ∀ d S D k, (∀ x, x < 64 → bl S x = true → gr_wk (pg_n P) (pg_E P) p (pg_j P p) x) → (∀ x, x < 64 → pg_E P p x → x ≠ pg_j P p → bl S x = true) → (∀ q x, q < pg_n P → x < 64 → bl D q = true → pg_E P q x → x ≠ pg_j P p → bl S x = true) → (∀ x, x < 64 → bl D x = true → bl S x = true) → k ≤ cn_c (bl D) (pg_n P + 1) → pg_n P + 1 ≤ d + cn_c (bl D) (pg_n P + 1) → ∀ m, d < m → wX_findRegions_39 post J (nI p) op xL xC xW xA xP (nI (pg_n P)) xF xR xB xD xo xa xb xc xsu xpd xrg xjn xst xpc xsp xre xme xma xun xta xkp xkm xkj m S D (nI k) := by
    intro d
    induction d with
    | zero =>
      intro S D k h1 h2 h3 h4 hk hd m hm
      cases m with
      | zero => omega
      | succ m =>
        have e : S = D := by
          apply bl_ext
          intro x hx
          cases z : bl D x
          · cases y : bl S x
            · rfl
            · exfalso
              have := gr_le (pg_El ht) hp (h1 x hx y)
              have := cn_lt (f := bl D) (g := bl S) (pg_n P + 1) (fun i hi h => h4 i (by omega) h) x (by omega) z y
              have := cn_le (bl S) (pg_n P + 1)
              omega
          · exact h4 x hx z
        refine br_t e ⟨hv, nm_e (nm_r (nI_1 p) ?_)⟩
        rw [hc]
        exact hJ S (fin S D h1 h2 h3 e)
    | succ d ih =>
      intro S D k h1 h2 h3 h4 hk hd m hm
      cases m with
      | zero => omega
      | succ m =>
        refine br_c (fun e => ⟨hv, nm_e (nm_r (nI_1 p) ?_)⟩) (fun ne => ?_)
        · rw [hc]
          exact hJ S (fin S D h1 h2 h3 e)
        · have hle := cn_le (bl D) (pg_n P + 1)
          have ⟨x0, hx0, y0, z0⟩ : ∃ x, x < 64 ∧ bl S x = true ∧ bl D x = false := by
            apply Classical.byContradiction
            intro no
            apply ne
            apply bl_ext
            intro x hx
            cases z : bl D x
            · cases y : bl S x
              · rfl
              · exact absurd ⟨x, hx, y, z⟩ no
            · exact h4 x hx z
          have b0 := gr_le (pg_El ht) hp (h1 x0 hx0 y0)
          have lt := cn_lt (f := bl D) (g := bl S) (pg_n P + 1) (fun i hi h => h4 i (by omega) h) x0 (by omega) z0 y0
          have lS := cn_le (bl S) (pg_n P + 1)
          refine br_f (by rw [e2]; exact nI_ge (by omega) (by omega)) (nm_e (xj_so hsu hn fun r hr => nm_e (nm_r (nI_1 k) (ih _ S (k + 1) ?_ ?_ ?_ ?_ (by omega) (by omega) m (by omega)))))
          · intro x hx hb
            rw [bl_or, bl_and, hopen x hx] at hb
            simp only [Bool.or_eq_true, Bool.and_eq_true, Bool.not_eq_true', decide_eq_false_iff_not] at hb
            rcases hb with hb | ⟨hb, hne⟩
            · exact h1 x hx hb
            · obtain ⟨q, q1, q2, q3⟩ := (hr x hx).mp hb
              rw [bl_and] at q2
              simp only [Bool.and_eq_true] at q2
              exact gr_s (h1 q (by omega) q2.1) q1 q3 hne
          · intro x hx e1 hne
            rw [bl_or, h2 x hx e1 hne]; rfl
          · intro q x hq hx hb e1 hne
            rw [bl_or, bl_and, hopen x hx]
            cases z : bl D q
            · have : bl r x = true := (hr x hx).mpr ⟨q, hq, by rw [bl_and, bl_n _ (by omega), hb, z]; rfl, e1⟩
              rw [this]
              simp [hne]
            · rw [h3 q x hq hx z e1 hne]; rfl
          · intro x hx hb
            rw [bl_or, hb]; rfl
  refine ⟨pg_n P + 2, main (pg_n P + 1) _ 0 0 ?_ ?_ ?_ ?_ (Nat.zero_le _) (by omega) _ (by omega)⟩
  · intro x hx hb
    rw [bl_and, hopen x hx] at hb
    simp only [Bool.and_eq_true, Bool.not_eq_true', decide_eq_false_iff_not] at hb
    exact gr_1 ((hsu p hp x hx).mp hb.1) hb.2
  · intro x hx e1 hne
    rw [bl_and, hopen x hx, (hsu p hp x hx).mpr e1]
    simp [hne]
  · intro q x _ _ hb
    rw [bl_0] at hb
    exact absurd hb (by decide)
  · intro x _ hb
    rw [bl_0] at hb
    exact absurd hb (by decide)
theorem xj_rg {post : SX → Prop} (hsu : px_su P xsu) (ht : pg_tok P) (hn : pg_n P ≤ 32) (hj : ∀ p, p < pg_n P → pg_j P p ≤ pg_n P) (hjn : px_jn P xjn) (hpost : ∀ rg, px_rg P rg → post (xL, xC, xW, xA, xP, nI (pg_n P), xF, xR, xB, xD, xo, xa, xb, xc, xsu, xpd, rg, xjn, xst, xpc, xsp, xre, xme, xma, xun, xta, xkp, xkm, xkj)) :
    wpX_findRegions post (xL, xC, xW, xA, xP, nI (pg_n P), xF, xR, xB, xD, xo, xa, xb, xc, xsu, xpd, xrg, xjn, xst, xpc, xsp, xre, xme, xma, xun, xta, xkp, xkm, xkj) := by
  refine loop_0 (fun n i (s : Nat → Int64) => wX_findRegions_2 post xL xC xW xA xP (nI (pg_n P)) xF xR xB xD n (nI i) xo xa xb xc xsu xpd s xjn xst xpc xsp xre xme xma xun xta xkp xkm xkj) (fun i s => ∀ p, p < i → ∀ x, x < 64 → (bl (s p) x = true ↔ gr_wk (pg_n P) (pg_E P) p (pg_j P p) x)) (pg_n P) xrg (fun p hp => by omega) ?_ ?_
  · intro n s hs
    exact br_t (nI_le (Nat.le_refl _) (by omega)) (hpost s hs)
  · intro n i s hi hs ih
    have hc : (nI i).toNatClampNeg = i := nI_clamp (by omega)
    refine br_f (nI_ge hi (by omega)) ⟨vp_in_nI (by omega) (by omega), nm_e ⟨vp_in_nI (by omega) (by omega), nm_e ?_⟩⟩
    rw [hc, hjn i hi]
    refine xj_rg1 hsu ht hn hi (hj i hi) (fun r hr => ih _ (fun p hp x hx => ?_))
    by_cases e : p = i
    · rw [e, pk_uLs]; exact hr x hx
    · rw [pk_uLn e]; exact hs p (by omega) x hx
/-- q is a SYNC in the region of some lane branch -/
def bd_s (P : pg_P) (q : Nat) : Prop := 20 ≤ pg_o P q ∧ ∃ p, p < pg_n P ∧ (pg_o P p = 16 ∨ pg_o P p = 17) ∧ gr_wk (pg_n P) (pg_E P) p (pg_j P p) q
theorem xj_ps {post : Int32 → Prop} (hx : px_ok P xo xa xb xc) (hn : pg_n P ≤ 32) (ho : ∀ p, p < pg_n P → pg_o P p ≤ 24) (hrg : px_rg P xrg) {e : Nat} (he : e ≤ pg_n P) (hno : ∀ p, p < e → ¬ bd_s P p) (hend : e = pg_n P → post (-1)) (hbad : e < pg_n P → bd_s P e ∧ post (nI e)) :
    wpX_firstPartedSync post (xL, xC, xW, xA, xP, nI (pg_n P), xF, xR, xB, xD, xo, xa, xb, xc, xsu, xpd, xrg, xjn, xst, xpc, xsp, xre, xme, xma, xun, xta, xkp, xkm, xkj) := by
  refine loop_0 (fun n i (r : Int64) => wX_firstPartedSync_4 post xL xC xW xA xP (nI (pg_n P)) xF xR xB xD xo xa xb xc xsu xpd xrg xjn xst xpc xsp xre xme xma xun xta xkp xkm xkj n r (nI i)) (fun i r => ∀ x, x < 64 → (bl r x = true ↔ ∃ p, p < i ∧ (pg_o P p = 16 ∨ pg_o P p = 17) ∧ gr_wk (pg_n P) (pg_E P) p (pg_j P p) x)) (pg_n P) 0 (fun x hx => ⟨fun h => by rw [bl_0] at h; exact absurd h (by decide), fun ⟨q, h, _⟩ => by omega⟩) ?_ ?_
  · intro n r hr
    refine br_t (nI_le (Nat.le_refl _) (by omega)) ?_
    refine loop_0 (fun n i (_ : Unit) => wX_firstPartedSync_51 post r xL xC xW xA xP (nI (pg_n P)) xF xR xB xD xo xa xb xc xsu xpd xrg xjn xst xpc xsp xre xme xma xun xta xkp xkm xkj n (nI i)) (fun _ _ => True) e () trivial ?_ ?_
    · intro n _ _
      rcases Nat.lt_or_ge e (pg_n P) with c | c
      · obtain ⟨⟨b1, b2⟩, hp⟩ := hbad c
        refine br_f (nI_ge c (by omega)) ⟨vp_in_nI (by omega) (by omega), ?_⟩
        rw [nI_clamp (by omega), (hx e c).1]
        have o24 := ho e c
        refine pk_lt (pg_o P e) 20 (fun z => by omega) (fun _ => br_f (fun z => ?_) hp)
        have z2 := (bl_z r (by omega)).mp z
        rw [(hr e (by omega)).mpr b2] at z2
        exact absurd z2 (by decide)
      · exact br_t (nI_le c (by omega)) (hend (by omega))
    · intro n i _ hi _ ih
      have o24 := ho i (by omega)
      refine br_f (nI_ge (by omega) (by omega)) ⟨vp_in_nI (by omega) (by omega), ?_⟩
      rw [nI_clamp (by omega), (hx i (by omega)).1]
      refine pk_lt (pg_o P i) 20 (fun _ => nm_r (nI_1 i) (ih () trivial)) (fun h20 => br_t ?_ (nm_r (nI_1 i) (ih () trivial)))
      refine (bl_z r (by omega)).mpr ?_
      cases z : bl r i
      · rfl
      · exact absurd ⟨h20, (hr i (by omega)).mp z⟩ (hno i hi)
  · intro n i r hi hr ih
    have hc : (nI i).toNatClampNeg = i := nI_clamp (by omega)
    have hv : vp_in (nI i) 32 := vp_in_nI (by omega) (by omega)
    have o24 := ho i (by omega)
    have yes : (pg_o P i = 16 ∨ pg_o P i = 17) → wX_firstPartedSync_34 post (wX_firstPartedSync_4 post xL xC xW xA xP (nI (pg_n P)) xF xR xB xD xo xa xb xc xsu xpd xrg xjn xst xpc xsp xre xme xma xun xta xkp xkm xkj n) r (nI i) xL xC xW xA xP (nI (pg_n P)) xF xR xB xD xo xa xb xc xsu xpd xrg xjn xst xpc xsp xre xme xma xun xta xkp xkm xkj := by
      intro h
      refine ⟨hv, nm_e (nm_r (nI_1 i) (ih _ fun x hx => ?_))⟩
      rw [hc, bl_or, Bool.or_eq_true, hr x hx, hrg i hi x hx]
      constructor
      · intro h'
        rcases h' with ⟨q, q1, q2⟩ | h'
        · exact ⟨q, by omega, q2⟩
        · exact ⟨i, by omega, h, h'⟩
      · intro ⟨q, q1, q2, q3⟩
        by_cases e : q = i
        · rw [e] at q3; exact Or.inr q3
        · exact Or.inl ⟨q, by omega, q2, q3⟩
    refine br_f (nI_ge hi (by omega)) ⟨hv, ?_⟩
    rw [hc, (hx i hi).1]
    refine pk_eq (pg_o P i) 16 (fun z => yes (Or.inl z)) (fun z16 => ⟨hv, pk_eq (pg_o P i) 17 (fun z => yes (Or.inr z)) (fun z17 => nm_r (nI_1 i) (ih r fun x hx => ?_))⟩)
    rw [hr x hx]
    constructor
    · intro ⟨q, q1, q2⟩; exact ⟨q, by omega, q2⟩
    · intro ⟨q, q1, q2, q3⟩
      by_cases e : q = i
      · rw [e] at q2; omega
      · exact ⟨q, by omega, q2, q3⟩
end
end
section
/-! own rows: the class's seal, case by case -/
def pg_sj (P : pg_P) (J : Nat → Nat) : pg_P := (P.1, P.2.1, P.2.2.1, P.2.2.2.1, P.2.2.2.2.1, P.2.2.2.2.2.1, P.2.2.2.2.2.2.1, P.2.2.2.2.2.2.2.1, J)
def rx_R (P : pg_P) (p : Nat) : Prop := gr_wk (pg_n P) (pg_E P) p (pg_n P + 1) (pg_n P)
theorem pg_exJ {P : pg_P} (ht : pg_tok P) (hR : ∀ p, p < pg_n P → rx_R P p) : ∃ J : Nat → Nat, ∀ p, p < pg_n P → J p ≤ pg_n P ∧ gr_jn (pg_n P) (pg_E P) p (J p) := by
  have h : ∀ p, ∃ j, p < pg_n P → j ≤ pg_n P ∧ gr_jn (pg_n P) (pg_E P) p j := by
    intro p
    by_cases c : p < pg_n P
    · obtain ⟨j, hj⟩ := gr_ex (pg_El ht) hR c
      exact ⟨j, fun _ => hj⟩
    · exact ⟨0, fun z => absurd z c⟩
  exact ⟨fun p => (h p).choose, fun p hp => (h p).choose_spec hp⟩
section
variable {P : pg_P} {xL xC xW xA xP xN xF xR xB xD : Int32} {xo xa xb xc : Nat → Int32} {xsu xpd xrg : Nat → Int64} {xjn xst xpc xsp xre xme xma xun xta xkp xkm xkj : Nat → Int32}
theorem xq_0 {post : Int32 → SX → Prop} (h0 : pg_n P = 0) (hp : post (-5) (xL, xC, xW, xA, 0, nI (pg_n P), (-1), xR, xB, xD, xo, xa, xb, xc, xsu, xpd, xrg, xjn, xst, xpc, xsp, xre, xme, xma, xun, xta, xkp, xkm, xkj)) : wpX_seal post (xL, xC, xW, xA, 0, nI (pg_n P), xF, xR, xB, xD, xo, xa, xb, xc, xsu, xpd, xrg, xjn, xst, xpc, xsp, xre, xme, xma, xun, xta, xkp, xkm, xkj) := by
  unfold wpX_seal
  refine br_t rfl (br_f ?_ hp)
  rw [h0]
  decide
theorem xq_1 {post : Int32 → SX → Prop} (hx : px_ok P xo xa xb xc) (hn : pg_n P ≤ 32) (ho : ∀ p, p < pg_n P → pg_o P p ≤ 24) {e : Nat} (he : e < pg_n P) (hb : bd_t P e) (hno : ∀ p, p < e → ¬ bd_t P p) (hp : post (-6) (xL, xC, xW, xA, 0, nI (pg_n P), nI e, xR, xB, xD, xo, xa, xb, xc, xsu, xpd, xrg, xjn, xst, xpc, xsp, xre, xme, xma, xun, xta, xkp, xkm, xkj)) : wpX_seal post (xL, xC, xW, xA, 0, nI (pg_n P), xF, xR, xB, xD, xo, xa, xb, xc, xsu, xpd, xrg, xjn, xst, xpc, xsp, xre, xme, xma, xun, xta, xkp, xkm, xkj) := by
  unfold wpX_seal
  refine br_t rfl (br_t (nI_le (a := 1) (by omega) (by omega)) ?_)
  exact xs_bt hx hn ho (e := e) (by omega) hno (fun z => by omega) (fun _ => ⟨hb, br_f (nI_pos (by omega)) hp⟩)
theorem xq_2 {post : Int32 → SX → Prop} (hx : px_ok P xo xa xb xc) (hn : pg_n P ≤ 32) (ho : ∀ p, p < pg_n P → pg_o P p ≤ 24) (hnb : ∀ p, p < pg_n P → ¬ bd_t P p) {e : Nat} (he : e < pg_n P) (hb : ¬ rx_R P e) (hno : ∀ p, p < e → rx_R P p) (hp : ∀ su, post (-7) (xL, xC, xW, xA, 0, nI (pg_n P), nI e, xR, xB, xD, xo, xa, xb, xc, su, xpd, xrg, xjn, xst, xpc, xsp, xre, xme, xma, xun, xta, xkp, xkm, xkj)) : wpX_seal post (xL, xC, xW, xA, 0, nI (pg_n P), xF, xR, xB, xD, xo, xa, xb, xc, xsu, xpd, xrg, xjn, xst, xpc, xsp, xre, xme, xma, xun, xta, xkp, xkm, xkj) := by
  have ht := px_tok hn hnb
  unfold wpX_seal
  refine br_t rfl (br_t (nI_le (a := 1) (by omega) (by omega)) ?_)
  refine xs_bt hx hn ho (e := pg_n P) (Nat.le_refl _) hnb (fun _ => br_t (by decide) ?_) (fun z => by omega)
  refine xs_be hx hn ho ht (fun su hsu => ?_)
  exact xs_we hsu ht hn (e := e) (by omega) hno (fun z => by omega) (fun _ => ⟨hb, br_f (nI_pos (by omega)) (hp su)⟩)
/-- the common way to the parted SYNC -/
theorem xq_3 {post : Int32 → SX → Prop} (hx : px_ok P xo xa xb xc) (h1 : 1 ≤ pg_n P) (hn : pg_n P ≤ 32) (ho : ∀ p, p < pg_n P → pg_o P p ≤ 24) (hnb : ∀ p, p < pg_n P → ¬ bd_t P p) (hR : ∀ p, p < pg_n P → rx_R P p) (hJ : ∀ p, p < pg_n P → pg_j P p ≤ pg_n P ∧ gr_jn (pg_n P) (pg_E P) p (pg_j P p)) {e : Nat} (he : e ≤ pg_n P) (hno : ∀ p, p < e → ¬ bd_s P p)
    (hend : e = pg_n P → ∀ su pd jn rg, px_jn P jn → px_rg P rg → post 0 (xL, xC, xW, xA, 1, nI (pg_n P), (-1), xR, xB, xD, xo, xa, xb, xc, su, pd, rg, jn, xst, xpc, xsp, xre, xme, xma, xun, xta, xkp, xkm, xkj))
    (hbad : e < pg_n P → bd_s P e ∧ ∀ su pd jn rg, post (-8) (xL, xC, xW, xA, 0, nI (pg_n P), nI e, xR, xB, xD, xo, xa, xb, xc, su, pd, rg, jn, xst, xpc, xsp, xre, xme, xma, xun, xta, xkp, xkm, xkj)) : wpX_seal post (xL, xC, xW, xA, 0, nI (pg_n P), xF, xR, xB, xD, xo, xa, xb, xc, xsu, xpd, xrg, xjn, xst, xpc, xsp, xre, xme, xma, xun, xta, xkp, xkm, xkj) := by
  have ht := px_tok hn hnb
  unfold wpX_seal
  refine br_t rfl (br_t (nI_le (a := 1) (by omega) (by omega)) ?_)
  refine xs_bt hx hn ho (e := pg_n P) (Nat.le_refl _) hnb (fun _ => br_t (by decide) ?_) (fun z => by omega)
  refine xs_be hx hn ho ht (fun su hsu => ?_)
  refine xs_we hsu ht hn (e := pg_n P) (Nat.le_refl _) hR (fun _ => br_t (by decide) ?_) (fun z => by omega)
  refine xd_pd hsu ht hn (fun pd hpd => ?_)
  refine xj_jp hn hR hJ hpd (fun jn hjn => ?_)
  refine xj_rg hsu ht hn (fun p hp => (hJ p hp).1) hjn (fun rg hrg => ?_)
  exact xj_ps hx hn ho hrg (e := e) he hno (fun z => br_t (by decide) (hend z su pd jn rg hjn hrg)) (fun z => ⟨(hbad z).1, br_f (nI_pos (by omega)) ((hbad z).2 su pd jn rg)⟩)
end
end
section
/-! own rows: the reference's walk -/
def py_ok (P : pg_P) (yco : Nat → Int32) : Prop := ∀ p, p < pg_n P → yco (4 * p) = nI (pg_o P p) ∧ yco (4 * p + 1) = nI (pg_a P p) ∧ yco (4 * p + 2) = nI (pg_b P p) ∧ yco (4 * p + 3) = pg_c P p
/-- x is the node xx, or none -/
def yw_x (P : pg_P) (x : Int32) (xx : Nat) : Prop := ∀ s, s ≤ pg_n P → (nI s = x ↔ s = xx)
def yw_01 (P : pg_P) (se : Nat → Int32) : Prop := ∀ j, j ≤ pg_n P → se j = 0 ∨ se j = 1
def yw_m (P : pg_P) (xx q : Nat) (se se' : Nat → Int32) (r : Int32) : Prop :=
  (∀ j, j ≤ pg_n P → (¬ se' j = 0 ↔ (¬ se j = 0 ∨ (pg_E P q j ∧ j ≠ xx)))) ∧ ((r = 0 ∧ se' = se) ∨ (r = 1 ∧ ∃ j, j ≤ pg_n P ∧ se j = 0 ∧ ¬ se' j = 0)) ∧ (yw_01 P se → yw_01 P se')
theorem yw_n1 : vp_nar .boolean 1 = 1 := rfl
theorem yw_n0 : vp_nar .boolean 0 = 0 := rfl
theorem yw_b {r : Int32} (h : r = 0 ∨ r = 1) : narrow .boolean (.int r) = .int r := by rcases h with h | h <;> rw [h] <;> rfl
theorem yw_4 (p : Nat) : 4 * nI p = nI (4 * p) := pk_mul 4 p
theorem yw_4a (p k : Nat) : nI (4 * p) + nI k = nI (4 * p + k) := nI_add _ _
section
variable {P : pg_P} {yL yC yW yA yP yN yF yB : Int32} {yco yjn yse ypd yst ypc ysp yre yun yme yta yma ytr : Nat → Int32}
theorem yw_mark {post : Int32 → SY → Prop} (hn : pg_n P ≤ 32) {s xx : Nat} {x : Int32} (hs : s ≤ pg_n P) (hx : yw_x P x xx) (h0 : (s = xx ∨ ¬ yse s = 0) → post 0 (yL, yC, yW, yA, yP, nI (pg_n P), yF, yB, yco, yjn, yse, ypd, yst, ypc, ysp, yre, yun, yme, yta, yma, ytr)) (h1 : s ≠ xx → yse s = 0 → post 1 (yL, yC, yW, yA, yP, nI (pg_n P), yF, yB, yco, yjn, upd yse s 1, ypd, yst, ypc, ysp, yre, yun, yme, yta, yma, ytr)) :
    wpY_mark post (yL, yC, yW, yA, yP, nI (pg_n P), yF, yB, yco, yjn, yse, ypd, yst, ypc, ysp, yre, yun, yme, yta, yma, ytr) (nI s) x := by
  have hc : (nI s).toNatClampNeg = s := nI_clamp (by omega)
  have hv : vp_in (nI s) 33 := vp_in_nI (by omega) (by omega)
  refine br_f (nI_pos (by omega)) (br_f (nI_nlt (by omega) (by omega)) (br_c (fun z => h0 (Or.inl ((hx s hs).mp z))) (fun z => ⟨hv, ?_⟩)))
  rw [hc]
  exact br_c (fun q => ⟨hv, nm_e (by rw [yw_n1]; exact h1 (fun e => z ((hx s hs).mpr e)) q)⟩) (fun q => h0 (Or.inr q))
/-- a mark as a relation: what the set is behind it -/
theorem yw_mk {post : Int32 → SY → Prop} (hn : pg_n P ≤ 32) {s xx : Nat} {x : Int32} (hs : s ≤ pg_n P) (hx : yw_x P x xx) (h : ∀ r se', (∀ j, j ≤ pg_n P → (¬ se' j = 0 ↔ (¬ yse j = 0 ∨ (j = s ∧ j ≠ xx)))) → ((r = 0 ∧ se' = yse) ∨ (r = 1 ∧ ∃ j, j ≤ pg_n P ∧ yse j = 0 ∧ ¬ se' j = 0)) → (yw_01 P yse → yw_01 P se') → post r (yL, yC, yW, yA, yP, nI (pg_n P), yF, yB, yco, yjn, se', ypd, yst, ypc, ysp, yre, yun, yme, yta, yma, ytr)) :
    wpY_mark post (yL, yC, yW, yA, yP, nI (pg_n P), yF, yB, yco, yjn, yse, ypd, yst, ypc, ysp, yre, yun, yme, yta, yma, ytr) (nI s) x := by
  refine yw_mark hn hs hx (fun c => h 0 yse (fun j hj => ⟨Or.inl, fun z => ?_⟩) (Or.inl ⟨rfl, rfl⟩) id) (fun c1 c2 => h 1 _ (fun j hj => ?_) (Or.inr ⟨rfl, s, hs, c2, ?_⟩) (fun h01 j hj => ?_))
  · rcases z with z | ⟨z1, z2⟩
    · exact z
    · rcases c with c | c
      · exact absurd (z1.trans c) z2
      · rw [z1]; exact c
  · by_cases e : j = s
    · rw [e, pk_us]; exact ⟨fun _ => Or.inr ⟨rfl, c1⟩, fun _ => by decide⟩
    · rw [pk_un e]; exact ⟨Or.inl, fun z => z.elim id (fun z => absurd z.1 e)⟩
  · rw [pk_us]; decide
  · by_cases e : j = s
    · rw [e, pk_us]; exact Or.inr rfl
    · rw [pk_un e]; exact h01 j hj
theorem yw_ma {post : Int32 → SY → Prop} (hy : py_ok P yco) (hn : pg_n P ≤ 32) (ho : ∀ p, p < pg_n P → pg_o P p ≤ 24) (ht : pg_tok P) {q xx : Nat} {x : Int32} (hq : q < pg_n P) (hx : yw_x P x xx) (h : ∀ r se', yw_m P xx q yse se' r → post r (yL, yC, yW, yA, yP, nI (pg_n P), yF, yB, yco, yjn, se', ypd, yst, ypc, ysp, yre, yun, yme, yta, yma, ytr)) :
    wpY_markAfter post (yL, yC, yW, yA, yP, nI (pg_n P), yF, yB, yco, yjn, yse, ypd, yst, ypc, ysp, yre, yun, yme, yta, yma, ytr) (nI q) x := by
  have f1 : yco (nI (4 * q)).toNatClampNeg = nI (pg_o P q) := by rw [nI_clamp (by omega)]; exact (hy q hq).1
  have f2 : yco (nI (4 * q + 3)).toNatClampNeg = pg_c P q := by rw [nI_clamp (by omega)]; exact (hy q hq).2.2.2
  have v1 : vp_in (nI (4 * q)) 128 := vp_in_nI (by omega) (by omega)
  have v2 : vp_in (nI (4 * q + 3)) 128 := vp_in_nI (by omega) (by omega)
  have e3 : nI (4 * q) + 3 = nI (4 * q + 3) := yw_4a q 3
  have o24 := ho q hq
  unfold wpY_markAfter
  simp only [yw_4, e3, v1, v2, f1, f2, not_true_eq_false, not_false_eq_true, false_implies, true_implies, and_true, true_and, forall_eq, forall_const]
  have last : ∀ (se1 : Nat → Int32) (r1 : Int32), 15 ≠ pg_o P q → pg_o P q ≠ 0 → (∀ j, j ≤ pg_n P → (¬ se1 j = 0 ↔ (¬ yse j = 0 ∨ (16 ≤ pg_o P q ∧ pg_o P q ≤ 19 ∧ j = pg_tg P q ∧ j ≠ xx)))) → ((r1 = 0 ∧ se1 = yse) ∨ (r1 = 1 ∧ ∃ j, j ≤ pg_n P ∧ yse j = 0 ∧ ¬ se1 j = 0)) → (yw_01 P yse → yw_01 P se1) → wY_markAfter_59 post (nI q) x (nI (pg_o P q)) r1 yL yC yW yA yP (nI (pg_n P)) yF yB yco yjn se1 ypd yst ypc ysp yre yun yme yta yma ytr := by
    intro se1 r1 n15 n0 s1 s2 s3
    unfold wY_markAfter_59
    refine pk_eq (pg_o P q) 15 (fun z => absurd z.symm n15) (fun _ => ?_)
    rw [nI_1]
    refine yw_mk hn (by omega) hx (fun r2 se2 m1 m2 m3 => ?_)
    have E : ∀ j, j ≤ pg_n P → (¬ se2 j = 0 ↔ (¬ yse j = 0 ∨ (pg_E P q j ∧ j ≠ xx))) := by
      intro j hj
      rw [m1 j hj, s1 j hj]
      unfold pg_E
      constructor
      · intro hh
        rcases hh with (hh | hh) | hh
        · exact Or.inl hh
        · exact Or.inr ⟨Or.inr (Or.inr (Or.inl ⟨hh.1, hh.2.1, Or.inl hh.2.2.1⟩)), hh.2.2.2⟩
        · refine Or.inr ⟨?_, hh.2⟩
          by_cases c : 16 ≤ pg_o P q ∧ pg_o P q ≤ 19
          · exact Or.inr (Or.inr (Or.inl ⟨c.1, c.2, Or.inr hh.1⟩))
          · exact Or.inr (Or.inr (Or.inr ⟨n0, by omega, hh.1⟩))
      · intro hh
        rcases hh with hh | ⟨hh, hne⟩
        · exact Or.inl (Or.inl hh)
        · rcases hh with hh | hh | hh | hh
          · exact absurd hh.1 n0
          · exact absurd hh.1.symm n15
          · rcases hh.2.2 with e | e
            · exact Or.inl (Or.inr ⟨hh.1, hh.2.1, e, hne⟩)
            · exact Or.inr ⟨e, hne⟩
          · exact Or.inr ⟨hh.2.2, hne⟩
    have keep : ∀ j, j ≤ pg_n P → ¬ se1 j = 0 → ¬ se2 j = 0 := fun j hj z => (m1 j hj).mpr (Or.inl z)
    rcases s2 with ⟨a1, a2⟩ | ⟨a1, j1, a2, a3, a4⟩
    · refine br_t a1 ?_
      rcases m2 with ⟨b1, b2⟩ | ⟨b1, j2, b2, b3, b4⟩
      · exact br_t b1 (h 0 se2 ⟨E, Or.inl ⟨rfl, b2.trans a2⟩, fun z => m3 (s3 z)⟩)
      · refine br_f (by rw [b1]; decide) (h 1 se2 ⟨E, Or.inr ⟨rfl, j2, b2, ?_, b4⟩, fun z => m3 (s3 z)⟩)
        rw [← a2]; exact b3
    · refine br_f (by rw [a1]; decide) (h 1 se2 ⟨E, Or.inr ⟨rfl, j1, a2, a3, keep j1 a2 a4⟩, fun z => m3 (s3 z)⟩)
  refine pk_eq (pg_o P q) 0 (fun z => ?_) (fun z0 => ?_)
  · refine yw_mk hn (Nat.le_refl _) hx (fun r se' m1 m2 m3 => ⟨yw_b (by rcases m2 with m | m; exact Or.inl m.1; exact Or.inr m.1), h r se' ⟨fun j hj => ?_, m2, m3⟩⟩)
    rw [m1 j hj]
    unfold pg_E
    constructor
    · intro hh
      rcases hh with hh | hh
      · exact Or.inl hh
      · exact Or.inr ⟨Or.inl ⟨z, hh.1⟩, hh.2⟩
    · intro hh
      rcases hh with hh | ⟨hh, hne⟩
      · exact Or.inl hh
      · refine Or.inr ⟨?_, hne⟩
        omega
  · refine pk_lt (pg_o P q) 15 (fun z => ?_) (fun z15 => pk_lt 19 (pg_o P q) (fun z => ?_) (fun z19 => ?_))
    · exact last yse 0 (by omega) z0 (fun j hj => ⟨Or.inl, fun hh => hh.elim id (fun hh => by omega)⟩) (Or.inl ⟨rfl, rfl⟩) id
    · exact last yse 0 (by omega) z0 (fun j hj => ⟨Or.inl, fun hh => hh.elim id (fun hh => by omega)⟩) (Or.inl ⟨rfl, rfl⟩) id
    · obtain ⟨t1, t2⟩ := ht q hq z15 z19
      rw [t1]
      refine yw_mk hn t2 hx (fun r se' m1 m2 m3 => ?_)
      by_cases e15 : pg_o P q = 15
      · unfold wY_markAfter_59
        refine pk_eq (pg_o P q) 15 (fun _ => ⟨yw_b (by rcases m2 with m | m; exact Or.inl m.1; exact Or.inr m.1), h r se' ⟨fun j hj => ?_, m2, m3⟩⟩) (fun z => absurd e15 z)
        rw [m1 j hj]
        unfold pg_E
        constructor
        · intro hh
          rcases hh with hh | hh
          · exact Or.inl hh
          · exact Or.inr ⟨Or.inr (Or.inl ⟨e15, hh.1⟩), hh.2⟩
        · intro hh
          rcases hh with hh | ⟨hh, hne⟩
          · exact Or.inl hh
          · refine Or.inr ⟨?_, hne⟩
            omega
      · refine last se' r (fun z => e15 z.symm) z0 (fun j hj => ?_) m2 m3
        rw [m1 j hj]
        constructor
        · intro hh
          rcases hh with hh | hh
          · exact Or.inl hh
          · exact Or.inr ⟨by omega, z19, hh.1, hh.2⟩
        · intro hh
          rcases hh with hh | hh
          · exact Or.inl hh
          · exact Or.inr ⟨hh.2.2.1, hh.2.2.2⟩
/-! the passes -/
def yw_f (se : Nat → Int32) : Nat → Bool := fun j => !decide (se j = 0)
theorem yw_ft {se : Nat → Int32} {j : Nat} : yw_f se j = true ↔ ¬ se j = 0 := by unfold yw_f; simp
theorem yw_ff {se : Nat → Int32} {j : Nat} : yw_f se j = false ↔ se j = 0 := by unfold yw_f; simp
def yw_so (P : pg_P) (p xx : Nat) (se : Nat → Int32) : Prop := yw_01 P se ∧ (∀ j, j ≤ pg_n P → ¬ se j = 0 → gr_wk (pg_n P) (pg_E P) p xx j) ∧ (∀ j, j ≤ pg_n P → pg_E P p j → j ≠ xx → ¬ se j = 0)
def yw_cl (P : pg_P) (xx : Nat) (se : Nat → Int32) (q : Nat) : Prop := ¬ se q = 0 → ∀ j, pg_E P q j → j ≠ xx → ¬ se j = 0
theorem yw_pass {post : SY → Prop} {J : Int32 → Int32 → Int32 → Int32 → Int32 → Int32 → Int32 → Int32 → Int32 → Int32 → (Nat → Int32) → (Nat → Int32) → (Nat → Int32) → (Nat → Int32) → (Nat → Int32) → (Nat → Int32) → (Nat → Int32) → (Nat → Int32) → (Nat → Int32) → (Nat → Int32) → (Nat → Int32) → (Nat → Int32) → (Nat → Int32) → Prop} (hy : py_ok P yco) (hn : pg_n P ≤ 32) (ho : ∀ p, p < pg_n P → pg_o P p ≤ 24) (ht : pg_tok P) {p xx : Nat} {x k : Int32} (hx : yw_x P x xx) (h0 : yw_so P p xx yse)
    (hJ1 : (∀ q, q < pg_n P → yw_cl P xx yse q) → J 0 (k + 1) yL yC yW yA yP (nI (pg_n P)) yF yB yco yjn yse ypd yst ypc ysp yre yun yme yta yma ytr) (hJ2 : ∀ se, yw_so P p xx se → (∀ j, j ≤ pg_n P → ¬ yse j = 0 → ¬ se j = 0) → (∃ j, j ≤ pg_n P ∧ yse j = 0 ∧ ¬ se j = 0) → J 1 (k + 1) yL yC yW yA yP (nI (pg_n P)) yF yB yco yjn se ypd yst ypc ysp yre yun yme yta yma ytr) :
    ∃ n, wY_walk_47 post J x k n 0 0 yL yC yW yA yP (nI (pg_n P)) yF yB yco yjn yse ypd yst ypc ysp yre yun yme yta yma ytr := by
  refine loop_0 (fun n i (s : Int32 × (Nat → Int32)) => wY_walk_47 post J x k n s.1 (nI i) yL yC yW yA yP (nI (pg_n P)) yF yB yco yjn s.2 ypd yst ypc ysp yre yun yme yta yma ytr) (fun i s => yw_so P p xx s.2 ∧ ((s.1 = 0 ∧ s.2 = yse ∧ ∀ q, q < i → yw_cl P xx yse q) ∨ (s.1 = 1 ∧ (∀ j, j ≤ pg_n P → ¬ yse j = 0 → ¬ s.2 j = 0) ∧ ∃ j, j ≤ pg_n P ∧ yse j = 0 ∧ ¬ s.2 j = 0))) (pg_n P) (0, yse) ⟨h0, Or.inl ⟨rfl, rfl, fun q hq => by omega⟩⟩ ?_ ?_
  · intro n s ⟨h1, h2⟩
    refine br_t (nI_le (Nat.le_refl _) (by omega)) (nm_e ?_)
    rcases h2 with ⟨e1, e2, e3⟩ | ⟨e1, e2, e3⟩
    · rw [e1, e2]; exact hJ1 e3
    · rw [e1]; exact hJ2 _ h1 e2 e3
  · intro n i s hi ⟨h1, h2⟩ ih
    obtain ⟨fl, se⟩ := s
    dsimp only at h1 h2 ih ⊢
    have hc : (nI i).toNatClampNeg = i := nI_clamp (by omega)
    refine br_f (nI_ge hi (by omega)) ⟨vp_in_nI (by omega) (by omega), ?_⟩
    rw [hc]
    refine br_c (fun z => nm_r (nI_1 i) (ih (fl, se) ⟨h1, ?_⟩)) (fun z => ?_)
    · rcases h2 with ⟨e1, e2, e3⟩ | e
      · refine Or.inl ⟨e1, e2, fun q hq => ?_⟩
        by_cases e : q = i
        · rw [e, ← e2]; exact fun w => absurd z w
        · exact e3 q (by omega)
      · exact Or.inr e
    · refine yw_ma hy hn ho ht hi hx (fun r se' m => ?_)
      have so : yw_so P p xx se' := by
        refine ⟨m.2.2 h1.1, fun j hj hb => ?_, fun j hj e hne => ?_⟩
        · rcases (m.1 j hj).mp hb with w | w
          · exact h1.2.1 j hj w
          · exact gr_s (h1.2.1 i (by omega) z) hi w.1 w.2
        · exact (m.1 j hj).mpr (Or.inl (h1.2.2 j hj e hne))
      rcases m.2.1 with ⟨r1, r2⟩ | ⟨r1, r2⟩
      · refine br_t r1 (nm_r (nI_1 i) (ih (fl, se') ⟨so, ?_⟩))
        rcases h2 with ⟨e1, e2, e3⟩ | e
        · refine Or.inl ⟨e1, r2.trans e2, fun q hq => ?_⟩
          by_cases e : q = i
          · rw [e, ← e2]
            intro w j ej hne
            have hjn := pg_El ht i j hi ej
            have := (m.1 j hjn).mpr (Or.inr ⟨ej, hne⟩)
            rw [r2] at this
            exact this
          · exact e3 q (by omega)
        · rw [r2]; exact Or.inr e
      · refine br_f (by rw [r1]; decide) (nm_r (nI_1 i) (ih (1, se') ⟨so, Or.inr ⟨rfl, ?_, ?_⟩⟩))
        · intro j hj hb
          refine (m.1 j hj).mpr (Or.inl ?_)
          rcases h2 with ⟨_, e2, _⟩ | ⟨_, e2, _⟩
          · rw [e2]; exact hb
          · exact e2 j hj hb
        · rcases h2 with ⟨_, e2, _⟩ | ⟨_, e2, j, j1, j2, j3⟩
          · obtain ⟨j, j1, j2, j3⟩ := r2
            rw [e2] at j2
            exact ⟨j, j1, j2, j3⟩
          · exact ⟨j, j1, j2, (m.1 j j1).mpr (Or.inl j3)⟩
end
end
section
/-! own rows: the reference's walk whole; its post-dominators and join points -/
def yw_w (P : pg_P) (p xx : Nat) (se : Nat → Int32) : Prop := yw_01 P se ∧ ∀ j, j ≤ pg_n P → (¬ se j = 0 ↔ gr_wk (pg_n P) (pg_E P) p xx j)
theorem yw_xn {P : pg_P} (hn : pg_n P ≤ 32) {x : Nat} (hx : x ≤ pg_n P) : yw_x P (nI x) x := fun s hs => nI_eq (by omega) (by omega)
theorem yw_xm {P : pg_P} (hn : pg_n P ≤ 32) : yw_x P (-1) (pg_n P + 1) := by
  intro s hs
  refine ⟨fun e => ?_, fun e => by omega⟩
  have := nI_pos (n := s) (by omega)
  rw [e] at this
  exact absurd (by decide) this
section
variable {P : pg_P} {yL yC yW yA yP yN yF yB : Int32} {yco yjn yse ypd yst ypc ysp yre yun yme yta yma ytr : Nat → Int32}
theorem yw_walk {post : SY → Prop} (hy : py_ok P yco) (hn : pg_n P ≤ 32) (ho : ∀ p, p < pg_n P → pg_o P p ≤ 24) (ht : pg_tok P) {p xx : Nat} {x : Int32} (hp : p < pg_n P) (hx : yw_x P x xx) (h : ∀ se, yw_w P p xx se → post (yL, yC, yW, yA, yP, nI (pg_n P), yF, yB, yco, yjn, se, ypd, yst, ypc, ysp, yre, yun, yme, yta, yma, ytr)) :
    wpY_walk post (yL, yC, yW, yA, yP, nI (pg_n P), yF, yB, yco, yjn, yse, ypd, yst, ypc, ysp, yre, yun, yme, yta, yma, ytr) (nI p) x := by
  have clo : ∀ se, yw_so P p xx se → (∀ q, q < pg_n P → yw_cl P xx se q) → yw_w P p xx se := by
    intro se h1 h2
    refine ⟨h1.1, fun j hj => ⟨h1.2.1 j hj, fun w => ?_⟩⟩
    exact gr_ind (P := fun s => ¬ se s = 0) (fun s e hs => h1.2.2 s (pg_El ht p s hp e) e hs) (fun q s _ hq hqn e hs => h2 q hqn hq s e hs) w
  have done : ∀ se k m, 0 < m → yw_so P p xx se → (∀ q, q < pg_n P → yw_cl P xx se q) → wY_walk_31 post x m 0 k yL yC yW yA yP (nI (pg_n P)) yF yB yco yjn se ypd yst ypc ysp yre yun yme yta yma ytr := by
    intro se k m hm h1 h2
    cases m with
    | zero => omega
    | succ m => exact br_t rfl (h se (clo se h1 h2))
  have main : ∀ d se k, yw_so P p xx se → pg_n P + 1 ≤ d + cn_c (yw_f se) (pg_n P + 1) → k + 1 ≤ cn_c (yw_f se) (pg_n P + 1) → ∀ m, d + 1 < m → wY_walk_31 post x m 1 (nI k) yL yC yW yA yP (nI (pg_n P)) yF yB yco yjn se ypd yst ypc ysp yre yun yme yta yma ytr := by
    intro d
    induction d with
    | zero =>
      intro se k h1 hd hk m hm
      cases m with
      | zero => omega
      | succ m =>
        have hle := cn_le (yw_f se) (pg_n P + 1)
        refine br_f (by decide) (br_f (nI_nlt (a := 32) (by omega) (by omega)) (yw_pass hy hn ho ht hx h1 (fun hc => done se _ m (by omega) h1 hc) (fun se' q1 q2 ⟨j, j1, j2, j3⟩ => ?_)))
        have := cn_lt (f := yw_f se) (g := yw_f se') (pg_n P + 1) (fun i hi hb => yw_ft.mpr (q2 i (by omega) (yw_ft.mp hb))) j (by omega) (yw_ff.mpr j2) (yw_ft.mpr j3)
        have := cn_le (yw_f se') (pg_n P + 1)
        omega
    | succ d ih =>
      intro se k h1 hd hk m hm
      cases m with
      | zero => omega
      | succ m =>
        have hle := cn_le (yw_f se) (pg_n P + 1)
        refine br_f (by decide) (br_f (nI_nlt (a := 32) (by omega) (by omega)) (yw_pass hy hn ho ht hx h1 (fun hc => done se _ m (by omega) h1 hc) (fun se' q1 q2 ⟨j, j1, j2, j3⟩ => ?_)))
        have := cn_lt (f := yw_f se) (g := yw_f se') (pg_n P + 1) (fun i hi hb => yw_ft.mpr (q2 i (by omega) (yw_ft.mp hb))) j (by omega) (yw_ff.mpr j2) (yw_ft.mpr j3)
        rw [nI_1]
        exact ih se' (k + 1) q1 (by omega) (by omega) m (by omega)
  refine loop_0 (fun n i (s : Nat → Int32) => wY_walk_2 post (nI p) x yL yC yW yA yP (nI (pg_n P)) yF yB n (nI i) yco yjn s ypd yst ypc ysp yre yun yme yta yma ytr) (fun i s => ∀ j, j < i → s j = 0) 33 yse (fun j hj => by omega) ?_ ?_
  · intro n s hs
    refine br_t (by decide) ?_
    refine yw_ma hy hn ho ht hp hx (fun r se' m => ?_)
    have so : yw_so P p xx se' := by
      refine ⟨m.2.2 (fun j hj => Or.inl (hs j (by omega))), fun j hj hb => ?_, fun j hj e hne => (m.1 j hj).mpr (Or.inr ⟨e, hne⟩)⟩
      rcases (m.1 j hj).mp hb with w | w
      · exact absurd (hs j (by omega)) w
      · exact gr_1 w.1 w.2
    rcases m.2.1 with ⟨r1, r2⟩ | ⟨r1, j, j1, j2, j3⟩
    · rw [r1]
      exact ⟨1, done se' 0 1 (by omega) so (fun q hq hb => absurd (by rw [r2]; exact hs q (by omega)) hb)⟩
    · rw [r1]
      have := cn_pos (f := yw_f se') (n := pg_n P + 1) (i := j) (by omega) (yw_ft.mpr j3)
      exact ⟨pg_n P + 4, main (pg_n P + 1) se' 0 so (by omega) (by omega) _ (by omega)⟩
  · intro n i s hi hs ih
    refine br_f (nI_nlt (a := 32) (by omega) (by omega)) ⟨vp_in_nI hi (by omega), nm_e (nm_r (nI_1 i) (ih _ (fun j hj => ?_)))⟩
    rw [nI_clamp (by omega), yw_n0]
    by_cases e : j = i
    · rw [e, pk_us]
    · rw [pk_un e]; exact hs j (by omega)
/-! post-dominators -/
def py_pd (P : pg_P) (pd : Nat → Int32) : Prop := ∀ x p, x ≤ pg_n P → p ≤ pg_n P → (¬ pd (33 * x + p) = 0 ↔ gr_pd (pg_n P) (pg_E P) x p)
def py_jn (P : pg_P) (jn : Nat → Int32) : Prop := ∀ p, p < pg_n P → jn p = nI (pg_j P p)
theorem yj_33 (x p : Nat) : 33 * nI x + nI p = nI (33 * x + p) := by rw [show (33 : Int32) = nI 33 from rfl, pk_mul, nI_add]
theorem yj_39 {post : SY → Prop} {J2 J12 : Int32 → Int32 → Int32 → Int32 → Int32 → Int32 → Int32 → Int32 → Int32 → (Nat → Int32) → (Nat → Int32) → (Nat → Int32) → (Nat → Int32) → (Nat → Int32) → (Nat → Int32) → (Nat → Int32) → (Nat → Int32) → (Nat → Int32) → (Nat → Int32) → (Nat → Int32) → (Nat → Int32) → (Nat → Int32) → Prop} (hn : pg_n P ≤ 32) {p x : Nat} (hp : p ≤ pg_n P) (hx : x ≤ pg_n P) (hse : p < pg_n P → x ≠ p → (¬ yse (pg_n P) = 0 ↔ gr_wk (pg_n P) (pg_E P) p x (pg_n P)))
    (h : ∀ v, (¬ v = 0 ↔ gr_pd (pg_n P) (pg_E P) x p) → J12 (nI (x + 1)) yL yC yW yA yP (nI (pg_n P)) yF yB yco yjn yse (upd ypd (33 * x + p) v) yst ypc ysp yre yun yme yta yma ytr) : wY_findJoins_39 post J2 J12 (nI p) (nI x) yL yC yW yA yP (nI (pg_n P)) yF yB yco yjn yse ypd yst ypc ysp yre yun yme yta yma ytr := by
  have hv : vp_in (nI (33 * x + p)) 1089 := vp_in_nI (by omega) (by omega)
  have hc : (nI (33 * x + p)).toNatClampNeg = 33 * x + p := nI_clamp (by omega)
  have hv2 : vp_in (nI (pg_n P)) 33 := vp_in_nI (by omega) (by omega)
  have hc2 : (nI (pg_n P)).toNatClampNeg = pg_n P := nI_clamp (by omega)
  unfold wY_findJoins_39
  simp only [yj_33, hv, hc, hv2, hc2, yw_n1, yw_n0, nI_1, not_true_eq_false, not_false_eq_true, false_implies, true_implies, and_true, true_and, forall_eq, forall_const]
  refine pk_eq x p (fun z => ?_) (fun z => pk_le (pg_n P) p (fun c => ?_) (fun c => ?_))
  · exact h 1 ⟨fun _ => Or.inl z, fun _ => by decide⟩
  · refine h 0 ⟨fun w => absurd rfl w, fun w => ?_⟩
    rcases w with w | w
    · exact absurd w z
    · omega
  · have s := hse c z
    refine br_c (fun q => h 1 ⟨fun _ => Or.inr ⟨c, fun w => s.mpr w q⟩, fun _ => by decide⟩) (fun q => h 0 ⟨fun w => absurd rfl w, fun w => ?_⟩)
    rcases w with w | w
    · exact absurd w z
    · exact absurd (s.mp q) w.2
theorem yj_pd {post : SY → Prop} (hy : py_ok P yco) (hn : pg_n P ≤ 32) (ho : ∀ p, p < pg_n P → pg_o P p ≤ 24) (ht : pg_tok P) (h : ∀ se pd, py_pd P pd → ∃ n, wY_findJoins_94 post yL yC yW yA yP (nI (pg_n P)) yF yB n 0 yco yjn se pd yst ypc ysp yre yun yme yta yma ytr) :
    wpY_findJoins post (yL, yC, yW, yA, yP, nI (pg_n P), yF, yB, yco, yjn, yse, ypd, yst, ypc, ysp, yre, yun, yme, yta, yma, ytr) := by
  refine loop_0 (fun n i (s : (Nat → Int32) × (Nat → Int32)) => wY_findJoins_2 post n (nI i) yL yC yW yA yP (nI (pg_n P)) yF yB yco yjn s.1 s.2 yst ypc ysp yre yun yme yta yma ytr) (fun i s => i ≤ pg_n P + 1 ∧ ∀ p x, p < i → x ≤ pg_n P → (¬ s.2 (33 * x + p) = 0 ↔ gr_pd (pg_n P) (pg_E P) x p)) (pg_n P + 1) (yse, ypd) ⟨by omega, fun p x hp => by omega⟩ ?_ ?_
  · intro n s ⟨_, hs⟩
    exact br_t (nI_lt (by omega) (by omega)) (h s.1 s.2 (fun x p hx hp => hs p x (by omega) hx))
  · intro n i s hi ⟨_, hs⟩ ih
    refine br_f (nI_nlt (by omega) (by omega)) ?_
    refine loop_0 (fun m j (q : (Nat → Int32) × (Nat → Int32)) => wY_findJoins_12 post (wY_findJoins_2 post n) (nI i) m (nI j) yL yC yW yA yP (nI (pg_n P)) yF yB yco yjn q.1 q.2 yst ypc ysp yre yun yme yta yma ytr) (fun j q => j ≤ pg_n P + 1 ∧ (∀ p x, p < i → x ≤ pg_n P → (¬ q.2 (33 * x + p) = 0 ↔ gr_pd (pg_n P) (pg_E P) x p)) ∧ ∀ x, x < j → (¬ q.2 (33 * x + i) = 0 ↔ gr_pd (pg_n P) (pg_E P) x i)) (pg_n P + 1) s ⟨by omega, hs, fun x hx => by omega⟩ ?_ ?_
    · intro m q ⟨_, h1, h2⟩
      refine br_t (nI_lt (by omega) (by omega)) (nm_r (nI_1 i) (ih q ⟨by omega, fun p x hp hx => ?_⟩))
      by_cases e : p = i
      · rw [e]; exact h2 x (by omega)
      · exact h1 p x (by omega) hx
    · intro m j q hj ⟨_, h1, h2⟩ ih2
      obtain ⟨se, pd⟩ := q
      dsimp only at h1 h2 ih2 ⊢
      refine br_f (nI_nlt (by omega) (by omega)) ?_
      have put : ∀ se', ∀ v, (¬ v = 0 ↔ gr_pd (pg_n P) (pg_E P) j i) → wY_findJoins_12 post (wY_findJoins_2 post n) (nI i) m (nI (j + 1)) yL yC yW yA yP (nI (pg_n P)) yF yB yco yjn se' (upd pd (33 * j + i) v) yst ypc ysp yre yun yme yta yma ytr := by
        intro se' v hv
        refine ih2 (se', upd pd (33 * j + i) v) ⟨by omega, fun p x hp hx => ?_, fun x hx => ?_⟩
        · dsimp only
          rw [pk_un (by omega)]; exact h1 p x hp hx
        · dsimp only
          by_cases e : x = j
          · rw [e, pk_us]; exact hv
          · rw [pk_un (by omega)]; exact h2 x (by omega)
      refine pk_le (pg_n P) i (fun c => ?_) (fun c => pk_eq j i (fun z => ?_) (fun z => ?_))
      · exact yj_39 hn (by omega) (by omega) (fun w => by omega) (fun v hv => put se v hv)
      · exact yj_39 hn (by omega) (by omega) (fun _ w => absurd z w) (fun v hv => put se v hv)
      · exact yw_walk hy hn ho ht c (yw_xn hn (by omega)) (fun se' hw => yj_39 hn (by omega) (by omega) (fun _ _ => hw.2 (pg_n P) (Nat.le_refl _)) (fun v hv => put se' v hv))
theorem gr_big {n : Nat} {E : Nat → Nat → Prop} (hE : ∀ q s, q < n → E q s → s ≤ n) (hR : ∀ p, p < n → gr_wk n E p (n + 1) n) {p y : Nat} (hp : p < n) (hy : n < y) : gr_wk n E p y n :=
  gr_ind (P := fun s => gr_wk n E p y s) (fun s e _ => gr_1 e (by have := hE p s hp e; omega)) (fun q s _ hq hqn e _ => gr_s hq hqn e (by have := hE q s hqn e; omega)) (hR p hp)
theorem yj_is {post : Int32 → Prop} (hn : pg_n P ≤ 32) (ht : pg_tok P) (hR : ∀ p, p < pg_n P → rx_R P p) (hpd : py_pd P ypd) {p x : Nat} (hp : p < pg_n P) (hx : x ≤ pg_n P) (hxp : x ≠ p) (h1 : gr_jn (pg_n P) (pg_E P) p x → post 1) (h0 : ¬ gr_jn (pg_n P) (pg_E P) p x → post 0) :
    wpY_isJoin post (yL, yC, yW, yA, yP, nI (pg_n P), yF, yB, yco, yjn, yse, ypd, yst, ypc, ysp, yre, yun, yme, yta, yma, ytr) (nI x) (nI p) := by
  have hv : ∀ y q, y ≤ pg_n P → q ≤ pg_n P → vp_in (nI (33 * y + q)) 1089 := fun y q hy hq => vp_in_nI (by omega) (by omega)
  have hc : ∀ y q, y ≤ pg_n P → q ≤ pg_n P → (nI (33 * y + q)).toNatClampNeg = 33 * y + q := fun y q hy hq => nI_clamp (by omega)
  unfold wpY_isJoin
  simp only [yj_33, hv x p hx (by omega), hc x p hx (by omega), not_true_eq_false, not_false_eq_true, false_implies, true_implies, and_true, true_and, forall_eq, forall_const]
  refine br_c (fun z => h0 (fun j => (hpd x p hx (by omega)).mpr j.2.1 z)) (fun z => ?_)
  have pxp := (hpd x p hx (by omega)).mp z
  have go : ∀ e, e ≤ pg_n P + 1 → (∀ y, y < e → y ≠ p → gr_pd (pg_n P) (pg_E P) y p → gr_pd (pg_n P) (pg_E P) y x) → (e = pg_n P + 1 → post 1) → (e ≤ pg_n P → (e ≠ p ∧ gr_pd (pg_n P) (pg_E P) e p ∧ ¬ gr_pd (pg_n P) (pg_E P) e x) ∧ post 0) → ∃ n, wY_isJoin_18 post (nI x) (nI p) yL yC yW yA yP (nI (pg_n P)) yF yB yco yjn yse ypd yst ypc ysp yre yun yme yta yma ytr n 0 := by
    intro e he hno hend hbad
    refine loop_0 (fun n i (_ : Unit) => wY_isJoin_18 post (nI x) (nI p) yL yC yW yA yP (nI (pg_n P)) yF yB yco yjn yse ypd yst ypc ysp yre yun yme yta yma ytr n (nI i)) (fun _ _ => True) e () trivial ?_ ?_
    · intro n _ _
      rcases Nat.lt_or_ge (pg_n P) e with c | c
      · exact br_t (nI_lt c (by omega)) (hend (by omega))
      · obtain ⟨⟨b1, b2, b3⟩, hp0⟩ := hbad c
        simp only [wY_isJoin_18, yj_33, hv e p c (by omega), hc e p c (by omega), hv e x c hx, hc e x c hx, not_true_eq_false, not_false_eq_true, false_implies, true_implies, and_true, true_and, forall_eq, forall_const]
        refine br_f (nI_nlt (by omega) (by omega)) (br_f (fun w => b1 ((nI_eq (by omega) (by omega)).mp w)) (br_f ((hpd e p c (by omega)).mpr b2) (br_t ?_ hp0)))
        apply Classical.byContradiction
        intro w
        exact b3 ((hpd e x c hx).mp w)
    · intro n i _ hi _ ih
      have c : i ≤ pg_n P := by omega
      simp only [wY_isJoin_18, yj_33, hv i p c (by omega), hc i p c (by omega), hv i x c hx, hc i x c hx, nI_1, not_true_eq_false, not_false_eq_true, false_implies, true_implies, and_true, true_and, forall_eq, forall_const]
      have ih' := ih () trivial
      refine br_f (nI_nlt (by omega) (by omega)) (pk_eq i p (fun _ => ih') (fun w => br_c (fun _ => ih') (fun q => br_f ?_ ih')))
      exact (hpd i x c hx).mpr (hno i hi w ((hpd i p c (by omega)).mp q))
  by_cases bad : ∃ y, y ≤ pg_n P ∧ y ≠ p ∧ gr_pd (pg_n P) (pg_E P) y p ∧ ¬ gr_pd (pg_n P) (pg_E P) y x
  · obtain ⟨e, he, hm⟩ := pk_least _ bad
    refine go e (by omega) (fun y hy hyp hpy => ?_) (fun w => by omega) (fun _ => ⟨he.2, h0 (fun j => he.2.2.2 (j.2.2 e he.2.1 he.2.2.1))⟩)
    apply Classical.byContradiction
    intro w
    exact hm y hy ⟨by omega, hyp, hpy, w⟩
  · refine go (pg_n P + 1) (Nat.le_refl _) (fun y hy hyp hpy => ?_) (fun _ => h1 ⟨hxp, pxp, fun y hyp hpy => ?_⟩) (fun w => by omega)
    · apply Classical.byContradiction
      intro w
      exact bad ⟨y, by omega, hyp, hpy, w⟩
    · rcases Nat.lt_or_ge (pg_n P) y with c | c
      · rcases hpy with w | w
        · exact absurd w hyp
        · exact absurd (gr_big (pg_El ht) hR hp c) w.2
      · apply Classical.byContradiction
        intro w
        exact bad ⟨y, c, hyp, hpy, w⟩
theorem yj_jn {post : SY → Prop} (hn : pg_n P ≤ 32) (ht : pg_tok P) (hR : ∀ p, p < pg_n P → rx_R P p) (hJ : ∀ p, p < pg_n P → pg_j P p ≤ pg_n P ∧ gr_jn (pg_n P) (pg_E P) p (pg_j P p)) (hpd : py_pd P ypd) (h : ∀ jn, py_jn P jn → post (yL, yC, yW, yA, yP, nI (pg_n P), yF, yB, yco, jn, yse, ypd, yst, ypc, ysp, yre, yun, yme, yta, yma, ytr)) :
    ∃ n, wY_findJoins_94 post yL yC yW yA yP (nI (pg_n P)) yF yB n 0 yco yjn yse ypd yst ypc ysp yre yun yme yta yma ytr := by
  refine loop_0 (fun n i (s : Nat → Int32) => wY_findJoins_94 post yL yC yW yA yP (nI (pg_n P)) yF yB n (nI i) yco s yse ypd yst ypc ysp yre yun yme yta yma ytr) (fun i s => ∀ p, p < i → s p = nI (pg_j P p)) (pg_n P) yjn (fun p hp => by omega) ?_ ?_
  · intro n s hs
    exact br_t (nI_le (Nat.le_refl _) (by omega)) (h s hs)
  · intro n i s hi hs ih
    have hc : (nI i).toNatClampNeg = i := nI_clamp (by omega)
    refine br_f (nI_ge hi (by omega)) ⟨vp_in_nI (by omega) (by omega), nm_e ?_⟩
    rw [hc]
    refine loop_0 (fun n' x (s' : Nat → Int32) => wY_findJoins_111 post (wY_findJoins_94 post yL yC yW yA yP (nI (pg_n P)) yF yB n) (nI i) yL yC yW yA yP (nI (pg_n P)) yF yB n' (nI x) yco s' yse ypd yst ypc ysp yre yun yme yta yma ytr) (fun x s' => x ≤ pg_n P + 1 ∧ (∀ p, p < i → s' p = nI (pg_j P p)) ∧ (pg_j P i < x → s' i = nI (pg_j P i))) (pg_n P + 1) _ ⟨by omega, fun p hp => by rw [pk_un (by omega)]; exact hs p hp, fun z => by omega⟩ ?_ ?_
    · intro n' s' ⟨_, h1, h2⟩
      refine br_t (nI_lt (by omega) (by omega)) (nm_r (nI_1 i) (ih s' (fun p hp => ?_)))
      by_cases e : p = i
      · rw [e]; exact h2 (by have := (hJ i hi).1; omega)
      · exact h1 p (by omega)
    · intro n' x s' hx ⟨_, h1, h2⟩ ih2
      have skip : x ≠ pg_j P i → wY_findJoins_111 post (wY_findJoins_94 post yL yC yW yA yP (nI (pg_n P)) yF yB n) (nI i) yL yC yW yA yP (nI (pg_n P)) yF yB n' (nI (x + 1)) yco s' yse ypd yst ypc ysp yre yun yme yta yma ytr := fun ne => ih2 s' ⟨by omega, h1, fun q => h2 (by omega)⟩
      refine br_f (nI_nlt (by omega) (by omega)) (pk_eq x i (fun z => nm_r (nI_1 x) (skip (fun e => (hJ i hi).2.1 (e.symm.trans z)))) (fun z => ?_))
      refine yj_is hn ht hR hpd hi (by omega) z (fun g => ?_) (fun g => br_t rfl (nm_r (nI_1 x) (skip (fun e => g (by rw [e]; exact (hJ i hi).2)))))
      refine br_f (by decide) ⟨vp_in_nI (by omega) (by omega), nm_e (nm_r (nI_1 x) (ih2 _ ⟨by omega, fun p hp => ?_, fun _ => ?_⟩))⟩
      · rw [hc, pk_un (by omega)]; exact h1 p hp
      · rw [hc, pk_us, gr_uq hR g (hJ i hi).2]
end
end
section
/-! own rows: the reference's seal, case by case -/
section
variable {P : pg_P} {yL yC yW yA yP yN yF yB : Int32} {yco yjn yse ypd yst ypc ysp yre yun yme yta yma ytr : Nat → Int32}
theorem yq_27 {post : Int32 → SY → Prop} (hy : py_ok P yco) (hn : pg_n P ≤ 32) (ho : ∀ p, p < pg_n P → pg_o P p ≤ 24) {e : Nat} (he : e ≤ pg_n P) (hno : ∀ p, p < e → ¬ bd_t P p) (hend : e = pg_n P → ∃ n, wY_seal_95 post n 0 yL yC yW yA yP (nI (pg_n P)) yF yB yco yjn yse ypd yst ypc ysp yre yun yme yta yma ytr) (hbad : e < pg_n P → bd_t P e ∧ post (-6) (yL, yC, yW, yA, yP, nI (pg_n P), nI e, yB, yco, yjn, yse, ypd, yst, ypc, ysp, yre, yun, yme, yta, yma, ytr)) :
    ∃ n, wY_seal_27 post yL yC yW yA yP (nI (pg_n P)) yF yB yco yjn yse ypd yst ypc ysp yre yun yme yta yma ytr n 0 := by
  refine loop_0 (fun n i (_ : Unit) => wY_seal_27 post yL yC yW yA yP (nI (pg_n P)) yF yB yco yjn yse ypd yst ypc ysp yre yun yme yta yma ytr n (nI i)) (fun _ _ => True) e () trivial ?_ ?_
  · intro n _ _
    rcases Nat.lt_or_ge e (pg_n P) with c | c
    · obtain ⟨⟨b1, b2, b3⟩, hp⟩ := hbad c
      have f1 : yco (nI (4 * e)).toNatClampNeg = nI (pg_o P e) := by rw [nI_clamp (by omega)]; exact (hy e c).1
      have f2 : yco (nI (4 * e + 3)).toNatClampNeg = pg_c P e := by rw [nI_clamp (by omega)]; exact (hy e c).2.2.2
      have v1 : vp_in (nI (4 * e)) 128 := vp_in_nI (by omega) (by omega)
      have v2 : vp_in (nI (4 * e + 3)) 128 := vp_in_nI (by omega) (by omega)
      have e3 : nI (4 * e) + 3 = nI (4 * e + 3) := yw_4a e 3
      have o24 := ho e c
      simp only [wY_seal_27, yw_4, e3, v1, v2, f1, f2, not_true_eq_false, not_false_eq_true, false_implies, true_implies, and_true, true_and, forall_eq, forall_const]
      refine br_f (nI_ge c (by omega)) (pk_lt (pg_o P e) 15 (fun z => by omega) (fun _ => pk_lt 19 (pg_o P e) (fun z => by omega) (fun _ => ?_)))
      rcases b3 with b3 | b3
      · exact br_t b3 hp
      · exact br_c (fun _ => hp) (fun _ => br_f b3 hp)
    · exact br_t (nI_le c (by omega)) (hend (by omega))
  · intro n i _ hi _ ih
    have c : i < pg_n P := by omega
    have f1 : yco (nI (4 * i)).toNatClampNeg = nI (pg_o P i) := by rw [nI_clamp (by omega)]; exact (hy i c).1
    have f2 : yco (nI (4 * i + 3)).toNatClampNeg = pg_c P i := by rw [nI_clamp (by omega)]; exact (hy i c).2.2.2
    have v1 : vp_in (nI (4 * i)) 128 := vp_in_nI (by omega) (by omega)
    have v2 : vp_in (nI (4 * i + 3)) 128 := vp_in_nI (by omega) (by omega)
    have e3 : nI (4 * i) + 3 = nI (4 * i + 3) := yw_4a i 3
    have o24 := ho i c
    have ih' := ih () trivial
    simp only [wY_seal_27, yw_4, e3, v1, v2, f1, f2, nI_1, not_true_eq_false, not_false_eq_true, false_implies, true_implies, and_true, true_and, forall_eq, forall_const]
    refine br_f (nI_ge c (by omega)) (pk_lt (pg_o P i) 15 (fun _ => ih') (fun g1 => pk_lt 19 (pg_o P i) (fun _ => ih') (fun g2 => ?_)))
    have nb : ¬ (pg_c P i < 0 ∨ ¬ pg_c P i ≤ nI (pg_n P)) := fun z => hno i hi ⟨g1, g2, z⟩
    exact ⟨fun z => absurd (Or.inl z) nb, fun _ => ⟨fun _ => ih', fun z => absurd (Or.inr z) nb⟩⟩
theorem yq_95 {post : Int32 → SY → Prop} (hy : py_ok P yco) (hn : pg_n P ≤ 32) (ho : ∀ p, p < pg_n P → pg_o P p ≤ 24) (ht : pg_tok P) {e : Nat} (he : e ≤ pg_n P) (hno : ∀ p, p < e → rx_R P p)
    (hend : e = pg_n P → ∀ se, wpY_findJoins (fun u => match u with | (yL, yC, yW, yA, yP, yN, yF, yB, yco, yjn, yse, ypd, yst, ypc, ysp, yre, yun, yme, yta, yma, ytr) => (∃ n : Nat, wY_seal_141 post n 0 yL yC yW yA yP yN yF yB yco yjn yse ypd yst ypc ysp yre yun yme yta yma ytr)) (yL, yC, yW, yA, yP, nI (pg_n P), yF, yB, yco, yjn, se, ypd, yst, ypc, ysp, yre, yun, yme, yta, yma, ytr))
    (hbad : e < pg_n P → ¬ rx_R P e ∧ ∀ se, post (-7) (yL, yC, yW, yA, yP, nI (pg_n P), nI e, yB, yco, yjn, se, ypd, yst, ypc, ysp, yre, yun, yme, yta, yma, ytr)) :
    ∃ n, wY_seal_95 post n 0 yL yC yW yA yP (nI (pg_n P)) yF yB yco yjn yse ypd yst ypc ysp yre yun yme yta yma ytr := by
  refine loop_0 (fun n i (s : Nat → Int32) => wY_seal_95 post n (nI i) yL yC yW yA yP (nI (pg_n P)) yF yB yco yjn s ypd yst ypc ysp yre yun yme yta yma ytr) (fun _ _ => True) e yse trivial ?_ ?_
  · intro n s _
    rcases Nat.lt_or_ge e (pg_n P) with c | c
    · refine br_f (nI_ge c (by omega)) ?_
      refine yw_walk hy hn ho ht c (yw_xm hn) (fun se hw => ⟨vp_in_nI (by omega) (by omega), br_t ?_ ((hbad c).2 se)⟩)
      rw [nI_clamp (by omega)]
      apply Classical.byContradiction
      intro z
      exact (hbad c).1 ((hw.2 _ (Nat.le_refl _)).mp z)
    · exact br_t (nI_le c (by omega)) (hend (by omega) s)
  · intro n i s hi _ ih
    refine br_f (nI_ge (by omega) (by omega)) ?_
    refine yw_walk hy hn ho ht (by omega) (yw_xm hn) (fun se hw => ⟨vp_in_nI (by omega) (by omega), br_f ?_ (nm_r (nI_1 i) (ih se trivial))⟩)
    rw [nI_clamp (by omega)]
    exact (hw.2 _ (Nat.le_refl _)).mpr (hno i hi)
/-- one q against all p -/
theorem yq_151 {post : Int32 → SY → Prop} {J : Int32 → Int32 → Int32 → Int32 → Int32 → Int32 → Int32 → Int32 → Int32 → (Nat → Int32) → (Nat → Int32) → (Nat → Int32) → (Nat → Int32) → (Nat → Int32) → (Nat → Int32) → (Nat → Int32) → (Nat → Int32) → (Nat → Int32) → (Nat → Int32) → (Nat → Int32) → (Nat → Int32) → (Nat → Int32) → Prop} (hy : py_ok P yco) (hn : pg_n P ≤ 32) (ho : ∀ p, p < pg_n P → pg_o P p ≤ 24) (ht : pg_tok P) (hJ : ∀ p, p < pg_n P → pg_j P p ≤ pg_n P) (hjn : py_jn P yjn) {q : Nat} (hq : q < pg_n P)
    {e : Nat} (he : e ≤ pg_n P) (hno : ∀ p, p < e → ¬ (20 ≤ pg_o P q ∧ (pg_o P p = 16 ∨ pg_o P p = 17) ∧ gr_wk (pg_n P) (pg_E P) p (pg_j P p) q))
    (hend : e = pg_n P → ∀ se, J (nI (q + 1)) yL yC yW yA yP (nI (pg_n P)) yF yB yco yjn se ypd yst ypc ysp yre yun yme yta yma ytr)
    (hbad : e < pg_n P → (20 ≤ pg_o P q ∧ (pg_o P e = 16 ∨ pg_o P e = 17) ∧ gr_wk (pg_n P) (pg_E P) e (pg_j P e) q) ∧ ∀ se, post (-8) (yL, yC, yW, yA, yP, nI (pg_n P), nI q, yB, yco, yjn, se, ypd, yst, ypc, ysp, yre, yun, yme, yta, yma, ytr)) :
    ∃ n, wY_seal_151 post J (nI q) n 0 yL yC yW yA yP (nI (pg_n P)) yF yB yco yjn yse ypd yst ypc ysp yre yun yme yta yma ytr := by
  have f1 : yco (nI (4 * q)).toNatClampNeg = nI (pg_o P q) := by rw [nI_clamp (by omega)]; exact (hy q hq).1
  have v1 : vp_in (nI (4 * q)) 128 := vp_in_nI (by omega) (by omega)
  have o24 := ho q hq
  refine loop_0 (fun n i (s : Nat → Int32) => wY_seal_151 post J (nI q) n (nI i) yL yC yW yA yP (nI (pg_n P)) yF yB yco yjn s ypd yst ypc ysp yre yun yme yta yma ytr) (fun _ _ => True) e yse trivial ?_ ?_
  · intro n s _
    rcases Nat.lt_or_ge e (pg_n P) with c | c
    · obtain ⟨⟨b1, b2, b3⟩, hp⟩ := hbad c
      have f2 : yco (nI (4 * e)).toNatClampNeg = nI (pg_o P e) := by rw [nI_clamp (by omega)]; exact (hy e c).1
      have v2 : vp_in (nI (4 * e)) 128 := vp_in_nI (by omega) (by omega)
      have o24e := ho e c
      have call : wY_seal_201 post J (wY_seal_151 post J (nI q) n) (nI q) (nI e) yL yC yW yA yP (nI (pg_n P)) yF yB yco yjn s ypd yst ypc ysp yre yun yme yta yma ytr := by
        refine ⟨vp_in_nI (by omega) (by omega), ?_⟩
        rw [show yjn (nI e).toNatClampNeg = nI (pg_j P e) by rw [nI_clamp (by omega)]; exact hjn e c]
        refine yw_walk hy hn ho ht c (yw_xn hn (hJ e c)) (fun se hw => ⟨vp_in_nI (by omega) (by omega), br_f ?_ (hp se)⟩)
        rw [nI_clamp (by omega)]
        exact (hw.2 q (by omega)).mpr b3
      simp only [wY_seal_151, yw_4, v1, v2, f1, f2, not_true_eq_false, not_false_eq_true, false_implies, true_implies, and_true, true_and, forall_eq, forall_const]
      refine br_f (nI_ge c (by omega)) (pk_lt (pg_o P q) 20 (fun z => by omega) (fun _ => pk_eq (pg_o P e) 16 (fun _ => call) (fun n16 => pk_eq (pg_o P e) 17 (fun _ => call) (fun n17 => by omega))))
    · exact br_t (nI_le c (by omega)) (nm_r (nI_1 q) (hend (by omega) s))
  · intro n i s hi _ ih
    have c : i < pg_n P := by omega
    have f2 : yco (nI (4 * i)).toNatClampNeg = nI (pg_o P i) := by rw [nI_clamp (by omega)]; exact (hy i c).1
    have v2 : vp_in (nI (4 * i)) 128 := vp_in_nI (by omega) (by omega)
    have o24e := ho i c
    have call : (20 ≤ pg_o P q) → (pg_o P i = 16 ∨ pg_o P i = 17) → wY_seal_201 post J (wY_seal_151 post J (nI q) n) (nI q) (nI i) yL yC yW yA yP (nI (pg_n P)) yF yB yco yjn s ypd yst ypc ysp yre yun yme yta yma ytr := by
      intro g1 g2
      refine ⟨vp_in_nI (by omega) (by omega), ?_⟩
      rw [show yjn (nI i).toNatClampNeg = nI (pg_j P i) by rw [nI_clamp (by omega)]; exact hjn i c]
      refine yw_walk hy hn ho ht c (yw_xn hn (hJ i c)) (fun se hw => ⟨vp_in_nI (by omega) (by omega), br_t ?_ (nm_r (nI_1 i) (ih se trivial))⟩)
      rw [nI_clamp (by omega)]
      apply Classical.byContradiction
      intro z
      exact hno i hi ⟨g1, g2, (hw.2 q (by omega)).mp z⟩
    have ih' := ih s trivial
    simp only [wY_seal_151, yw_4, v1, v2, f1, f2, nI_1, not_true_eq_false, not_false_eq_true, false_implies, true_implies, and_true, true_and, forall_eq, forall_const]
    refine br_f (nI_ge c (by omega)) (pk_lt (pg_o P q) 20 (fun _ => ih') (fun g => pk_eq (pg_o P i) 16 (fun z => call g (Or.inl z)) (fun n16 => pk_eq (pg_o P i) 17 (fun z => call g (Or.inr z)) (fun n17 => ih'))))
theorem yq_141 {post : Int32 → SY → Prop} (hy : py_ok P yco) (hn : pg_n P ≤ 32) (ho : ∀ p, p < pg_n P → pg_o P p ≤ 24) (ht : pg_tok P) (hJ : ∀ p, p < pg_n P → pg_j P p ≤ pg_n P) (hjn : py_jn P yjn) {e : Nat} (he : e ≤ pg_n P) (hno : ∀ p, p < e → ¬ bd_s P p)
    (hend : e = pg_n P → ∀ se, post 0 (yL, yC, yW, yA, 1, nI (pg_n P), yF, yB, yco, yjn, se, ypd, yst, ypc, ysp, yre, yun, yme, yta, yma, ytr))
    (hbad : e < pg_n P → bd_s P e ∧ ∀ se, post (-8) (yL, yC, yW, yA, yP, nI (pg_n P), nI e, yB, yco, yjn, se, ypd, yst, ypc, ysp, yre, yun, yme, yta, yma, ytr)) :
    ∃ n, wY_seal_141 post n 0 yL yC yW yA yP (nI (pg_n P)) yF yB yco yjn yse ypd yst ypc ysp yre yun yme yta yma ytr := by
  refine loop_0 (fun n i (s : Nat → Int32) => wY_seal_141 post n (nI i) yL yC yW yA yP (nI (pg_n P)) yF yB yco yjn s ypd yst ypc ysp yre yun yme yta yma ytr) (fun _ _ => True) e yse trivial ?_ ?_
  · intro n s _
    rcases Nat.lt_or_ge e (pg_n P) with c | c
    · refine br_f (nI_ge c (by omega)) ?_
      obtain ⟨⟨b1, b2⟩, hp⟩ := hbad c
      obtain ⟨p, hpp, hpm⟩ := pk_least _ b2
      exact yq_151 hy hn ho ht hJ hjn c (e := p) (by omega) (fun r hr z => hpm r hr ⟨by omega, z.2⟩) (fun z => by omega) (fun _ => ⟨⟨b1, hpp.2⟩, hp⟩)
    · exact br_t (nI_le c (by omega)) (hend (by omega) s)
  · intro n i s hi _ ih
    refine br_f (nI_ge (by omega) (by omega)) ?_
    exact yq_151 hy hn ho ht hJ hjn (by omega) (e := pg_n P) (Nat.le_refl _) (fun r hr z => hno i hi ⟨z.1, r, hr, z.2⟩) (fun _ se => ih se trivial) (fun z => by omega)
theorem yq_0 {post : Int32 → SY → Prop} (h0 : pg_n P = 0) (hp : post (-5) (yL, yC, yW, yA, 0, nI (pg_n P), (-1), yB, yco, yjn, yse, ypd, yst, ypc, ysp, yre, yun, yme, yta, yma, ytr)) : wpY_seal post (yL, yC, yW, yA, 0, nI (pg_n P), yF, yB, yco, yjn, yse, ypd, yst, ypc, ysp, yre, yun, yme, yta, yma, ytr) := by
  unfold wpY_seal
  refine br_t rfl (br_f ?_ hp)
  rw [h0]
  decide
theorem yq_1 {post : Int32 → SY → Prop} (hy : py_ok P yco) (hn : pg_n P ≤ 32) (ho : ∀ p, p < pg_n P → pg_o P p ≤ 24) {e : Nat} (he : e < pg_n P) (hb : bd_t P e) (hno : ∀ p, p < e → ¬ bd_t P p) (hp : post (-6) (yL, yC, yW, yA, 0, nI (pg_n P), nI e, yB, yco, yjn, yse, ypd, yst, ypc, ysp, yre, yun, yme, yta, yma, ytr)) : wpY_seal post (yL, yC, yW, yA, 0, nI (pg_n P), yF, yB, yco, yjn, yse, ypd, yst, ypc, ysp, yre, yun, yme, yta, yma, ytr) := by
  unfold wpY_seal
  refine br_t rfl (br_t (nI_le (a := 1) (by omega) (by omega)) ?_)
  exact yq_27 hy hn ho (e := e) (by omega) hno (fun z => by omega) (fun _ => ⟨hb, hp⟩)
theorem yq_2 {post : Int32 → SY → Prop} (hy : py_ok P yco) (hn : pg_n P ≤ 32) (ho : ∀ p, p < pg_n P → pg_o P p ≤ 24) (hnb : ∀ p, p < pg_n P → ¬ bd_t P p) {e : Nat} (he : e < pg_n P) (hb : ¬ rx_R P e) (hno : ∀ p, p < e → rx_R P p) (hp : ∀ se, post (-7) (yL, yC, yW, yA, 0, nI (pg_n P), nI e, yB, yco, yjn, se, ypd, yst, ypc, ysp, yre, yun, yme, yta, yma, ytr)) : wpY_seal post (yL, yC, yW, yA, 0, nI (pg_n P), yF, yB, yco, yjn, yse, ypd, yst, ypc, ysp, yre, yun, yme, yta, yma, ytr) := by
  have ht := px_tok hn hnb
  unfold wpY_seal
  refine br_t rfl (br_t (nI_le (a := 1) (by omega) (by omega)) ?_)
  refine yq_27 hy hn ho (e := pg_n P) (Nat.le_refl _) hnb (fun _ => ?_) (fun z => by omega)
  exact yq_95 hy hn ho ht (e := e) (by omega) hno (fun z => by omega) (fun _ => ⟨hb, hp⟩)
theorem yq_3 {post : Int32 → SY → Prop} (hy : py_ok P yco) (h1 : 1 ≤ pg_n P) (hn : pg_n P ≤ 32) (ho : ∀ p, p < pg_n P → pg_o P p ≤ 24) (hnb : ∀ p, p < pg_n P → ¬ bd_t P p) (hR : ∀ p, p < pg_n P → rx_R P p) (hJ : ∀ p, p < pg_n P → pg_j P p ≤ pg_n P ∧ gr_jn (pg_n P) (pg_E P) p (pg_j P p)) {e : Nat} (he : e ≤ pg_n P) (hno : ∀ p, p < e → ¬ bd_s P p)
    (hend : e = pg_n P → ∀ se pd jn, py_jn P jn → post 0 (yL, yC, yW, yA, 1, nI (pg_n P), (-1), yB, yco, jn, se, pd, yst, ypc, ysp, yre, yun, yme, yta, yma, ytr))
    (hbad : e < pg_n P → bd_s P e ∧ ∀ se pd jn, post (-8) (yL, yC, yW, yA, 0, nI (pg_n P), nI e, yB, yco, jn, se, pd, yst, ypc, ysp, yre, yun, yme, yta, yma, ytr)) : wpY_seal post (yL, yC, yW, yA, 0, nI (pg_n P), yF, yB, yco, yjn, yse, ypd, yst, ypc, ysp, yre, yun, yme, yta, yma, ytr) := by
  have ht := px_tok hn hnb
  unfold wpY_seal
  refine br_t rfl (br_t (nI_le (a := 1) (by omega) (by omega)) ?_)
  refine yq_27 hy hn ho (e := pg_n P) (Nat.le_refl _) hnb (fun _ => ?_) (fun z => by omega)
  refine yq_95 hy hn ho ht (e := pg_n P) (Nat.le_refl _) hR (fun _ se => ?_) (fun z => by omega)
  refine yj_pd hy hn ho ht (fun se pd hpd => ?_)
  refine yj_jn hn ht hR hJ hpd (fun jn hjn => ?_)
  exact yq_141 hy hn ho ht (fun p hp => (hJ p hp).1) hjn (e := e) he hno (fun z se => hend z se pd jn hjn) (fun z => ⟨(hbad z).1, fun se => (hbad z).2 se pd jn⟩)
end
end
section
/-! own rows: arrays that hold the lanes -/
def cs_set (c : Nat → ln_V) (i : Nat) (v : ln_V) : Nat → ln_V := fun l => if l = i then v else c l
def mp_c (m : Int32) (g : Nat → ln_V → ln_V) (c : Nat → ln_V) (i : Nat) : Nat → ln_V := fun l => if l < i ∧ bt m l = true then g l (c l) else c l
theorem cs_at {c : Nat → ln_V} {i : Nat} {v : ln_V} : cs_set c i v i = v := if_pos rfl
theorem cs_ne {c : Nat → ln_V} {i l : Nat} {v : ln_V} (h : l ≠ i) : cs_set c i v l = c l := if_neg h
theorem cs_self (c : Nat → ln_V) (i : Nat) : cs_set c i (c i) = c := by
  funext l
  by_cases e : l = i
  · rw [e, cs_at]
  · rw [cs_ne e]
theorem cs_2 (c : Nat → ln_V) (i : Nat) (v w : ln_V) : cs_set (cs_set c i v) i w = cs_set c i w := by
  funext l
  by_cases e : l = i
  · rw [e, cs_at, cs_at]
  · rw [cs_ne e, cs_ne e, cs_ne e]
section
variable {m : Int32} {g : Nat → ln_V → ln_V} {c : Nat → ln_V} {i : Nat}
theorem mp_0 : mp_c m g c 0 = c := by
  funext l
  exact if_neg (fun z => absurd z.1 (Nat.not_lt_zero _))
theorem mp_at : mp_c m g c i i = c i := if_neg (fun z => absurd z.1 (Nat.lt_irrefl _))
theorem mp_s1 (h : bt m i = true) : mp_c m g c (i + 1) = cs_set (mp_c m g c i) i (g i (c i)) := by
  funext l
  unfold mp_c cs_set
  by_cases e : l = i
  · rw [if_pos e, e, if_pos ⟨by omega, h⟩]
  · rw [if_neg e]
    dsimp only
    by_cases z : l < i ∧ bt m l = true
    · rw [if_pos z, if_pos ⟨by omega, z.2⟩]
    · rw [if_neg z, if_neg (fun w => z ⟨by omega, w.2⟩)]
theorem mp_s0 (h : ¬ bt m i = true) : mp_c m g c (i + 1) = mp_c m g c i := by
  funext l
  unfold mp_c
  by_cases e : l = i
  · rw [e, if_neg (fun z => h z.2), if_neg (fun z => h z.2)]
  · by_cases z : l < i ∧ bt m l = true
    · rw [if_pos z, if_pos ⟨by omega, z.2⟩]
    · rw [if_neg z, if_neg (fun w => z ⟨by omega, w.2⟩)]
theorem mp_in {L l : Nat} (hl : l < L) (h : bt m l = true) : mp_c m g c L l = g l (c l) := if_pos ⟨hl, h⟩
theorem mp_out {L l : Nat} (h : ¬ bt m l = true) : mp_c m g c L l = c l := if_neg (fun z => h z.2)
theorem mp_mp {g2 : Nat → ln_V → ln_V} {L : Nat} : mp_c m g2 (mp_c m g c L) L = mp_c m (fun l v => g2 l (g l v)) c L := by
  funext l
  unfold mp_c
  by_cases z : l < L ∧ bt m l = true
  · rw [if_pos z, if_pos z, if_pos z]
  · rw [if_neg z, if_neg z, if_neg z]
theorem mp_ext {g2 : Nat → ln_V → ln_V} {L : Nat} (h : ∀ l, l < L → bt m l = true → g l (c l) = g2 l (c l)) : mp_c m g c L = mp_c m g2 c L := by
  funext l
  unfold mp_c
  by_cases z : l < L ∧ bt m l = true
  · rw [if_pos z, if_pos z]; exact h l z.1 z.2
  · rw [if_neg z, if_neg z]
end
def rl_a (P : pg_P) (c : Nat → ln_V) (st pc re me : Nat → Int32) : Prop :=
  ∀ l, l < pg_L P → st l = ln_st (c l) ∧ pc l = nI (ln_pc (c l)) ∧ (∀ r, r < 8 → re (8 * l + r) = ln_rg (c l) r) ∧ (∀ a, a < 16 → me (16 * l + a) = ln_mm (c l) a)
def rl_s (P : pg_P) (c : Nat → ln_V) (sp : Nat → Int32) : Prop := ∀ l, l < pg_L P → sp l = nI (ln_sp (c l))
def rl_t (P : pg_P) (c : Nat → ln_V) (tr : Nat → Int32) : Prop := ∀ l, l < pg_L P → ∀ i, i < ln_sp (c l) → tr (128 * l + i) = nI (ln_tr (c l) i)
def rb_r (P : pg_P) (c : Nat → ln_V) (R : Int32) : Prop := ∀ l, l < 32 → (bt R l = true ↔ (l < pg_L P ∧ ln_st (c l) = 1))
section
variable {P : pg_P} {c : Nat → ln_V} {st pc re me sp tr : Nat → Int32} {R : Int32} {i : Nat}
theorem rl_st (h : rl_a P c st pc re me) (x : Int32) : rl_a P (cs_set c i (x, (c i).2)) (upd st i x) pc re me := by
  intro l hl
  by_cases e : l = i
  · rw [e] at hl ⊢
    rw [cs_at, pk_us]
    exact ⟨rfl, (h i hl).2⟩
  · rw [cs_ne e, pk_un e]; exact h l hl
theorem rl_pc (h : rl_a P c st pc re me) (p : Nat) : rl_a P (cs_set c i ((c i).1, p, (c i).2.2)) st (upd pc i (nI p)) re me := by
  intro l hl
  by_cases e : l = i
  · rw [e] at hl ⊢
    rw [cs_at, pk_us]
    exact ⟨(h i hl).1, rfl, (h i hl).2.2⟩
  · rw [cs_ne e, pk_un e]; exact h l hl
theorem rl_re (h : rl_a P c st pc re me) {r : Nat} (hr : r < 8) (x : Int32) : rl_a P (cs_set c i ((c i).1, (c i).2.1, (c i).2.2.1, upd (ln_rg (c i)) r x, (c i).2.2.2.2)) st pc (upd re (8 * i + r) x) me := by
  intro l hl
  by_cases e : l = i
  · rw [e] at hl ⊢
    rw [cs_at]
    refine ⟨(h i hl).1, (h i hl).2.1, fun q hq => ?_, (h i hl).2.2.2⟩
    show upd re (8 * i + r) x (8 * i + q) = upd (ln_rg (c i)) r x q
    by_cases f : q = r
    · rw [f, pk_us, pk_us]
    · rw [pk_un f, pk_un (by omega)]; exact (h i hl).2.2.1 q hq
  · rw [cs_ne e]
    refine ⟨(h l hl).1, (h l hl).2.1, fun q hq => ?_, (h l hl).2.2.2⟩
    rw [pk_un (by omega)]
    exact (h l hl).2.2.1 q hq
theorem rl_me (h : rl_a P c st pc re me) {r : Nat} (hr : r < 16) (x : Int32) : rl_a P (cs_set c i ((c i).1, (c i).2.1, (c i).2.2.1, (c i).2.2.2.1, upd (ln_mm (c i)) r x, (c i).2.2.2.2.2)) st pc re (upd me (16 * i + r) x) := by
  intro l hl
  by_cases e : l = i
  · rw [e] at hl ⊢
    rw [cs_at]
    refine ⟨(h i hl).1, (h i hl).2.1, (h i hl).2.2.1, fun q hq => ?_⟩
    show upd me (16 * i + r) x (16 * i + q) = upd (ln_mm (c i)) r x q
    by_cases f : q = r
    · rw [f, pk_us, pk_us]
    · rw [pk_un f, pk_un (by omega)]; exact (h i hl).2.2.2 q hq
  · rw [cs_ne e]
    refine ⟨(h l hl).1, (h l hl).2.1, (h l hl).2.2.1, fun q hq => ?_⟩
    rw [pk_un (by omega)]
    exact (h l hl).2.2.2 q hq
/-- other parts of a lane don't show -/
theorem rl_any {v : ln_V} (h : rl_a P c st pc re me) (h1 : ln_st v = ln_st (c i)) (h2 : ln_pc v = ln_pc (c i)) (h3 : ln_rg v = ln_rg (c i)) (h4 : ln_mm v = ln_mm (c i)) : rl_a P (cs_set c i v) st pc re me := by
  intro l hl
  by_cases e : l = i
  · rw [e] at hl ⊢
    rw [cs_at, h1, h2, h3, h4]
    exact h i hl
  · rw [cs_ne e]; exact h l hl
theorem rl_s1 (h : rl_s P c sp) (v : ln_V) (k : Nat) (hv : ln_sp v = k) : rl_s P (cs_set c i v) (upd sp i (nI k)) := by
  intro l hl
  by_cases e : l = i
  · rw [e, cs_at, pk_us, hv]
  · rw [cs_ne e, pk_un e]; exact h l hl
theorem rl_s0 (h : rl_s P c sp) (v : ln_V) (hv : ln_sp v = ln_sp (c i)) : rl_s P (cs_set c i v) sp := by
  intro l hl
  by_cases e : l = i
  · rw [e] at hl ⊢
    rw [cs_at, hv]; exact h i hl
  · rw [cs_ne e]; exact h l hl
theorem rb_stop (h : rb_r P c R) (hi : i < 32) {v : ln_V} (hv : ln_st v ≠ 1) : rb_r P (cs_set c i v) (R &&& (((1 : Int32) <<< (nI i &&& 31)) ^^^ (-1))) := by
  intro l hl
  rw [bi_an1 R hi hl]
  by_cases e : l = i
  · rw [e, cs_at]
    simp [hv]
  · rw [cs_ne e, ← h l hl]
    simp [e]
theorem rb_keep (h : rb_r P c R) {v : ln_V} (hv : ln_st v = ln_st (c i)) : rb_r P (cs_set c i v) R := by
  intro l hl
  rw [h l hl]
  by_cases e : l = i
  · rw [e, cs_at, hv]
  · rw [cs_ne e]
end
/-! indices -/
theorem ix_8 (l r : Nat) : nI l * 8 + nI r = nI (8 * l + r) := by rw [show (8 : Int32) = nI 8 from rfl, pk_mul, nI_add, Nat.mul_comm]
theorem ix_16 (l r : Nat) : nI l * 16 + nI r = nI (16 * l + r) := by rw [show (16 : Int32) = nI 16 from rfl, pk_mul, nI_add, Nat.mul_comm]
theorem ix_32 (l r : Nat) : nI l * 32 + nI r = nI (32 * l + r) := by rw [show (32 : Int32) = nI 32 from rfl, pk_mul, nI_add, Nat.mul_comm]
theorem iy_8 (l r : Nat) : 8 * nI l + nI r = nI (8 * l + r) := by rw [show (8 : Int32) = nI 8 from rfl, pk_mul, nI_add]
theorem iy_16 (l r : Nat) : 16 * nI l + nI r = nI (16 * l + r) := by rw [show (16 : Int32) = nI 16 from rfl, pk_mul, nI_add]
theorem iy_32 (l r : Nat) : 32 * nI l + nI r = nI (32 * l + r) := by rw [show (32 : Int32) = nI 32 from rfl, pk_mul, nI_add]
theorem iy_128 (l r : Nat) : 128 * nI l + nI r = nI (128 * l + r) := by rw [show (128 : Int32) = nI 128 from rfl, pk_mul, nI_add]
theorem bi_zt (m : Int32) {l : Nat} (hl : l < 32) : (m &&& ((1 : Int32) <<< (nI l &&& 31))) = 0 ↔ ¬ bt m l = true := by
  rw [bi_z m hl]
  cases bt m l <;> simp
theorem bi_an1p (m : Int32) {l : Nat} (hl : l < 32) {i : Nat} (hi : i < 32) : bt (m &&& (((1 : Int32) <<< (nI l &&& 31)) ^^^ (-1))) i = true ↔ (bt m i = true ∧ i ≠ l) := by
  rw [bi_an1 m hl hi]; simp
theorem bi_or1p (m : Int32) {l : Nat} (hl : l < 32) {i : Nat} (hi : i < 32) : bt (m ||| ((1 : Int32) <<< (nI l &&& 31))) i = true ↔ (bt m i = true ∨ i = l) := by
  rw [bi_or1 m hl hi]; simp
theorem bi_andp (x y : Int32) (i : Nat) : bt (x &&& y) i = true ↔ (bt x i = true ∧ bt y i = true) := by rw [b_and]; simp
theorem bi_andn (x y : Int32) {i : Nat} (hi : i < 32) : bt (x &&& (y ^^^ (-1))) i = true ↔ (bt x i = true ∧ ¬ bt y i = true) := by rw [b_and, bi_n y hi]; simp
end
section
/-! own rows: the class's loops over the lanes of a mask -/
theorem mp_sid {m : Int32} {g : Nat → ln_V → ln_V} {c : Nat → ln_V} {i : Nat} (h : g i (c i) = c i) : mp_c m g c (i + 1) = mp_c m g c i := by
  by_cases b : bt m i = true
  · rw [mp_s1 b, h]
    have := cs_self (mp_c m g c i) i
    rw [mp_at] at this
    exact this
  · exact mp_s0 b
theorem rl_mp {P : pg_P} {c c' : Nat → ln_V} {st pc re me : Nat → Int32} (h : rl_a P c st pc re me) (e : ∀ l, l < pg_L P → ln_st (c' l) = ln_st (c l) ∧ ln_pc (c' l) = ln_pc (c l) ∧ ln_rg (c' l) = ln_rg (c l) ∧ ln_mm (c' l) = ln_mm (c l)) : rl_a P c' st pc re me := by
  intro l hl
  obtain ⟨e1, e2, e3, e4⟩ := e l hl
  rw [e1, e2, e3, e4]
  exact h l hl
theorem rl_smp {P : pg_P} {c c' : Nat → ln_V} {sp : Nat → Int32} (h : rl_s P c sp) (e : ∀ l, l < pg_L P → ln_sp (c' l) = ln_sp (c l)) : rl_s P c' sp := by
  intro l hl
  rw [e l hl]
  exact h l hl
theorem rb_mp {P : pg_P} {c c' : Nat → ln_V} {R : Int32} (h : rb_r P c R) (e : ∀ l, l < pg_L P → ln_st (c' l) = ln_st (c l)) : rb_r P c' R := by
  intro l hl
  rw [h l hl]
  constructor
  · intro z; exact ⟨z.1, by rw [e l z.1]; exact z.2⟩
  · intro z; exact ⟨z.1, by rw [← e l z.1]; exact z.2⟩
def dr_g (P : pg_P) : Nat → ln_V → ln_V := fun _ v => if ln_sp v < pg_al P then v else (4, v.2)
def nt_g (p : Nat) : Nat → ln_V → ln_V := fun _ v => (v.1, v.2.1, ln_sp v + 1, v.2.2.2.1, v.2.2.2.2.1, ln_up (ln_tr v) (ln_sp v) p)
def mv_g (n t : Nat) : Nat → ln_V → ln_V := fun _ v => (if n ≤ t then 2 else v.1, t, v.2.2)
def pl_g (n t : Nat) : Nat → ln_V → ln_V := fun _ v => if ln_st v = 1 then (if n ≤ t then 2 else v.1, t, v.2.2) else v
section
variable {P : pg_P} {c : Nat → ln_V} {xL xC xW xA xP xN xF xR xB xD : Int32} {xo xa xb xc : Nat → Int32} {xsu xpd xrg : Nat → Int64} {xjn xst xpc xsp xre xme xma xun xta xkp xkm xkj : Nat → Int32}
theorem xr_drop {post : Int32 → SX → Prop} (hL : pg_L P ≤ 8) (hal : pg_al P ≤ 128) (hsp : ∀ l, l < pg_L P → ln_sp (c l) ≤ pg_al P) {m : Int32} (hm : ∀ l, l < 32 → bt m l = true → l < pg_L P) (ha : rl_a P c xst xpc xre xme) (hs : rl_s P c xsp) (hr : rb_r P c xR)
    (h : ∀ r R st, rl_a P (mp_c m (dr_g P) c (pg_L P)) st xpc xre xme → rb_r P (mp_c m (dr_g P) c (pg_L P)) R → (∀ l, l < 32 → (bt r l = true ↔ (bt m l = true ∧ ln_sp (c l) < pg_al P))) → post r (nI (pg_L P), xC, xW, nI (pg_al P), xP, xN, xF, R, xB, xD, xo, xa, xb, xc, xsu, xpd, xrg, xjn, st, xpc, xsp, xre, xme, xma, xun, xta, xkp, xkm, xkj)) :
    wpX_dropSpent post (nI (pg_L P), xC, xW, nI (pg_al P), xP, xN, xF, xR, xB, xD, xo, xa, xb, xc, xsu, xpd, xrg, xjn, xst, xpc, xsp, xre, xme, xma, xun, xta, xkp, xkm, xkj) m := by
  refine loop_0 (fun n i (s : Int32 × Int32 × (Nat → Int32)) => wX_dropSpent_4 post m n s.1 (nI i) (nI (pg_L P)) xC xW (nI (pg_al P)) xP xN xF s.2.1 xB xD xo xa xb xc xsu xpd xrg xjn s.2.2 xpc xsp xre xme xma xun xta xkp xkm xkj) (fun i s => rl_a P (mp_c m (dr_g P) c i) s.2.2 xpc xre xme ∧ rb_r P (mp_c m (dr_g P) c i) s.2.1 ∧ ∀ l, l < 32 → (bt s.1 l = true ↔ (bt m l = true ∧ (l < i → ln_sp (c l) < pg_al P)))) (pg_L P) (m, xR, xst) ⟨by rw [mp_0]; exact ha, by rw [mp_0]; exact hr, fun l _ => ⟨fun z => ⟨z, fun w => by omega⟩, fun z => z.1⟩⟩ ?_ ?_
  · intro n s ⟨h1, h2, h3⟩
    refine br_t (nI_le (Nat.le_refl _) (by omega)) (h s.1 s.2.1 s.2.2 h1 h2 fun l hl => ?_)
    rw [h3 l hl]
    exact ⟨fun z => ⟨z.1, z.2 (hm l hl z.1)⟩, fun z => ⟨z.1, fun _ => z.2⟩⟩
  · intro n i s hi ⟨h1, h2, h3⟩ ih
    obtain ⟨r, R, st⟩ := s
    dsimp only at h1 h2 h3 ih ⊢
    refine br_f (nI_ge hi (by omega)) ?_
    by_cases hb : bt m i = true
    · have hst : xsp (nI i).toNatClampNeg = nI (ln_sp (c i)) := by rw [nI_clamp (by omega)]; exact hs i hi
      have b1 := hsp i hi
      refine br_f (fun z => (bi_zt m (by omega)).mp z hb) ⟨vp_in_nI (by omega) (by omega), pk_lt (ln_sp (c i)) (pg_al P) (fun z => nm_r (nI_1 i) (ih (r, R, st) ?_)) (fun z => ?_) hst⟩
      · have e : mp_c m (dr_g P) c (i + 1) = mp_c m (dr_g P) c i := mp_sid (if_pos z)
        refine ⟨by rw [e]; exact h1, by rw [e]; exact h2, fun l hl => ?_⟩
        rw [h3 l hl]
        refine ⟨fun w => ⟨w.1, fun q => ?_⟩, fun w => ⟨w.1, fun q => w.2 (by omega)⟩⟩
        by_cases el : l = i
        · rw [el]; exact z
        · exact w.2 (by omega)
      · have e : mp_c m (dr_g P) c (i + 1) = cs_set (mp_c m (dr_g P) c i) i (4, (mp_c m (dr_g P) c i i).2) := by
          rw [mp_s1 hb, mp_at]
          congr 1
          exact if_neg (by omega)
        refine And.intro (vp_in_nI (by omega) (by omega)) (nm_e (nm_e (nm_e (nm_r (nI_1 i) (ih (r &&& (((1 : Int32) <<< (nI i &&& 31)) ^^^ (-1)), R &&& (((1 : Int32) <<< (nI i &&& 31)) ^^^ (-1)), upd st (nI i).toNatClampNeg 4) ⟨?_, ?_, fun l hl => ?_⟩)))))
        · dsimp only
          rw [e, nI_clamp (by omega)]
          exact rl_st h1 4
        · dsimp only
          rw [e]
          exact rb_stop h2 (by omega) (by show ¬ (4 : Int32) = 1; decide)
        · dsimp only
          rw [bi_an1p r (by omega) hl, h3 l hl]
          refine ⟨fun w => ⟨w.1.1, fun q => w.1.2 (by omega)⟩, fun w => ⟨⟨w.1, fun q => w.2 (by omega)⟩, fun el => ?_⟩⟩
          have := w.2 (by omega)
          rw [el] at this
          omega
    · refine br_t ((bi_zt m (by omega)).mpr hb) (nm_r (nI_1 i) (ih (r, R, st) ?_))
      rw [mp_s0 hb]
      refine ⟨h1, h2, fun l hl => ?_⟩
      rw [h3 l hl]
      refine ⟨fun w => ⟨w.1, fun q => w.2 ?_⟩, fun w => ⟨w.1, fun q => w.2 (by omega)⟩⟩
      have : l ≠ i := fun e => hb (e ▸ w.1)
      omega
theorem xr_note {post : SX → Prop} (hL : pg_L P ≤ 8) {m : Int32} {p : Nat} (hp : p < 32) (hs : rl_s P c xsp)
    (h : ∀ sp ma, rl_s P (mp_c m (nt_g p) c (pg_L P)) sp → (∀ a q, a < pg_L P → q < 32 → ma (32 * a + q) = if bt m a = true ∧ q = p then m else xma (32 * a + q)) → post (nI (pg_L P), xC, xW, xA, xP, xN, xF, xR, xB, xD, xo, xa, xb, xc, xsu, xpd, xrg, xjn, xst, xpc, sp, xre, xme, ma, xun, xta, xkp, xkm, xkj)) :
    wpX_noteCarryingOut post (nI (pg_L P), xC, xW, xA, xP, xN, xF, xR, xB, xD, xo, xa, xb, xc, xsu, xpd, xrg, xjn, xst, xpc, xsp, xre, xme, xma, xun, xta, xkp, xkm, xkj) m (nI p) := by
  refine loop_0 (fun n i (s : (Nat → Int32) × (Nat → Int32)) => wX_noteCarryingOut_2 post m (nI p) (nI (pg_L P)) xC xW xA xP xN xF xR xB xD n (nI i) xo xa xb xc xsu xpd xrg xjn xst xpc s.1 xre xme s.2 xun xta xkp xkm xkj) (fun i s => rl_s P (mp_c m (nt_g p) c i) s.1 ∧ ∀ a q, a < pg_L P → q < 32 → s.2 (32 * a + q) = if a < i ∧ bt m a = true ∧ q = p then m else xma (32 * a + q)) (pg_L P) (xsp, xma) ⟨by rw [mp_0]; exact hs, fun a q _ _ => (if_neg (fun z => absurd z.1 (Nat.not_lt_zero _))).symm⟩ ?_ ?_
  · intro n s ⟨h1, h2⟩
    refine br_t (nI_le (Nat.le_refl _) (by omega)) (h s.1 s.2 h1 fun a q ha hq => ?_)
    rw [h2 a q ha hq]
    by_cases z : bt m a = true ∧ q = p
    · rw [if_pos z, if_pos ⟨ha, z⟩]
    · rw [if_neg z, if_neg (fun w => z w.2)]
  · intro n i s hi ⟨h1, h2⟩ ih
    obtain ⟨sp, ma⟩ := s
    dsimp only at h1 h2 ih ⊢
    refine br_f (nI_ge hi (by omega)) ?_
    have hc : (nI i).toNatClampNeg = i := nI_clamp (by omega)
    have hc2 : (nI (32 * i + p)).toNatClampNeg = 32 * i + p := nI_clamp (by omega)
    by_cases hb : bt m i = true
    · have e1 := h1 i hi
      rw [mp_at] at e1
      refine br_f (fun z => (bi_zt m (by omega)).mp z hb) ⟨vp_in_nI (by omega) (by omega), vp_in_nI (by omega) (by omega), nm_e ⟨by rw [ix_32]; exact vp_in_nI (by omega) (by omega), nm_e (nm_r (nI_1 i) ?_)⟩⟩
      rw [ix_32, hc, hc2, e1, nI_1]
      refine ih (upd sp i (nI (ln_sp (c i) + 1)), upd ma (32 * i + p) m) ⟨?_, fun a q ha hq => ?_⟩
      · dsimp only
        rw [mp_s1 hb]
        exact rl_s1 h1 _ _ rfl
      · dsimp only
        by_cases z : a = i ∧ q = p
        · rw [z.1, z.2, pk_us, if_pos ⟨by omega, hb, rfl⟩]
        · rw [pk_un (by omega), h2 a q ha hq]
          by_cases w : a < i ∧ bt m a = true ∧ q = p
          · rw [if_pos w, if_pos ⟨by omega, w.2⟩]
          · rw [if_neg w, if_neg (fun y => w ⟨by have : a ≠ i := fun e => z ⟨e, y.2.2⟩; omega, y.2⟩)]
    · refine br_t ((bi_zt m (by omega)).mpr hb) (nm_r (nI_1 i) (ih (sp, ma) ?_))
      rw [mp_s0 hb]
      refine ⟨h1, fun a q ha hq => ?_⟩
      dsimp only
      rw [h2 a q ha hq]
      by_cases w : a < i ∧ bt m a = true ∧ q = p
      · rw [if_pos w, if_pos ⟨by omega, w.2⟩]
      · rw [if_neg w, if_neg (fun y => w ⟨by have : a ≠ i := fun e => hb (e ▸ y.2.1); omega, y.2⟩)]
theorem xr_place {post : SX → Prop} (hL : pg_L P ≤ 8) (hn : pg_n P ≤ 32) {m : Int32} {t : Nat} (ht : t < 2 ^ 31) (ha : rl_a P c xst xpc xre xme) (hr : rb_r P c xR)
    (h : ∀ R st pc, rl_a P (mp_c m (pl_g (pg_n P) t) c (pg_L P)) st pc xre xme → rb_r P (mp_c m (pl_g (pg_n P) t) c (pg_L P)) R → post (nI (pg_L P), xC, xW, xA, xP, nI (pg_n P), xF, R, xB, xD, xo, xa, xb, xc, xsu, xpd, xrg, xjn, st, pc, xsp, xre, xme, xma, xun, xta, xkp, xkm, xkj)) :
    wpX_placeLanes post (nI (pg_L P), xC, xW, xA, xP, nI (pg_n P), xF, xR, xB, xD, xo, xa, xb, xc, xsu, xpd, xrg, xjn, xst, xpc, xsp, xre, xme, xma, xun, xta, xkp, xkm, xkj) m (nI t) := by
  refine nm_e ?_
  have hx3 : ∀ l, l < pg_L P → (bt (m &&& xR) l = true ↔ (bt m l = true ∧ ln_st (c l) = 1)) := fun l hl => by
    rw [bi_andp, hr l (by omega)]
    exact ⟨fun z => ⟨z.1, z.2.2⟩, fun z => ⟨z.1, hl, z.2⟩⟩
  have eqv : mp_c (m &&& xR) (mv_g (pg_n P) t) c (pg_L P) = mp_c m (pl_g (pg_n P) t) c (pg_L P) := by
    funext l
    unfold mp_c pl_g mv_g
    by_cases z : l < pg_L P ∧ bt m l = true
    · rw [if_pos z]
      by_cases s : ln_st (c l) = 1
      · rw [if_pos s, if_pos ⟨z.1, (hx3 l z.1).mpr ⟨z.2, s⟩⟩]
      · rw [if_neg s, if_neg (fun w => s ((hx3 l z.1).mp w.2).2)]
    · rw [if_neg z, if_neg (fun w => z ⟨w.1, ((hx3 l w.1).mp w.2).1⟩)]
  generalize m &&& xR = x3 at eqv hx3
  refine loop_0 (fun n i (s : Int32 × (Nat → Int32) × (Nat → Int32)) => wX_placeLanes_10 post (nI t) x3 n (nI i) (nI (pg_L P)) xC xW xA xP (nI (pg_n P)) xF s.1 xB xD xo xa xb xc xsu xpd xrg xjn s.2.1 s.2.2 xsp xre xme xma xun xta xkp xkm xkj) (fun i s => rl_a P (mp_c x3 (mv_g (pg_n P) t) c i) s.2.1 s.2.2 xre xme ∧ rb_r P (mp_c x3 (mv_g (pg_n P) t) c i) s.1) (pg_L P) (xR, xst, xpc) ⟨by rw [mp_0]; exact ha, by rw [mp_0]; exact hr⟩ ?_ ?_
  · intro n s ⟨h1, h2⟩
    rw [eqv] at h1 h2
    exact br_t (nI_le (Nat.le_refl _) (by omega)) (h _ _ _ h1 h2)
  · intro n i s hi ⟨h1, h2⟩ ih
    obtain ⟨R, st, pc⟩ := s
    dsimp only at h1 h2 ih ⊢
    refine br_f (nI_ge hi (by omega)) ?_
    have hc : (nI i).toNatClampNeg = i := nI_clamp (by omega)
    by_cases hb : bt x3 i = true
    · refine br_f (fun z => (bi_zt x3 (by omega)).mp z hb) ⟨vp_in_nI (by omega) (by omega), nm_e ?_⟩
      rw [hc]
      have h3 := rl_pc (i := i) h1 t
      refine pk_lt t (pg_n P) (fun z => nm_r (nI_1 i) (ih (R, st, upd pc i (nI t)) ⟨?_, ?_⟩)) (fun z => ?_) rfl rfl ht
      · dsimp only
        rw [mp_s1 hb]
        have : mv_g (pg_n P) t i (c i) = ((mp_c x3 (mv_g (pg_n P) t) c i i).1, t, (mp_c x3 (mv_g (pg_n P) t) c i i).2.2) := by rw [mp_at]; unfold mv_g; rw [if_neg (by omega)]
        rw [this]
        exact h3
      · dsimp only
        rw [mp_s1 hb]
        exact rb_keep h2 (by rw [mp_at]; unfold mv_g; rw [if_neg (by omega)]; rfl)
      · have h4 := rl_st (i := i) h3 2
        rw [cs_2, cs_at] at h4
        have e2 : mv_g (pg_n P) t i (c i) = ((2 : Int32), ((mp_c x3 (mv_g (pg_n P) t) c i i).1, t, (mp_c x3 (mv_g (pg_n P) t) c i i).2.2).2) := by rw [mp_at]; unfold mv_g; rw [if_pos z]
        rw [← e2] at h4
        refine And.intro (vp_in_nI (by omega) (by omega)) (nm_e (nm_e (nm_r (nI_1 i) (ih (R &&& (((1 : Int32) <<< (nI i &&& 31)) ^^^ (-1)), upd st (nI i).toNatClampNeg 2, upd pc i (nI t)) ⟨?_, ?_⟩))))
        · dsimp only
          rw [mp_s1 hb, hc]
          exact h4
        · dsimp only
          rw [mp_s1 hb]
          exact rb_stop h2 (by omega) (by unfold mv_g; rw [if_pos z]; show ¬ (2 : Int32) = 1; decide)
    · refine br_t ((bi_zt x3 (by omega)).mpr hb) (nm_r (nI_1 i) (ih (R, st, pc) ?_))
      rw [mp_s0 hb]
      exact ⟨h1, h2⟩
end
end
section
/-! own rows: the class's effects of instructions on the lanes of a mask -/
theorem bm_p2 : ∀ i, i < 32 → (1 : Int32) <<< (nI i &&& 31) = nI (2 ^ i) := by decide +kernel
theorem bm_nor (a b : Nat) : nI a ||| nI b = nI (a ||| b) := by
  apply Int32.toBitVec_inj.1
  show BitVec.ofNat 32 a ||| BitVec.ofNat 32 b = BitVec.ofNat 32 (a ||| b)
  apply BitVec.eq_of_getLsbD_eq
  intro i hi
  simp [hi]
theorem bm_or (f : Nat → Bool) {i : Nat} (hi : i < 32) : nI (bm_m f i) ||| ((1 : Int32) <<< (nI i &&& 31)) = nI (bm_m f i + 2 ^ i) := by
  rw [bm_p2 i hi, bm_nor]
  congr 1
  have h := Nat.two_pow_add_eq_or_of_lt (bm_lt f i) 1
  rw [Nat.mul_one] at h
  rw [Nat.or_comm, ← h, Nat.add_comm]
theorem bm_pl (f : Nat → Bool) {i : Nat} (hi : i < 32) : nI (bm_m f i) + ((1 : Int32) <<< (nI i &&& 31)) = nI (bm_m f i + 2 ^ i) := by
  rw [bm_p2 i hi, nI_add]
theorem bm_ext {f g : Nat → Bool} : ∀ k, (∀ i, i < k → f i = g i) → bm_m f k = bm_m g k := by
  intro k
  induction k with
  | zero => intro _; rfl
  | succ k ih =>
    intro h
    unfold bm_m
    rw [ih (fun i hi => h i (by omega)), h k (by omega)]
def al_g (P : pg_P) (u t : Nat → Int32) : Nat → ln_V → ln_V := fun l v => (v.1, v.2.1, v.2.2.1, upd (ln_rg v) (pg_a P (ln_pc v)) (ln_vl P u t l v), v.2.2.2.2)
def me_g (P : pg_P) (u t : Nat → Int32) : Nat → ln_V → ln_V := fun l v => if ln_bd P v = true then (3, v.2) else (v.1, v.2.1, v.2.2.1, upd (ln_rg v) (pg_a P (ln_pc v)) (ln_vl P u t l v), if pg_o P (ln_pc v) = 14 then upd (ln_mm v) (ln_ad P v).toNatClampNeg (ln_rg v (pg_a P (ln_pc v))) else ln_mm v, v.2.2.2.2.2)
theorem up_self (f : Nat → Int32) (k : Nat) : upd f k (f k) = f := by
  funext j
  by_cases e : j = k
  · rw [e, pk_us]
  · rw [pk_un e]
section
variable {P : pg_P} {c : Nat → ln_V} {xL xC xW xA xP xN xF xR xB xD : Int32} {xo xa xb xc : Nat → Int32} {xsu xpd xrg : Nat → Int64} {xjn xst xpc xsp xre xme xma xun xta xkp xkm xkj : Nat → Int32}
theorem xr_take {post : Int32 → Prop} (hx : px_ok P xo xa xb xc) (hL : pg_L P ≤ 8) (hn : pg_n P ≤ 32) {m : Int32} (hm : ∀ l, l < 32 → bt m l = true → l < pg_L P) {p : Nat} (hp : p < pg_n P) (hin : pg_in P p) (ha : rl_a P c xst xpc xre xme)
    (h : ∀ r, (∀ l, l < 32 → (bt r l = true ↔ (bt m l = true ∧ (ln_rg (c l) (pg_a P p) = 0 ↔ pg_o P p = 16)))) → post r) :
    wpX_takenLanes post (nI (pg_L P), xC, xW, xA, xP, xN, xF, xR, xB, xD, xo, xa, xb, xc, xsu, xpd, xrg, xjn, xst, xpc, xsp, xre, xme, xma, xun, xta, xkp, xkm, xkj) m (nI p) := by
  have hc : (nI p).toNatClampNeg = p := nI_clamp (by omega)
  have hv : vp_in (nI p) 32 := vp_in_nI (by omega) (by omega)
  obtain ⟨f1, f2, _, _⟩ := hx p hp
  have a8 := hin.2.1
  have go : ∀ z : Int32, (z = 1 ∧ pg_o P p = 16 ∨ z = 0 ∧ pg_o P p ≠ 16) → wX_takenLanes_16 post m (nI p) z (nI (pg_L P)) xC xW xA xP xN xF xR xB xD xo xa xb xc xsu xpd xrg xjn xst xpc xsp xre xme xma xun xta xkp xkm xkj := by
    intro z hz
    refine ⟨hv, nm_e ?_⟩
    rw [hc, f2]
    refine loop_0 (fun n i (s : Int32) => wX_takenLanes_31 post m z (nI (pg_a P p)) (nI (pg_L P)) xC xW xA xP xN xF xR xB xD xo xa xb xc xsu xpd xrg xjn xst xpc xsp xre xme xma xun xta xkp xkm xkj n s (nI i)) (fun i s => ∀ l, l < 32 → (bt s l = true ↔ (l < i ∧ bt m l = true ∧ (ln_rg (c l) (pg_a P p) = 0 ↔ pg_o P p = 16)))) (pg_L P) 0 (fun l _ => by rw [b_0]; exact ⟨fun w => absurd w (by decide), fun w => by omega⟩) ?_ ?_
    · intro n s hs
      refine br_t (nI_le (Nat.le_refl _) (by omega)) (h s fun l hl => ?_)
      rw [hs l hl]
      exact ⟨fun w => w.2, fun w => ⟨hm l hl w.1, w⟩⟩
    · intro n i s hi hs ih
      refine br_f (nI_ge hi (by omega)) ?_
      have skip : ¬ (bt m i = true ∧ (ln_rg (c i) (pg_a P p) = 0 ↔ pg_o P p = 16)) → wX_takenLanes_31 post m z (nI (pg_a P p)) (nI (pg_L P)) xC xW xA xP xN xF xR xB xD xo xa xb xc xsu xpd xrg xjn xst xpc xsp xre xme xma xun xta xkp xkm xkj n s (nI (i + 1)) := by
        intro no
        refine ih s fun l hl => ?_
        rw [hs l hl]
        refine ⟨fun w => ⟨by omega, w.2⟩, fun w => ⟨?_, w.2⟩⟩
        have : l ≠ i := fun e => no (e ▸ w.2)
        omega
      by_cases hb : bt m i = true
      · have er : xre (nI (8 * i + pg_a P p)).toNatClampNeg = ln_rg (c i) (pg_a P p) := by rw [nI_clamp (by omega)]; exact (ha i hi).2.2.1 _ a8
        have put : (ln_rg (c i) (pg_a P p) = 0 ↔ pg_o P p = 16) → wX_takenLanes_31 post m z (nI (pg_a P p)) (nI (pg_L P)) xC xW xA xP xN xF xR xB xD xo xa xb xc xsu xpd xrg xjn xst xpc xsp xre xme xma xun xta xkp xkm xkj n (s ||| ((1 : Int32) <<< (nI i &&& 31))) (nI (i + 1)) := by
          intro yes
          refine ih _ fun l hl => ?_
          rw [bi_or1p s (by omega) hl, hs l hl]
          constructor
          · intro w
            rcases w with w | w
            · exact ⟨by omega, w.2⟩
            · rw [w]; exact ⟨by omega, hb, yes⟩
          · intro w
            by_cases e : l = i
            · exact Or.inr e
            · exact Or.inl ⟨by omega, w.2⟩
        refine br_f (fun w => (bi_zt m (by omega)).mp w hb) ?_
        rw [ix_8, er]
        refine ⟨vp_in_nI (by omega) (by omega), br_c (fun w => ?_) (fun w => ?_)⟩
        · refine br_c (fun q => nm_e (nm_r (nI_1 i) (put ?_))) (fun q => nm_r (nI_1 i) (skip (fun y => ?_)))
          · rcases hz with y | y
            · exact ⟨fun _ => y.2, fun _ => w⟩
            · rw [y.1] at q; exact absurd q (by decide)
          · rcases hz with x | x
            · exact q x.1.symm
            · exact x.2 (y.2.mp w)
        · refine br_c (fun q => nm_e (nm_r (nI_1 i) (put ?_))) (fun q => nm_r (nI_1 i) (skip (fun y => ?_)))
          · rcases hz with y | y
            · rw [y.1] at q; exact absurd q (by decide)
            · exact ⟨fun x => absurd x w, fun x => absurd x y.2⟩
          · rcases hz with x | x
            · exact w (y.2.mpr x.2)
            · exact q x.1.symm
      · exact br_t ((bi_zt m (by omega)).mpr hb) (nm_r (nI_1 i) (skip (fun w => hb w.1)))
  have o24 := hin.1
  refine ⟨hv, ?_⟩
  rw [hc, f1]
  exact pk_eq (pg_o P p) 16 (fun z => go 1 (Or.inl ⟨rfl, z⟩)) (fun z => go 0 (Or.inr ⟨rfl, z⟩))
theorem xr_ball {post : Int32 → Prop} (hL : pg_L P ≤ 8) {m : Int32} {b : Nat} (hb8 : b < 8) (ha : rl_a P c xst xpc xre xme)
    (h : post (nI (bm_m (fun l => bt m l && !decide (ln_rg (c l) b = 0)) (pg_L P)))) :
    wpX_ballot post (nI (pg_L P), xC, xW, xA, xP, xN, xF, xR, xB, xD, xo, xa, xb, xc, xsu, xpd, xrg, xjn, xst, xpc, xsp, xre, xme, xma, xun, xta, xkp, xkm, xkj) m (nI b) := by
  refine loop_0 (fun n i (s : Int32) => wX_ballot_5 post m (nI b) (nI (pg_L P)) xC xW xA xP xN xF xR xB xD xo xa xb xc xsu xpd xrg xjn xst xpc xsp xre xme xma xun xta xkp xkm xkj n s (nI i)) (fun i s => s = nI (bm_m (fun l => bt m l && !decide (ln_rg (c l) b = 0)) i)) (pg_L P) 0 rfl ?_ ?_
  · intro n s hs
    refine br_t (nI_le (Nat.le_refl _) (by omega)) ?_
    rw [hs]; exact h
  · intro n i s hi hs ih
    refine br_f (nI_ge hi (by omega)) ?_
    have skip : ¬ (bt m i = true ∧ ¬ ln_rg (c i) b = 0) → wX_ballot_5 post m (nI b) (nI (pg_L P)) xC xW xA xP xN xF xR xB xD xo xa xb xc xsu xpd xrg xjn xst xpc xsp xre xme xma xun xta xkp xkm xkj n s (nI (i + 1)) := by
      intro no
      refine ih s ?_
      rw [hs, bm_m, if_neg (by simpa using no)]
      rfl
    by_cases hb : bt m i = true
    · have er : xre (nI (8 * i + b)).toNatClampNeg = ln_rg (c i) b := by rw [nI_clamp (by omega)]; exact (ha i hi).2.2.1 _ hb8
      refine br_f (fun w => (bi_zt m (by omega)).mp w hb) ?_
      rw [ix_8, er]
      refine ⟨vp_in_nI (by omega) (by omega), br_c (fun w => nm_r (nI_1 i) (skip (fun y => y.2 w))) (fun w => nm_e (nm_r (nI_1 i) (ih _ ?_)))⟩
      rw [hs, bm_m, if_pos (by simp [hb, w])]
      exact bm_or _ (by omega)
    · exact br_t ((bi_zt m (by omega)).mpr hb) (nm_r (nI_1 i) (skip (fun w => hb w.1)))
/-- the value of an ALU instruction -/
theorem xr_val {post : Int32 → Prop} (hL : pg_L P ≤ 8) {l : Nat} (hl : l < pg_L P) (hin : pg_in P (ln_pc (c l))) (ho : 1 ≤ pg_o P (ln_pc (c l)) ∧ pg_o P (ln_pc (c l)) ≤ 11) (ha : rl_a P c xst xpc xre xme) (h : post (ln_vl P xun xta l (c l))) :
    wpX_aluValue post (nI (pg_L P), xC, xW, xA, xP, xN, xF, xR, xB, xD, xo, xa, xb, xc, xsu, xpd, xrg, xjn, xst, xpc, xsp, xre, xme, xma, xun, xta, xkp, xkm, xkj) (nI (pg_o P (ln_pc (c l)))) (nI l) (nI (pg_b P (ln_pc (c l)))) (pg_c P (ln_pc (c l))) := by
  obtain ⟨i1, i2, i3, i4, i5, i6, i7⟩ := hin
  have e8 : nI l * 8 = nI (8 * l) := by rw [show (8 : Int32) = nI 8 from rfl, pk_mul, Nat.mul_comm]
  have vb : vp_in (nI (8 * l + pg_b P (ln_pc (c l)))) 64 := vp_in_nI (by omega) (by omega)
  have rb : xre (nI (8 * l + pg_b P (ln_pc (c l)))).toNatClampNeg = ln_rg (c l) (pg_b P (ln_pc (c l))) := by rw [nI_clamp (by omega)]; exact (ha l hl).2.2.1 _ i3
  have j99 : 5 ≤ pg_o P (ln_pc (c l)) → pg_o P (ln_pc (c l)) ≤ 10 → wX_aluValue_99 post (nI (pg_o P (ln_pc (c l)))) (nI (pg_b P (ln_pc (c l)))) (pg_c P (ln_pc (c l))) (nI (8 * l)) (nI (pg_L P)) xC xW xA xP xN xF xR xB xD xo xa xb xc xsu xpd xrg xjn xst xpc xsp xre xme xma xun xta xkp xkm xkj := by
    intro h5 h10
    obtain ⟨k, hk, ek⟩ := i6 h5 h10
    have tg : pg_tg P (ln_pc (c l)) = k := by unfold pg_tg; rw [ek, nI_clamp (by omega)]
    have vk : vp_in (nI (8 * l + k)) 64 := vp_in_nI (by omega) (by omega)
    have rk : xre (nI (8 * l + k)).toNatClampNeg = ln_rg (c l) k := by rw [nI_clamp (by omega)]; exact (ha l hl).2.2.1 _ hk
    unfold wX_aluValue_99
    rw [ek, nI_add, nI_add, rb, rk]
    refine ⟨vb, vk, ?_⟩
    unfold ln_vl at h
    rw [tg] at h
    unfold wpX_binaryValue
    have hh : pg_o P (ln_pc (c l)) = 5 ∨ pg_o P (ln_pc (c l)) = 6 ∨ pg_o P (ln_pc (c l)) = 7 ∨ pg_o P (ln_pc (c l)) = 8 ∨ pg_o P (ln_pc (c l)) = 9 ∨ pg_o P (ln_pc (c l)) = 10 := by omega
    rcases hh with e | e | e | e | e | e <;> rw [e] at h ⊢
    · exact br_f (by decide) (br_f (by decide) (br_t rfl h))
    · exact br_f (by decide) (br_f (by decide) (br_f (by decide) (br_t rfl h)))
    · exact br_f (by decide) (br_f (by decide) (br_f (by decide) (br_f (by decide) (br_t rfl h))))
    · exact br_f (by decide) (br_f (by decide) (br_f (by decide) (br_f (by decide) (br_f (by decide) (br_t rfl h)))))
    · exact br_f (by decide) (br_f (by decide) (br_f (by decide) (br_f (by decide) (br_f (by decide) (br_f (by decide) (br_t rfl h))))))
    · refine br_f (by decide) (br_t (by decide) (br_c (fun z => ?_) (fun z => ?_)))
      · have h' : post (if ln_rg (c l) k ≤ ln_rg (c l) (pg_b P (ln_pc (c l))) then 0 else 1) := h
        rw [if_pos z] at h'
        exact h'
      · have h' : post (if ln_rg (c l) k ≤ ln_rg (c l) (pg_b P (ln_pc (c l))) then 0 else 1) := h
        rw [if_neg z] at h'
        exact h'
  unfold wpX_aluValue
  refine nm_r e8 ?_
  rw [nI_add, rb]
  have hh : pg_o P (ln_pc (c l)) = 1 ∨ pg_o P (ln_pc (c l)) = 2 ∨ pg_o P (ln_pc (c l)) = 3 ∨ pg_o P (ln_pc (c l)) = 4 ∨ pg_o P (ln_pc (c l)) = 11 ∨ (5 ≤ pg_o P (ln_pc (c l)) ∧ pg_o P (ln_pc (c l)) ≤ 10) := by omega
  rcases hh with e | e | e | e | e | e
  · unfold ln_vl at h
    rw [e] at h ⊢
    exact br_f (by decide) (br_f (by decide) (br_t rfl h))
  · unfold ln_vl at h
    rw [e] at h ⊢
    exact br_f (by decide) (br_f (by decide) (br_f (by decide) (br_t rfl ⟨vb, h⟩)))
  · unfold ln_vl at h
    rw [e] at h ⊢
    exact br_f (by decide) (br_f (by decide) (br_f (by decide) (br_f (by decide) (br_t rfl h))))
  · have b4 := i5 (Or.inl e)
    unfold ln_vl at h
    rw [e] at h ⊢
    refine br_f (by decide) (br_f (by decide) (br_f (by decide) (br_f (by decide) (br_f (by decide) (br_t rfl ⟨vp_in_nI b4 (by omega), ?_⟩)))))
    rw [nI_clamp (by omega)]
    exact h
  · unfold ln_vl at h
    rw [e] at h ⊢
    exact br_f (by decide) (br_f (by decide) (br_f (by decide) (br_f (by decide) (br_f (by decide) (br_f (by decide) (br_f (by decide) (br_f (by decide) (br_f (by decide) (br_f (by decide) (br_f (by decide) (br_f (by decide) (br_t rfl ⟨vb, h⟩))))))))))))
  · have j := j99 e.1 e.2
    refine pk_lt (pg_o P (ln_pc (c l))) 1 (fun z => by omega) (fun _ => pk_lt 11 (pg_o P (ln_pc (c l))) (fun z => by omega) (fun _ => pk_eq (pg_o P (ln_pc (c l))) 1 (fun z => by omega) (fun _ => pk_eq (pg_o P (ln_pc (c l))) 2 (fun z => by omega) (fun _ => pk_eq (pg_o P (ln_pc (c l))) 3 (fun z => by omega) (fun _ => pk_eq (pg_o P (ln_pc (c l))) 4 (fun z => by omega) (fun _ => pk_eq (pg_o P (ln_pc (c l))) 5 (fun _ => j) (fun n5 => pk_eq (pg_o P (ln_pc (c l))) 6 (fun _ => j) (fun n6 => pk_eq (pg_o P (ln_pc (c l))) 7 (fun _ => j) (fun n7 => pk_eq (pg_o P (ln_pc (c l))) 8 (fun _ => j) (fun n8 => pk_eq (pg_o P (ln_pc (c l))) 9 (fun _ => j) (fun n9 => pk_eq (pg_o P (ln_pc (c l))) 10 (fun _ => j) (fun n10 => by omega))))))))))))
end
end
section
/-! own rows: the class's ALU, memory and SYNC instructions -/
theorem ln_bdp {P : pg_P} {v : ln_V} {p : Nat} (hp : ln_pc v = p) (ho : 12 ≤ pg_o P p ∧ pg_o P p ≤ 14) : ln_bd P v = true ↔ (ln_ad P v < 0 ∨ ln_lm P p ≤ ln_ad P v) := by
  unfold ln_bd
  rw [hp]
  simp [ho.1, ho.2]
section
variable {P : pg_P} {c : Nat → ln_V} {xL xC xW xA xP xN xF xR xB xD : Int32} {xo xa xb xc : Nat → Int32} {xsu xpd xrg : Nat → Int64} {xjn xst xpc xsp xre xme xma xun xta xkp xkm xkj : Nat → Int32}
theorem xr_valp {post : Int32 → Prop} (hL : pg_L P ≤ 8) {l p : Nat} (hl : l < pg_L P) (hpc : ln_pc (c l) = p) (hin : pg_in P p) (ho : 1 ≤ pg_o P p ∧ pg_o P p ≤ 11) (ha : rl_a P c xst xpc xre xme) (h : post (ln_vl P xun xta l (c l))) :
    wpX_aluValue post (nI (pg_L P), xC, xW, xA, xP, xN, xF, xR, xB, xD, xo, xa, xb, xc, xsu, xpd, xrg, xjn, xst, xpc, xsp, xre, xme, xma, xun, xta, xkp, xkm, xkj) (nI (pg_o P p)) (nI l) (nI (pg_b P p)) (pg_c P p) := by
  subst hpc
  exact xr_val hL hl hin ho ha h
theorem xr_alu {post : SX → Prop} (hx : px_ok P xo xa xb xc) (hL : pg_L P ≤ 8) (hn : pg_n P ≤ 32) {m : Int32} {p : Nat} (hp : p < pg_n P) (hin : pg_in P p) (ho : 1 ≤ pg_o P p ∧ pg_o P p ≤ 11) (hpc : ∀ l, l < pg_L P → bt m l = true → ln_pc (c l) = p) (ha : rl_a P c xst xpc xre xme)
    (h : ∀ re, rl_a P (mp_c m (al_g P xun xta) c (pg_L P)) xst xpc re xme → post (nI (pg_L P), xC, xW, xA, xP, xN, xF, xR, xB, xD, xo, xa, xb, xc, xsu, xpd, xrg, xjn, xst, xpc, xsp, re, xme, xma, xun, xta, xkp, xkm, xkj)) :
    wpX_carryAlu post (nI (pg_L P), xC, xW, xA, xP, xN, xF, xR, xB, xD, xo, xa, xb, xc, xsu, xpd, xrg, xjn, xst, xpc, xsp, xre, xme, xma, xun, xta, xkp, xkm, xkj) (nI (pg_o P p)) m (nI p) := by
  have hc : (nI p).toNatClampNeg = p := nI_clamp (by omega)
  have hv : vp_in (nI p) 32 := vp_in_nI (by omega) (by omega)
  obtain ⟨_, f2, f3, f4⟩ := hx p hp
  have a8 := hin.2.1
  unfold wpX_carryAlu
  refine ⟨hv, nm_e ⟨hv, nm_e ⟨hv, nm_e ?_⟩⟩⟩
  rw [hc, f2, f3, f4]
  refine loop_0 (fun n i (s : Nat → Int32) => wX_carryAlu_27 post (nI (pg_o P p)) m (nI (pg_a P p)) (nI (pg_b P p)) (pg_c P p) (nI (pg_L P)) xC xW xA xP xN xF xR xB xD n (nI i) xo xa xb xc xsu xpd xrg xjn xst xpc xsp s xme xma xun xta xkp xkm xkj) (fun i s => rl_a P (mp_c m (al_g P xun xta) c i) xst xpc s xme) (pg_L P) xre (by rw [mp_0]; exact ha) ?_ ?_
  · intro n s hs
    exact br_t (nI_le (Nat.le_refl _) (by omega)) (h s hs)
  · intro n i s hi hs ih
    refine br_f (nI_ge hi (by omega)) ?_
    by_cases hb : bt m i = true
    · have pi := hpc i hi hb
      refine br_f (fun w => (bi_zt m (by omega)).mp w hb) ?_
      refine xr_valp (c := mp_c m (al_g P xun xta) c i) hL hi (by rw [mp_at]; exact pi) hin ho hs ⟨by rw [ix_8]; exact vp_in_nI (by omega) (by omega), nm_e (nm_r (nI_1 i) (ih _ ?_))⟩
      rw [ix_8, nI_clamp (by omega)]
      have e := rl_re (i := i) hs a8 (ln_vl P xun xta i (mp_c m (al_g P xun xta) c i i))
      rw [mp_at] at e
      rw [mp_s1 hb, mp_at]
      have e2 : al_g P xun xta i (c i) = ((c i).1, (c i).2.1, (c i).2.2.1, upd (ln_rg (c i)) (pg_a P p) (ln_vl P xun xta i (c i)), (c i).2.2.2.2) := by unfold al_g; rw [pi]
      rw [e2]
      exact e
    · refine br_t ((bi_zt m (by omega)).mpr hb) (nm_r (nI_1 i) (ih s ?_))
      rw [mp_s0 hb]
      exact hs
/-- a good access -/
theorem xr_acc {post : SX → Prop} (hL : pg_L P ≤ 8) {l p k : Nat} (hl : l < pg_L P) (hpc : ln_pc (c l) = p) (hin : pg_in P p) (ho : 12 ≤ pg_o P p ∧ pg_o P p ≤ 14) (hk : k < 16) (had : ln_ad P (c l) = nI k) (ha : rl_a P c xst xpc xre xme)
    (h : ∀ re me, rl_a P (cs_set c l ((c l).1, (c l).2.1, (c l).2.2.1, upd (ln_rg (c l)) (pg_a P p) (ln_vl P xun xta l (c l)), if pg_o P p = 14 then upd (ln_mm (c l)) k (ln_rg (c l) (pg_a P p)) else ln_mm (c l), (c l).2.2.2.2.2)) xst xpc re me → post (nI (pg_L P), xC, xW, xA, xP, xN, xF, xR, xB, xD, xo, xa, xb, xc, xsu, xpd, xrg, xjn, xst, xpc, xsp, re, me, xma, xun, xta, xkp, xkm, xkj)) :
    wpX_access post (nI (pg_L P), xC, xW, xA, xP, xN, xF, xR, xB, xD, xo, xa, xb, xc, xsu, xpd, xrg, xjn, xst, xpc, xsp, xre, xme, xma, xun, xta, xkp, xkm, xkj) (nI (pg_o P p)) (nI l) (nI (pg_a P p)) (nI k) := by
  have a8 := hin.2.1
  have vr : vp_in (nI (8 * l + pg_a P p)) 64 := vp_in_nI (by omega) (by omega)
  have cr : (nI (8 * l + pg_a P p)).toNatClampNeg = 8 * l + pg_a P p := nI_clamp (by omega)
  have vm : vp_in (nI (16 * l + k)) 128 := vp_in_nI (by omega) (by omega)
  have cm : (nI (16 * l + k)).toNatClampNeg = 16 * l + k := nI_clamp (by omega)
  have ck : (nI k).toNatClampNeg = k := nI_clamp (by omega)
  have vl : ln_vl P xun xta l (c l) = if pg_o P p = 12 then xta k else if pg_o P p = 13 then ln_mm (c l) k else ln_rg (c l) (pg_a P p) := by
    unfold ln_vl
    rw [hpc, had, ck, if_neg (by omega), if_neg (by omega), if_neg (by omega), if_neg (by omega), if_neg (by omega), if_neg (by omega), if_neg (by omega), if_neg (by omega), if_neg (by omega), if_neg (by omega), if_neg (by omega)]
  rw [vl] at h
  unfold wpX_access
  refine nm_r (ix_8 l _) ?_
  rw [ix_16, cr, cm, ck]
  refine pk_eq (pg_o P p) 12 (fun z => ⟨vp_in_nI hk (by omega), vr, nm_e (h _ xme ?_)⟩) (fun z => pk_eq (pg_o P p) 13 (fun y => ⟨vm, vr, nm_e (h _ xme ?_)⟩) (fun y => ⟨vr, vm, nm_e (h xre _ ?_)⟩))
  · rw [if_pos z, if_neg (by omega)]
    exact rl_re ha a8 _
  · rw [if_neg z, if_pos y, if_neg (by omega), (ha l hl).2.2.2 k hk]
    exact rl_re ha a8 _
  · rw [if_neg z, if_neg y, if_pos (by omega), up_self, (ha l hl).2.2.1 _ a8]
    exact rl_me ha hk _
theorem xr_mem {post : SX → Prop} (hx : px_ok P xo xa xb xc) (hL : pg_L P ≤ 8) (hn : pg_n P ≤ 32) (hw : pg_w P ≤ 16) {m : Int32} {p : Nat} (hp : p < pg_n P) (hin : pg_in P p) (ho : 12 ≤ pg_o P p ∧ pg_o P p ≤ 14) (hpc : ∀ l, l < pg_L P → bt m l = true → ln_pc (c l) = p) (ha : rl_a P c xst xpc xre xme) (hr : rb_r P c xR)
    (h : ∀ R st re me, rl_a P (mp_c m (me_g P xun xta) c (pg_L P)) st xpc re me → rb_r P (mp_c m (me_g P xun xta) c (pg_L P)) R → post (nI (pg_L P), xC, nI (pg_w P), xA, xP, xN, xF, R, xB, xD, xo, xa, xb, xc, xsu, xpd, xrg, xjn, st, xpc, xsp, re, me, xma, xun, xta, xkp, xkm, xkj)) :
    wpX_carryMemory post (nI (pg_L P), xC, nI (pg_w P), xA, xP, xN, xF, xR, xB, xD, xo, xa, xb, xc, xsu, xpd, xrg, xjn, xst, xpc, xsp, xre, xme, xma, xun, xta, xkp, xkm, xkj) (nI (pg_o P p)) m (nI p) := by
  have hc : (nI p).toNatClampNeg = p := nI_clamp (by omega)
  have hv : vp_in (nI p) 32 := vp_in_nI (by omega) (by omega)
  obtain ⟨_, f2, f3, f4⟩ := hx p hp
  have a8 := hin.2.1
  have b8 := hin.2.2.1
  have go : ∃ n, wX_carryMemory_20 post (nI (pg_o P p)) m (nI p) (ln_lm P p) n 0 (nI (pg_L P)) xC (nI (pg_w P)) xA xP xN xF xR xB xD xo xa xb xc xsu xpd xrg xjn xst xpc xsp xre xme xma xun xta xkp xkm xkj := by
    refine loop_0 (fun n i (s : Int32 × (Nat → Int32) × (Nat → Int32) × (Nat → Int32)) => wX_carryMemory_20 post (nI (pg_o P p)) m (nI p) (ln_lm P p) n (nI i) (nI (pg_L P)) xC (nI (pg_w P)) xA xP xN xF s.1 xB xD xo xa xb xc xsu xpd xrg xjn s.2.1 xpc xsp s.2.2.1 s.2.2.2 xma xun xta xkp xkm xkj) (fun i s => rl_a P (mp_c m (me_g P xun xta) c i) s.2.1 xpc s.2.2.1 s.2.2.2 ∧ rb_r P (mp_c m (me_g P xun xta) c i) s.1) (pg_L P) (xR, xst, xre, xme) ⟨by rw [mp_0]; exact ha, by rw [mp_0]; exact hr⟩ ?_ ?_
    · intro n s ⟨h1, h2⟩
      exact br_t (nI_le (Nat.le_refl _) (by omega)) (h _ _ _ _ h1 h2)
    · intro n i s hi ⟨h1, h2⟩ ih
      obtain ⟨R, st, re, me⟩ := s
      dsimp only at h1 h2 ih ⊢
      refine br_f (nI_ge hi (by omega)) ?_
      by_cases hb : bt m i = true
      · have pi := hpc i hi hb
        have er : re (nI (8 * i + pg_b P p)).toNatClampNeg = ln_rg (c i) (pg_b P p) := by
          rw [nI_clamp (by omega)]
          have := (h1 i hi).2.2.1 _ b8
          rw [mp_at] at this
          exact this
        have ead : ln_rg (c i) (pg_b P p) + pg_c P p = ln_ad P (c i) := by unfold ln_ad; rw [pi]
        refine br_f (fun w => (bi_zt m (by omega)).mp w hb) ⟨hv, ?_⟩
        rw [hc, f3, f4, f2, ix_8, er, ead]
        have bad : ln_bd P (c i) = true → wX_carryMemory_76 post (wX_carryMemory_20 post (nI (pg_o P p)) m (nI p) (ln_lm P p) n) (nI (pg_o P p)) m (nI p) (ln_lm P p) (nI i) (nI (pg_L P)) xC (nI (pg_w P)) xA xP xN xF R xB xD xo xa xb xc xsu xpd xrg xjn st xpc xsp re me xma xun xta xkp xkm xkj := by
          intro hbd
          have e : mp_c m (me_g P xun xta) c (i + 1) = cs_set (mp_c m (me_g P xun xta) c i) i (3, (mp_c m (me_g P xun xta) c i i).2) := by
            rw [mp_s1 hb, mp_at]
            congr 1
            exact if_pos hbd
          refine And.intro (vp_in_nI (by omega) (by omega)) (nm_e (nm_e (nm_r (nI_1 i) (ih (R &&& (((1 : Int32) <<< (nI i &&& 31)) ^^^ (-1)), upd st (nI i).toNatClampNeg 3, re, me) ⟨?_, ?_⟩))))
          · dsimp only
            rw [e, nI_clamp (by omega)]
            exact rl_st h1 3
          · dsimp only
            rw [e]
            exact rb_stop h2 (by omega) (by show ¬ (3 : Int32) = 1; decide)
        have bd := ln_bdp (P := P) pi ho
        refine ⟨vp_in_nI (by omega) (by omega), hv, nm_e (br_c (fun z => bad (bd.mpr (Or.inl z))) (fun z0 => br_c (fun z1 => ⟨hv, ?_⟩) (fun z1 => bad (bd.mpr (Or.inr (Int32.not_lt.mp z1))))))⟩
        have nbd : ¬ ln_bd P (c i) = true := fun w => by
          rcases bd.mp w with q | q
          · exact z0 q
          · exact absurd z1 (Int32.not_lt.mpr q)
        obtain ⟨k, hk31, ek⟩ := nI_of z0
        have hk : k < 16 := by
          rw [ek] at z1
          unfold ln_lm at z1
          by_cases o12 : pg_o P p = 12
          · rw [if_pos o12] at z1
            exact (nI_ltI (b := 16) hk31 (by omega)).mp z1
          · rw [if_neg o12] at z1
            have := (nI_ltI hk31 (by omega)).mp z1
            omega
        rw [ek]
        refine xr_acc (c := mp_c m (me_g P xun xta) c i) (k := k) hL hi (by rw [mp_at]; exact pi) hin ho hk (by rw [mp_at]; exact ek) h1 (fun re' me' h3 => nm_r (nI_1 i) (ih (R, st, re', me') ⟨?_, ?_⟩))
        · dsimp only
          rw [mp_at] at h3
          have e : me_g P xun xta i (c i) = ((c i).1, (c i).2.1, (c i).2.2.1, upd (ln_rg (c i)) (pg_a P p) (ln_vl P xun xta i (c i)), if pg_o P p = 14 then upd (ln_mm (c i)) k (ln_rg (c i) (pg_a P p)) else ln_mm (c i), (c i).2.2.2.2.2) := by
            unfold me_g
            rw [if_neg nbd, pi, ek, nI_clamp hk31]
          rw [mp_s1 hb, e]
          exact h3
        · dsimp only
          rw [mp_s1 hb]
          refine rb_keep h2 ?_
          rw [mp_at]
          unfold me_g
          rw [if_neg nbd]
          rfl
      · refine br_t ((bi_zt m (by omega)).mpr hb) (nm_r (nI_1 i) (ih (R, st, re, me) ?_))
        rw [mp_s0 hb]
        exact ⟨h1, h2⟩
  unfold wpX_carryMemory
  unfold ln_lm at go
  by_cases o12 : pg_o P p = 12
  · rw [if_pos o12] at go
    exact br_t (by rw [o12]; rfl) go
  · rw [if_neg o12] at go
    exact br_f (fun z => o12 ((nI_eq (b := 12) (by omega) (by omega)).mp z)) go
theorem xr_sync {post : SX → Prop} (hx : px_ok P xo xa xb xc) (hL : pg_L P ≤ 8) (hn : pg_n P ≤ 32) {m : Int32} {p : Nat} (hp : p < pg_n P) (hin : pg_in P p) (ho : 20 ≤ pg_o P p) (ha : rl_a P c xst xpc xre xme) (hm : ∀ l, l < pg_L P → (bt m l = true ↔ ln_st (c l) = 1))
    (h : post (nI (pg_L P), xC, xW, xA, xP, xN, xF, xR, sy_b P xB p, xD, xo, xa, xb, xc, xsu, xpd, xrg, xjn, xst, xpc, xsp, xre, xme, xma, sy_u P c xun p, xta, xkp, xkm, xkj)) :
    wpX_carrySync post (nI (pg_L P), xC, xW, xA, xP, xN, xF, xR, xB, xD, xo, xa, xb, xc, xsu, xpd, xrg, xjn, xst, xpc, xsp, xre, xme, xma, xun, xta, xkp, xkm, xkj) (nI (pg_o P p)) m (nI p) := by
  have hc : (nI p).toNatClampNeg = p := nI_clamp (by omega)
  have hv : vp_in (nI p) 32 := vp_in_nI (by omega) (by omega)
  obtain ⟨_, f2, f3, f4⟩ := hx p hp
  obtain ⟨i1, i2, i3, i4, i5, i6, i7⟩ := hin
  unfold wpX_carrySync
  refine ⟨hv, nm_e ⟨hv, nm_e ⟨hv, nm_e ?_⟩⟩⟩
  rw [hc, f2, f3, f4]
  unfold sy_b sy_u at h
  have hh : pg_o P p = 20 ∨ pg_o P p = 21 ∨ pg_o P p = 22 ∨ pg_o P p = 23 ∨ pg_o P p = 24 := by omega
  rcases hh with e | e | e | e | e
  · rw [e] at h ⊢
    exact br_f (by decide) (br_f (by decide) (br_t rfl (nm_e h)))
  · have a4 := i4 (by omega)
    rw [e] at h ⊢
    refine br_f (by decide) (br_f (by decide) (br_f (by decide) (br_t rfl ?_)))
    refine xr_ball hL i3 ha ⟨vp_in_nI a4 (by omega), nm_e ?_⟩
    rw [nI_clamp (by omega)]
    have ev : nI (bm_m (fun l => bt m l && !decide (ln_rg (c l) (pg_b P p) = 0)) (pg_L P)) = sy_v P c p := by
      unfold sy_v
      congr 1
      refine bm_ext _ (fun l hl => ?_)
      congr 1
      have := hm l hl
      by_cases q : ln_st (c l) = 1
      · rw [this.mpr q]; simp [q]
      · have : bt m l = false := by
          cases w : bt m l
          · rfl
          · exact absurd (this.mp w) q
        rw [this]; simp [q]
    rw [ev]
    exact h
  · have a4 := i4 (by omega)
    rw [e] at h ⊢
    refine br_f (by decide) (br_f (by decide) (br_f (by decide) (br_f (by decide) (br_t rfl ⟨vp_in_nI a4 (by omega), nm_e ?_⟩))))
    rw [nI_clamp (by omega)]
    exact h
  · have a4 := i4 (by omega)
    have b4 := i5 (by omega)
    rw [e] at h ⊢
    refine br_f (by decide) (br_f (by decide) (br_f (by decide) (br_f (by decide) (br_f (by decide) (br_t rfl ⟨vp_in_nI b4 (by omega), vp_in_nI a4 (by omega), nm_e ?_⟩)))))
    rw [nI_clamp (by omega), nI_clamp (by omega)]
    exact h
  · have a4 := i4 (by omega)
    have b4 := i5 (by omega)
    obtain ⟨k, hk, ek⟩ := i7 e
    have tg : pg_tg P p = k := by unfold pg_tg; rw [ek, nI_clamp (by omega)]
    rw [tg] at h
    rw [e] at h ⊢
    rw [ek]
    refine br_f (by decide) (br_f (by decide) (br_f (by decide) (br_f (by decide) (br_f (by decide) (br_f (by decide) (br_t rfl ⟨vp_in_nI b4 (by omega), vp_in_nI hk (by omega), vp_in_nI a4 (by omega), nm_e ?_⟩))))))
    rw [nI_clamp (by omega), nI_clamp (by omega), nI_clamp (by omega)]
    exact h
end
end
section
/-! own rows: one instruction of the class for the lanes of a mask is one step of each -/
def tu_t (P : pg_P) (u : Nat → Int32) (p : Nat) : Nat :=
  if pg_o P p = 0 then pg_n P else if pg_o P p = 15 ∨ (pg_o P p = 18 ∧ u (pg_a P p) = 0) ∨ (pg_o P p = 19 ∧ ¬ u (pg_a P p) = 0) then pg_tg P p else p + 1
section
variable {P : pg_P} {u t : Nat → Int32} {l p : Nat} {v : ln_V}
theorem tu_nx (hp : ln_pc v = p) (hb : ¬ pr_br P p) : ln_nx P u v = tu_t P u p := by
  unfold ln_nx tu_t
  rw [hp]
  by_cases c0 : pg_o P p = 0
  · rw [if_pos c0, if_pos c0]
  · rw [if_neg c0, if_neg c0]
    have e : ln_tk P u v = true ↔ (pg_o P p = 15 ∨ (pg_o P p = 18 ∧ u (pg_a P p) = 0) ∨ (pg_o P p = 19 ∧ ¬ u (pg_a P p) = 0)) := by
      unfold ln_tk pr_br at *
      rw [hp]
      simp only [Bool.or_eq_true, Bool.and_eq_true, decide_eq_true_eq, Bool.not_eq_true', decide_eq_false_iff_not]
      constructor
      · intro h
        rcases h with (((h | h) | h) | h) | h
        · exact Or.inl h
        · exact absurd (Or.inl h.1) hb
        · exact absurd (Or.inr h.1) hb
        · exact Or.inr (Or.inl h)
        · exact Or.inr (Or.inr h)
      · intro h
        rcases h with h | h | h
        · exact Or.inl (Or.inl (Or.inl (Or.inl h)))
        · exact Or.inl (Or.inr h)
        · exact Or.inr h
    by_cases c1 : ln_tk P u v = true
    · rw [if_pos c1, if_pos (e.mp c1)]
    · rw [if_neg c1, if_neg (fun z => c1 (e.mpr z))]
theorem st_vl0 (hp : ln_pc v = p) (ho : pg_o P p = 0 ∨ 14 ≤ pg_o P p) : ln_vl P u t l v = ln_rg v (pg_a P p) := by
  unfold ln_vl
  rw [hp, if_neg (by omega), if_neg (by omega), if_neg (by omega), if_neg (by omega), if_neg (by omega), if_neg (by omega), if_neg (by omega), if_neg (by omega), if_neg (by omega), if_neg (by omega), if_neg (by omega), if_neg (by omega), if_neg (by omega)]
theorem st_simple (hs : ln_st v = 1) (hp : ln_pc v = p) (ho : pg_o P p = 0 ∨ 15 ≤ pg_o P p) (hn : ln_nx P u v ≤ pg_n P) : pl_g (pg_n P) (ln_nx P u v) l (nt_g p l v) = ln_step P u t l v := by
  have hb : ln_bd P v = false := ln_bd0 v (by rw [hp]; omega)
  have hpl : pl_g (pg_n P) (ln_nx P u v) l (nt_g p l v) = (if pg_n P ≤ ln_nx P u v then 2 else (nt_g p l v).1, ln_nx P u v, (nt_g p l v).2.2) := if_pos hs
  rw [hpl]
  unfold ln_step
  rw [if_neg (show ¬ ln_bd P v = true by rw [hb]; exact Bool.noConfusion), st_vl0 hp (by omega), hp, up_self, if_neg (show ¬ pg_o P p = 14 by omega)]
  have e : (if pg_n P ≤ ln_nx P u v then (2 : Int32) else (nt_g p l v).1) = if ln_nx P u v = pg_n P then 2 else ln_st v := by
    by_cases z : ln_nx P u v = pg_n P
    · rw [if_pos z, if_pos (by omega)]
    · rw [if_neg z, if_neg (by omega)]; rfl
  rw [e]
  rfl
theorem st_nx1 (hp : ln_pc v = p) (ho : 1 ≤ pg_o P p ∧ pg_o P p ≤ 14) : ln_nx P u v = p + 1 := by
  rw [tu_nx hp (by unfold pr_br; omega)]
  unfold tu_t
  rw [if_neg (by omega), if_neg (by omega)]
theorem st_alu (hs : ln_st v = 1) (hp : ln_pc v = p) (ho : 1 ≤ pg_o P p ∧ pg_o P p ≤ 11) (hn : p < pg_n P) : pl_g (pg_n P) (p + 1) l (al_g P u t l (nt_g p l v)) = ln_step P u t l v := by
  have hb : ln_bd P v = false := ln_bd0 v (by rw [hp]; omega)
  have hpl : pl_g (pg_n P) (p + 1) l (al_g P u t l (nt_g p l v)) = (if pg_n P ≤ p + 1 then 2 else (al_g P u t l (nt_g p l v)).1, p + 1, (al_g P u t l (nt_g p l v)).2.2) := if_pos hs
  rw [hpl]
  unfold ln_step
  rw [if_neg (show ¬ ln_bd P v = true by rw [hb]; exact Bool.noConfusion), st_nx1 hp (by omega), hp, if_neg (show ¬ pg_o P p = 14 by omega)]
  have e : (if pg_n P ≤ p + 1 then (2 : Int32) else (al_g P u t l (nt_g p l v)).1) = if p + 1 = pg_n P then 2 else ln_st v := by
    by_cases z : p + 1 = pg_n P
    · rw [if_pos z, if_pos (by omega)]
    · rw [if_neg z, if_neg (by omega)]; rfl
  rw [e, ← hp]
  rfl
theorem st_mem (hs : ln_st v = 1) (hp : ln_pc v = p) (ho : 12 ≤ pg_o P p ∧ pg_o P p ≤ 14) (hn : p < pg_n P) : pl_g (pg_n P) (p + 1) l (me_g P u t l (nt_g p l v)) = ln_step P u t l v := by
  have hb' : ln_bd P (nt_g p l v) = ln_bd P v := rfl
  unfold ln_step
  cases hb : ln_bd P v
  · have hme : me_g P u t l (nt_g p l v) = ((nt_g p l v).1, (nt_g p l v).2.1, (nt_g p l v).2.2.1, upd (ln_rg v) (pg_a P (ln_pc v)) (ln_vl P u t l v), if pg_o P (ln_pc v) = 14 then upd (ln_mm v) (ln_ad P v).toNatClampNeg (ln_rg v (pg_a P (ln_pc v))) else ln_mm v, (nt_g p l v).2.2.2.2.2) := if_neg (by rw [hb', hb]; exact Bool.noConfusion)
    rw [hme, if_neg (show ¬ false = true from Bool.noConfusion), st_nx1 hp (by omega)]
    unfold pl_g
    rw [if_pos (show ln_st ((nt_g p l v).1, (nt_g p l v).2.1, (nt_g p l v).2.2.1, upd (ln_rg v) (pg_a P (ln_pc v)) (ln_vl P u t l v), if pg_o P (ln_pc v) = 14 then upd (ln_mm v) (ln_ad P v).toNatClampNeg (ln_rg v (pg_a P (ln_pc v))) else ln_mm v, (nt_g p l v).2.2.2.2.2) = 1 from hs)]
    have e : (if pg_n P ≤ p + 1 then (2 : Int32) else (nt_g p l v).1) = if p + 1 = pg_n P then 2 else ln_st v := by
      by_cases z : p + 1 = pg_n P
      · rw [if_pos z, if_pos (by omega)]
      · rw [if_neg z, if_neg (by omega)]; rfl
    dsimp only
    rw [e]
    have hq : ln_pc v = p := hp
    rw [← hp]
    rfl
  · have hme : me_g P u t l (nt_g p l v) = (3, (nt_g p l v).2) := if_pos (by rw [hb', hb])
    rw [hme, if_pos rfl]
    unfold pl_g
    rw [if_neg (show ¬ ln_st ((3, (nt_g p l v).2) : ln_V) = 1 by show ¬ (3 : Int32) = 1; decide), ← hp]
    rfl
end
section
variable {P : pg_P} {c : Nat → ln_V} {xL xC xW xA xP xN xF xR xB xD : Int32} {xo xa xb xc : Nat → Int32} {xsu xpd xrg : Nat → Int64} {xjn xst xpc xsp xre xme xma xun xta xkp xkm xkj : Nat → Int32}
theorem xo_175 {post : Int32 → SX → Prop} (hL : pg_L P ≤ 8) (hn : pg_n P ≤ 32) {m : Int32} {k o t : Nat} (hk : k < 24) (ho : o ≤ 24) (ht : t ≤ 33) (ha : rl_a P c xst xpc xre xme) (hr : rb_r P c xR)
    (h : ∀ R st pc, rl_a P (mp_c m (pl_g (pg_n P) t) c (pg_L P)) st pc xre xme → rb_r P (mp_c m (pl_g (pg_n P) t) c (pg_L P)) R → post (if o = 20 then 1 else 0) (nI (pg_L P), xC, xW, xA, xP, nI (pg_n P), xF, R, xB, xD, xo, xa, xb, xc, xsu, xpd, xrg, xjn, st, pc, xsp, xre, xme, xma, xun, xta, upd xkp k (nI t), xkm, xkj)) :
    wX_carryOut_175 post (nI k) m (nI o) (nI t) (nI (pg_L P)) xC xW xA xP (nI (pg_n P)) xF xR xB xD xo xa xb xc xsu xpd xrg xjn xst xpc xsp xre xme xma xun xta xkp xkm xkj := by
  refine ⟨vp_in_nI hk (by omega), nm_e ?_⟩
  rw [nI_clamp (by omega)]
  refine xr_place hL hn (by omega) ha hr (fun R st pc h1 h2 => pk_eq o 20 (fun z => ?_) (fun z => ?_))
  · have := h R st pc h1 h2
    rw [if_pos z] at this
    exact this
  · have := h R st pc h1 h2
    rw [if_neg z] at this
    exact this
/-- carryOut, no lane branch: behind the note; c: the lanes ahead of the note -/
theorem xo_out {post : Int32 → SX → Prop} (hx : px_ok P xo xa xb xc) (hL : pg_L P ≤ 8) (hn : pg_n P ≤ 32) (hw : pg_w P ≤ 16) (htk : pg_tok P) {m : Int32} {k p : Nat} (hk : k < 24) (hp : p < pg_n P) (hin : pg_in P p) (hbr : ¬ pr_br P p) (hpc : ∀ l, l < pg_L P → bt m l = true → ln_pc (c l) = p ∧ ln_st (c l) = 1) (hm20 : 20 ≤ pg_o P p → ∀ l, l < pg_L P → (bt m l = true ↔ ln_st (c l) = 1))
    (ha : rl_a P (mp_c m (nt_g p) c (pg_L P)) xst xpc xre xme) (hr : rb_r P (mp_c m (nt_g p) c (pg_L P)) xR)
    (h : ∀ R st pc re me, rl_a P (mp_c m (ln_step P xun xta) c (pg_L P)) st pc re me → rb_r P (mp_c m (ln_step P xun xta) c (pg_L P)) R → post (if pg_o P p = 20 then 1 else 0) (nI (pg_L P), xC, nI (pg_w P), xA, xP, nI (pg_n P), xF, R, if 20 ≤ pg_o P p then sy_b P xB p else xB, xD, xo, xa, xb, xc, xsu, xpd, xrg, xjn, st, pc, xsp, re, me, xma, if 20 ≤ pg_o P p then sy_u P c xun p else xun, xta, upd xkp k (nI (tu_t P xun p)), xkm, xkj)) :
    wpX_carryOut post (nI (pg_L P), xC, nI (pg_w P), xA, xP, nI (pg_n P), xF, xR, xB, xD, xo, xa, xb, xc, xsu, xpd, xrg, xjn, xst, xpc, xsp, xre, xme, xma, xun, xta, xkp, xkm, xkj) (nI k) m (nI p) := by
  have hc : (nI p).toNatClampNeg = p := nI_clamp (by omega)
  have hv : vp_in (nI p) 32 := vp_in_nI (by omega) (by omega)
  obtain ⟨f1, f2, f3, f4⟩ := hx p hp
  have o24 := hin.1
  have pc1 : ∀ l, l < pg_L P → bt m l = true → ln_pc (mp_c m (nt_g p) c (pg_L P) l) = p := fun l hl hb => by rw [mp_in hl hb]; exact (hpc l hl hb).1
  have tle : tu_t P xun p ≤ pg_n P := by
    have := ln_nxle (u := xun) htk ((1, p, 0, fun _ => 0, fun _ => 0, fun _ => 0) : ln_V) hp o24
    rw [tu_nx (p := p) rfl hbr] at this
    exact this
  -- the ops that leave registers and memory alone
  have simple : (pg_o P p = 0 ∨ 15 ≤ pg_o P p) → mp_c m (pl_g (pg_n P) (tu_t P xun p)) (mp_c m (nt_g p) c (pg_L P)) (pg_L P) = mp_c m (ln_step P xun xta) c (pg_L P) := by
    intro ho
    rw [mp_mp]
    refine mp_ext (fun l hl hb => ?_)
    have q := hpc l hl hb
    have nx := tu_nx (u := xun) q.1 hbr
    rw [← nx]
    exact st_simple q.2 q.1 ho (by rw [nx]; exact tle)
  have tail : pg_o P p < 20 → (pg_o P p = 0 ∨ 15 ≤ pg_o P p) → wX_carryOut_175 post (nI k) m (nI (pg_o P p)) (nI (tu_t P xun p)) (nI (pg_L P)) xC (nI (pg_w P)) xA xP (nI (pg_n P)) xF xR xB xD xo xa xb xc xsu xpd xrg xjn xst xpc xsp xre xme xma xun xta xkp xkm xkj := by
    intro h20 ho
    refine xo_175 hL hn hk o24 (by omega) ha hr (fun R st pc h1 h2 => ?_)
    rw [simple ho] at h1 h2
    have := h R st pc xre xme h1 h2
    rw [if_neg (show ¬ 20 ≤ pg_o P p by omega), if_neg (show ¬ 20 ≤ pg_o P p by omega)] at this
    exact this
  unfold wpX_carryOut
  refine ⟨hv, nm_e ?_⟩
  rw [hc, f1, f4]
  unfold pr_br at hbr
  refine pk_eq (pg_o P p) 16 (fun z => absurd (Or.inl z) hbr) (fun n16 => pk_eq (pg_o P p) 17 (fun z => absurd (Or.inr z) hbr) (fun n17 => nm_r (nI_1 p) ?_))
  refine pk_eq (pg_o P p) 0 (fun z => ?_) (fun n0 => pk_eq (pg_o P p) 15 (fun z => ⟨hv, nm_e ?_⟩) (fun n15 => ?_))
  · have e : tu_t P xun p = pg_n P := if_pos z
    have := tail (by omega) (Or.inl z)
    rw [e] at this
    exact this
  · have e : tu_t P xun p = pg_tg P p := by unfold tu_t; rw [if_neg (by omega), if_pos (Or.inl z)]
    have := tail (by omega) (Or.inr (by omega))
    rw [e] at this
    rw [(htk p hp (by omega) (by omega)).1]
    exact this
  -- the uniform branches
  have ubr : (pg_o P p = 18 ∨ pg_o P p = 19) → wX_carryOut_82 post (nI k) m (nI p) (nI (pg_o P p)) (nI (p + 1)) (nI (pg_L P)) xC (nI (pg_w P)) xA xP (nI (pg_n P)) xF xR xB xD xo xa xb xc xsu xpd xrg xjn xst xpc xsp xre xme xma xun xta xkp xkm xkj := by
    intro ho
    have a4 := hin.2.2.2.1 (by omega)
    refine ⟨hv, ?_⟩
    rw [hc, f2]
    refine ⟨vp_in_nI a4 (by omega), ?_⟩
    rw [nI_clamp (by omega)]
    have tl := tail (by omega) (Or.inr (by omega))
    have c117 : ∀ z0 z1 : Int32, (z1 = z0 ↔ tu_t P xun p = pg_tg P p ∧ (pg_o P p = 15 ∨ (pg_o P p = 18 ∧ xun (pg_a P p) = 0) ∨ (pg_o P p = 19 ∧ ¬ xun (pg_a P p) = 0))) → wX_carryOut_117 post (nI k) m (nI p) (nI (pg_o P p)) (nI (p + 1)) z0 z1 (nI (pg_L P)) xC (nI (pg_w P)) xA xP (nI (pg_n P)) xF xR xB xD xo xa xb xc xsu xpd xrg xjn xst xpc xsp xre xme xma xun xta xkp xkm xkj := by
      intro z0 z1 hz
      refine br_c (fun q => ⟨hv, nm_e ?_⟩) (fun q => ?_)
      · rw [hc, f4, (htk p hp (by omega) (by omega)).1]
        have := (hz.mp q).1
        rw [this] at tl
        exact tl
      · have e : tu_t P xun p = p + 1 := by
          unfold tu_t at hz ⊢
          rw [if_neg n0] at hz ⊢
          by_cases y : pg_o P p = 15 ∨ (pg_o P p = 18 ∧ xun (pg_a P p) = 0) ∨ (pg_o P p = 19 ∧ ¬ xun (pg_a P p) = 0)
          · rw [if_pos y] at hz; exact absurd (hz.mpr ⟨rfl, y⟩) q
          · rw [if_neg y]
        rw [e] at tl
        exact tl
    have te : (pg_o P p = 15 ∨ (pg_o P p = 18 ∧ xun (pg_a P p) = 0) ∨ (pg_o P p = 19 ∧ ¬ xun (pg_a P p) = 0)) → tu_t P xun p = pg_tg P p := by
      intro y
      unfold tu_t
      rw [if_neg n0, if_pos y]
    refine br_c (fun q => ?_) (fun q => ?_)
    · refine pk_eq (pg_o P p) 18 (fun z => c117 1 1 ⟨fun _ => ?_, fun _ => rfl⟩) (fun z => c117 0 1 ⟨fun w => absurd w (by decide), fun w => ?_⟩)
      · have : pg_o P p = 15 ∨ (pg_o P p = 18 ∧ xun (pg_a P p) = 0) ∨ (pg_o P p = 19 ∧ ¬ xun (pg_a P p) = 0) := Or.inr (Or.inl ⟨z, q⟩)
        exact ⟨te this, this⟩
      · rcases w.2 with w | w | w
        · omega
        · omega
        · exact absurd q w.2
    · refine pk_eq (pg_o P p) 18 (fun z => c117 1 0 ⟨fun w => absurd w (by decide), fun w => ?_⟩) (fun z => c117 0 0 ⟨fun _ => ?_, fun _ => rfl⟩)
      · rcases w.2 with w | w | w
        · omega
        · exact absurd w.2 q
        · omega
      · have : pg_o P p = 15 ∨ (pg_o P p = 18 ∧ xun (pg_a P p) = 0) ∨ (pg_o P p = 19 ∧ ¬ xun (pg_a P p) = 0) := Or.inr (Or.inr ⟨by omega, q⟩)
        exact ⟨te this, this⟩
  refine pk_eq (pg_o P p) 18 (fun z => ubr (Or.inl z)) (fun n18 => pk_eq (pg_o P p) 19 (fun z => ubr (Or.inr z)) (fun n19 => ?_))
  have tp1 : tu_t P xun p = p + 1 := by unfold tu_t; rw [if_neg n0, if_neg (by omega)]
  refine pk_lt (pg_o P p) 20 (fun h20 => pk_lt (pg_o P p) 12 (fun h12 => ?_) (fun h12 => ?_)) (fun h20 => ?_)
  · refine xr_alu hx hL hn hp hin (by omega) pc1 ha (fun re h1 => ?_)
    refine xo_175 hL hn hk o24 (by omega) h1 (rb_mp hr (fun l hl => ?_)) (fun R st pc h3 h4 => ?_)
    · by_cases b : bt m l = true
      · rw [mp_in hl b]; rfl
      · rw [mp_out b]
    · have e : mp_c m (pl_g (pg_n P) (p + 1)) (mp_c m (al_g P xun xta) (mp_c m (nt_g p) c (pg_L P)) (pg_L P)) (pg_L P) = mp_c m (ln_step P xun xta) c (pg_L P) := by
        rw [mp_mp, mp_mp]
        exact mp_ext (fun l hl hb => st_alu (hpc l hl hb).2 (hpc l hl hb).1 (by omega) hp)
      rw [e] at h3 h4
      have := h R st pc re xme h3 h4
      rw [if_neg (show ¬ 20 ≤ pg_o P p by omega), if_neg (show ¬ 20 ≤ pg_o P p by omega), tp1] at this
      exact this
  · refine xr_mem hx hL hn hw hp hin (by omega) pc1 ha hr (fun R st re me h1 h2 => ?_)
    refine xo_175 hL hn hk o24 (by omega) h1 h2 (fun R st pc h3 h4 => ?_)
    have e : mp_c m (pl_g (pg_n P) (p + 1)) (mp_c m (me_g P xun xta) (mp_c m (nt_g p) c (pg_L P)) (pg_L P)) (pg_L P) = mp_c m (ln_step P xun xta) c (pg_L P) := by
      rw [mp_mp, mp_mp]
      exact mp_ext (fun l hl hb => st_mem (hpc l hl hb).2 (hpc l hl hb).1 (by omega) hp)
    rw [e] at h3 h4
    have := h R st pc re me h3 h4
    rw [if_neg (show ¬ 20 ≤ pg_o P p by omega), if_neg (show ¬ 20 ≤ pg_o P p by omega), tp1] at this
    exact this
  · have hm' : ∀ l, l < pg_L P → (bt m l = true ↔ ln_st (mp_c m (nt_g p) c (pg_L P) l) = 1) := fun l hl => by
      rw [hm20 h20 l hl]
      by_cases b : bt m l = true
      · rw [mp_in hl b]; exact Iff.rfl
      · rw [mp_out b]
    refine xr_sync hx hL hn hp hin h20 ha hm' ?_
    have es : sy_u P (mp_c m (nt_g p) c (pg_L P)) xun p = sy_u P c xun p := by
      unfold sy_u
      have ev : sy_v P (mp_c m (nt_g p) c (pg_L P)) p = sy_v P c p := by
        unfold sy_v
        congr 1
        refine bm_ext _ (fun l hl => ?_)
        by_cases b : bt m l = true
        · rw [mp_in hl b]; rfl
        · rw [mp_out b]
      rw [ev]
    rw [es]
    refine xo_175 hL hn hk o24 (by omega) ha hr (fun R st pc h3 h4 => ?_)
    rw [← tp1, simple (Or.inr (by omega))] at h3 h4
    have := h R st pc xre xme h3 h4
    rw [if_pos h20, if_pos h20, tp1] at this
    exact this
end
end
section
/-! own rows: the class's lane branch; a turn -/
theorem tk_br {P : pg_P} {u : Nat → Int32} {v : ln_V} {p : Nat} (hp : ln_pc v = p) (hb : pr_br P p) : ln_tk P u v = true ↔ (ln_rg v (pg_a P p) = 0 ↔ pg_o P p = 16) := by
  unfold ln_tk
  rw [hp]
  rcases hb with e | e
  · simp [e]
  · simp [e]
section
variable {P : pg_P} {c : Nat → ln_V} {xL xC xW xA xP xN xF xR xB xD : Int32} {xo xa xb xc : Nat → Int32} {xsu xpd xrg : Nat → Int64} {xjn xst xpc xsp xre xme xma xun xta xkp xkm xkj : Nat → Int32}
theorem xo_push {post : SX → Prop} {t : Nat} (ht : t < 24) {a b d : Int32} (h : post (xL, xC, xW, xA, xP, xN, xF, xR, xB, nI (t + 1), xo, xa, xb, xc, xsu, xpd, xrg, xjn, xst, xpc, xsp, xre, xme, xma, xun, xta, upd xkp t a, upd xkm t b, upd xkj t d)) : wpX_push post (xL, xC, xW, xA, xP, xN, xF, xR, xB, nI t, xo, xa, xb, xc, xsu, xpd, xrg, xjn, xst, xpc, xsp, xre, xme, xma, xun, xta, xkp, xkm, xkj) a b d := by
  have hc : (nI t).toNatClampNeg = t := nI_clamp (by omega)
  have hv : vp_in (nI t) 24 := vp_in_nI ht (by omega)
  unfold wpX_push
  refine br_f (nI_ge (b := 24) ht (by omega)) ⟨hv, nm_e ⟨hv, nm_e ⟨hv, nm_e (nm_r (nI_1 t) ?_)⟩⟩⟩
  rw [hc]
  exact h
theorem xo_br {post : SX → Prop} (hx : px_ok P xo xa xb xc) (hL : pg_L P ≤ 8) (hn : pg_n P ≤ 32) (htk : pg_tok P) (hjn : px_jn P xjn) {m : Int32} {t p : Nat} (ht : t < 24) (hp : p < pg_n P) (hin : pg_in P p) (hbr : pr_br P p) (hm : ∀ l, l < 32 → bt m l = true → l < pg_L P) (hpc : ∀ l, l < pg_L P → bt m l = true → ln_pc (c l) = p ∧ ln_st (c l) = 1)
    (ha : rl_a P (mp_c m (nt_g p) c (pg_L P)) xst xpc xre xme) (hr : rb_r P (mp_c m (nt_g p) c (pg_L P)) xR)
    (hroom : ∀ r x : Int32, (∀ l, l < 32 → (bt r l = true ↔ (bt m l = true ∧ ln_tk P xun (c l) = true))) → (∀ l, l < 32 → (bt x l = true ↔ (bt m l = true ∧ ¬ ln_tk P xun (c l) = true))) → ¬ r = 0 → ¬ x = 0 → t ≤ 12)
    (h1 : ∀ R st pc T, rl_a P (mp_c m (ln_step P xun xta) c (pg_L P)) st pc xre xme → rb_r P (mp_c m (ln_step P xun xta) c (pg_L P)) R → (∀ l, l < pg_L P → bt m l = true → ln_nx P xun (c l) = T) → pg_E P p T → post (nI (pg_L P), xC, xW, xA, xP, nI (pg_n P), xF, R, xB, nI (t + 1), xo, xa, xb, xc, xsu, xpd, xrg, xjn, st, pc, xsp, xre, xme, xma, xun, xta, upd xkp t (nI T), xkm, xkj))
    (h2 : ∀ R st pc r x, rl_a P (mp_c m (ln_step P xun xta) c (pg_L P)) st pc xre xme → rb_r P (mp_c m (ln_step P xun xta) c (pg_L P)) R → pg_tg P p ≠ p + 1 → (∀ l, l < 32 → (bt r l = true ↔ (bt m l = true ∧ ln_tk P xun (c l) = true))) → (∀ l, l < 32 → (bt x l = true ↔ (bt m l = true ∧ ¬ ln_tk P xun (c l) = true))) → ¬ r = 0 → ¬ x = 0 →
      post (nI (pg_L P), xC, xW, xA, xP, nI (pg_n P), xF, R, xB, nI (t + 3), xo, xa, xb, xc, xsu, xpd, xrg, xjn, st, pc, xsp, xre, xme, xma, xun, xta, upd (upd (upd xkp t (nI (pg_j P p))) (t + 1) (nI (pg_tg P p))) (t + 2) (nI (p + 1)), upd (upd xkm (t + 1) r) (t + 2) x, upd (upd xkj (t + 1) (nI (pg_j P p))) (t + 2) (nI (pg_j P p)))) :
    wpX_branch post (nI (pg_L P), xC, xW, xA, xP, nI (pg_n P), xF, xR, xB, nI (t + 1), xo, xa, xb, xc, xsu, xpd, xrg, xjn, xst, xpc, xsp, xre, xme, xma, xun, xta, xkp, xkm, xkj) (nI t) m (nI p) := by
  have hc : (nI p).toNatClampNeg = p := nI_clamp (by omega)
  have hct : (nI t).toNatClampNeg = t := nI_clamp (by omega)
  have hv : vp_in (nI p) 32 := vp_in_nI (by omega) (by omega)
  have hvt : vp_in (nI t) 24 := vp_in_nI ht (by omega)
  obtain ⟨f1, f2, f3, f4⟩ := hx p hp
  have ob : 16 ≤ pg_o P p ∧ pg_o P p ≤ 17 := by unfold pr_br at hbr; omega
  obtain ⟨t1, t2⟩ := htk p hp (by omega) (by omega)
  unfold wpX_branch
  refine xr_take (c := mp_c m (nt_g p) c (pg_L P)) hx hL hn hm hp hin ha (fun r hr1 => ?_)
  have br : ∀ l, l < 32 → (bt r l = true ↔ (bt m l = true ∧ ln_tk P xun (c l) = true)) := by
    intro l hl
    rw [hr1 l hl]
    constructor
    · intro z
      have hlL := hm l hl z.1
      refine ⟨z.1, (tk_br (hpc l hlL z.1).1 hbr).mpr ?_⟩
      have := z.2
      rw [mp_in hlL z.1] at this
      exact this
    · intro z
      have hlL := hm l hl z.1
      refine ⟨z.1, ?_⟩
      rw [mp_in hlL z.1]
      exact (tk_br (hpc l hlL z.1).1 hbr).mp z.2
  have bx : ∀ l, l < 32 → (bt (m &&& (r ^^^ (-1))) l = true ↔ (bt m l = true ∧ ¬ ln_tk P xun (c l) = true)) := by
    intro l hl
    rw [bi_andn m r hl, br l hl]
    exact ⟨fun z => ⟨z.1, fun w => z.2 ⟨z.1, w⟩⟩, fun z => ⟨z.1, fun w => z.2 w.2⟩⟩
  refine nm_e ⟨hv, nm_e (nm_r (nI_1 p) ?_)⟩
  rw [hc, f4, t1]
  generalize m &&& (r ^^^ (-1)) = x at bx
  refine xr_place hL hn (by omega) ha hr (fun R st pc a1 a2 => ?_)
  refine xr_place hL hn (by omega) a1 a2 (fun R st pc b1 b2 => ?_)
  have nxt : ∀ l, l < pg_L P → bt m l = true → ln_nx P xun (c l) = if ln_tk P xun (c l) = true then pg_tg P p else p + 1 := by
    intro l hl hb
    unfold ln_nx
    rw [(hpc l hl hb).1, if_neg (by omega)]
  have e3 : mp_c x (pl_g (pg_n P) (p + 1)) (mp_c r (pl_g (pg_n P) (pg_tg P p)) (mp_c m (nt_g p) c (pg_L P)) (pg_L P)) (pg_L P) = mp_c m (ln_step P xun xta) c (pg_L P) := by
    funext l
    by_cases hl : l < pg_L P
    · by_cases hb : bt m l = true
      · have q := hpc l hl hb
        have s := st_simple (P := P) (u := xun) (t := xta) (l := l) q.2 q.1 (Or.inr (by omega)) (ln_nxle htk _ (by rw [q.1]; exact hp) (by rw [q.1]; exact hin.1))
        rw [nxt l hl hb] at s
        by_cases k : ln_tk P xun (c l) = true
        · rw [if_pos k] at s
          rw [mp_out (fun w => ((bx l (by omega)).mp w).2 k), mp_in hl ((br l (by omega)).mpr ⟨hb, k⟩), mp_in hl hb, mp_in hl hb]
          exact s
        · rw [if_neg k] at s
          rw [mp_in hl ((bx l (by omega)).mpr ⟨hb, k⟩), mp_out (fun w => k ((br l (by omega)).mp w).2), mp_in hl hb, mp_in hl hb]
          exact s
      · rw [mp_out (fun w => hb ((bx l (by omega)).mp w).1), mp_out (fun w => hb ((br l (by omega)).mp w).1), mp_out hb, mp_out hb]
    · have f : ∀ (mm : Int32) g cc, mp_c mm g cc (pg_L P) l = cc l := fun mm g cc => if_neg (fun w => hl w.1)
      rw [f, f, f, f]
  rw [e3] at b1 b2
  have E1 : pg_E P p (pg_tg P p) := Or.inr (Or.inr (Or.inl ⟨ob.1, by omega, Or.inl rfl⟩))
  have E2 : pg_E P p (p + 1) := Or.inr (Or.inr (Or.inl ⟨ob.1, by omega, Or.inr rfl⟩))
  refine br_c (fun z => ⟨hvt, nm_e ?_⟩) (fun zx => pk_eq (pg_tg P p) (p + 1) (fun z => ⟨hvt, nm_e ?_⟩) (fun ne => br_c (fun z => ⟨hvt, nm_e ?_⟩) (fun zr => ⟨hv, nm_e ⟨hvt, nm_e ?_⟩⟩)))
  · rw [hct]
    refine h1 R st pc (pg_tg P p) b1 b2 (fun l hl hb => ?_) E1
    rw [nxt l hl hb]
    by_cases k : ln_tk P xun (c l) = true
    · rw [if_pos k]
    · have := (bx l (by omega)).mpr ⟨hb, k⟩
      rw [z, b_0] at this
      exact absurd this (by decide)
  · rw [hct]
    refine h1 R st pc (pg_tg P p) b1 b2 (fun l hl hb => ?_) E1
    rw [nxt l hl hb]
    by_cases k : ln_tk P xun (c l) = true
    · rw [if_pos k]
    · rw [if_neg k, z]
  · rw [hct]
    refine h1 R st pc (p + 1) b1 b2 (fun l hl hb => ?_) E2
    rw [nxt l hl hb]
    by_cases k : ln_tk P xun (c l) = true
    · have := (br l (by omega)).mpr ⟨hb, k⟩
      rw [z, b_0] at this
      exact absurd this (by decide)
    · rw [if_neg k]
  · have room := hroom r x br bx zr zx
    rw [hct, hjn p hp]
    exact xo_push (by omega) (xo_push (by omega) (h2 R st pc r x b1 b2 ne br bx zr zx))
/-- a turn: pop, pop behind the drop, or carry out -/
theorem xo_turn {post : Int32 → SX → Prop} (hL : pg_L P ≤ 8) (hn : pg_n P ≤ 32) (hal : pg_al P ≤ 128) (hsp : ∀ l, l < pg_L P → ln_sp (c l) ≤ pg_al P) {t q : Nat} (ht : t < 24) (hq : q ≤ 33) (hkp : xkp t = nI q) (ha : rl_a P c xst xpc xre xme) (hs : rl_s P c xsp) (hr : rb_r P c xR)
    (hA : ((∀ l, l < pg_L P → ln_st (c l) = 1 → bt (xkm t) l = false) ∨ nI q = xkj t ∨ pg_n P ≤ q) → post 0 (nI (pg_L P), xC, xW, nI (pg_al P), xP, nI (pg_n P), xF, xR, xB, nI t, xo, xa, xb, xc, xsu, xpd, xrg, xjn, xst, xpc, xsp, xre, xme, xma, xun, xta, xkp, xkm, xkj))
    (hB : ¬ nI q = xkj t → q < pg_n P → (∀ l, l < pg_L P → ln_st (c l) = 1 → bt (xkm t) l = true → ¬ ln_sp (c l) < pg_al P) → ∀ R st, rl_a P (mp_c (xkm t &&& xR) (dr_g P) c (pg_L P)) st xpc xre xme → rb_r P (mp_c (xkm t &&& xR) (dr_g P) c (pg_L P)) R → post 0 (nI (pg_L P), xC, xW, nI (pg_al P), xP, nI (pg_n P), xF, R, xB, nI t, xo, xa, xb, xc, xsu, xpd, xrg, xjn, st, xpc, xsp, xre, xme, xma, xun, xta, xkp, xkm, xkj))
    (hC : ¬ nI q = xkj t → q < pg_n P → ∀ r R st, rl_a P (mp_c (xkm t &&& xR) (dr_g P) c (pg_L P)) st xpc xre xme → rb_r P (mp_c (xkm t &&& xR) (dr_g P) c (pg_L P)) R → ¬ r = 0 → (∀ l, l < 32 → (bt r l = true ↔ (l < pg_L P ∧ ln_st (c l) = 1 ∧ bt (xkm t) l = true ∧ ln_sp (c l) < pg_al P))) →
      wpX_noteCarryingOut (fun u => wpX_carryOut (fun r u => narrow .boolean (.int r) = .int r ∧ post r u) u (nI t) r (nI q)) (nI (pg_L P), xC, xW, nI (pg_al P), xP, nI (pg_n P), xF, R, xB, nI (t + 1), xo, xa, xb, xc, xsu, xpd, xrg, xjn, st, xpc, xsp, xre, xme, xma, xun, xta, xkp, xkm, xkj) r (nI q)) :
    wpX_takeTurn post (nI (pg_L P), xC, xW, nI (pg_al P), xP, nI (pg_n P), xF, xR, xB, nI (t + 1), xo, xa, xb, xc, xsu, xpd, xrg, xjn, xst, xpc, xsp, xre, xme, xma, xun, xta, xkp, xkm, xkj) := by
  have hct : (nI t).toNatClampNeg = t := nI_clamp (by omega)
  have hvt : vp_in (nI t) 24 := vp_in_nI ht (by omega)
  have bm : ∀ l, l < 32 → (bt (xkm t &&& xR) l = true ↔ (l < pg_L P ∧ ln_st (c l) = 1 ∧ bt (xkm t) l = true)) := by
    intro l hl
    rw [bi_andp, hr l hl]
    exact ⟨fun z => ⟨z.2.1, z.2.2, z.1⟩, fun z => ⟨z.2.2, z.1, z.2.1⟩⟩
  unfold wpX_takeTurn
  refine nm_r (nI_pred t) (br_t (nI_pos' (by omega)) ⟨hvt, nm_e ⟨hvt, nm_e ?_⟩⟩)
  rw [hct, hkp]
  refine br_c (fun z => hA (Or.inl fun l hl s => ?_)) (fun nz => ⟨hvt, br_c (fun z => hA (Or.inr (Or.inl z))) (fun nj => ?_)⟩)
  · cases w : bt (xkm t) l
    · rfl
    · have := (bm l (by omega)).mpr ⟨hl, s, w⟩
      rw [z, b_0] at this
      exact absurd this (by decide)
  · unfold wpX_isIndex
    refine br_f (nI_pos (by omega)) (pk_le (pg_n P) q (fun z => br_t rfl (hA (Or.inr (Or.inr z)))) (fun hqn => br_f (by decide) ?_))
    refine xr_drop hL hal hsp (fun l hl z => ((bm l hl).mp z).1) ha hs hr (fun r R st h1 h2 h3 => br_c (fun z => hB nj hqn (fun l hl s w y => ?_) R st h1 h2) (fun zr => ?_))
    · have := (h3 l (by omega)).mpr ⟨(bm l (by omega)).mpr ⟨hl, s, w⟩, y⟩
      rw [z, b_0] at this
      exact absurd this (by decide)
    · exact hC nj hqn r R st h1 h2 zr (fun l hl => by
        rw [h3 l hl, bm l hl]
        exact ⟨fun z => ⟨z.1.1, z.1.2.1, z.1.2.2, z.2⟩, fun z => ⟨⟨z.1, z.2.1, z.2.2.1⟩, z.2.2.2⟩⟩)
end
end
section
/-! own rows: the invariant of the class's run, step by step, no program in sight -/
def xi_S (P : pg_P) (D : Nat) (pk br pa : Nat → Nat) (kp km kj : Nat → Int32) : Prop :=
  iv_stk P D pk km br pa ∧ iv_cn D km ∧ (∀ k, k < D → pk k ≤ pg_n P ∧ kp k = nI (pk k)) ∧ (∀ k, k < D → ∀ l, bt (km k) l = true → l < pg_L P) ∧ (1 ≤ D → kj 0 = -1) ∧ (∀ k, 1 ≤ k → k < D → kj k = nI (pg_j P (br k)))
def xi_L (P : pg_P) (F c : Nat → ln_V) (D : Nat) (pk : Nat → Nat) (km ma mt0 : Nat → Int32) : Prop :=
  iv_ln P c D pk km ∧ iv_pr P F c D pk km ∧ iv_U P F c ∧ iv_M P F (fun l => ln_sp (c l)) ma mt0
def xi_F (P : pg_P) (t : Nat → Int32) (k : Nat) (c : Nat → ln_V) (u : Nat → Int32) (b : Int32) (F : rn_S) : Prop :=
  rn_fin P t (k + 1) c u b F ∧ ∀ l, l < pg_L P → ln_st (c l) = 1 → 130 ≤ k + 1 + ln_sp (c l)
def xi_T (P : pg_P) (c : Nat → ln_V) (turn D : Nat) : Prop := turn + D ≤ 3 * sm_s (fun l => ln_sp (c l)) (pg_L P) + 1
def xi_G (P : pg_P) (c : Nat → ln_V) : Prop := ∀ l, l < pg_L P → ln_gd P (c l)
section
variable {P : pg_P} {F : rn_S} {c c1 c2 : Nat → ln_V} {t k turn : Nat} {pk br pa : Nat → Nat} {kp km kj ma ma' mt0 tb u : Nat → Int32} {b : Int32} {m0 r : Int32}
theorem xi_ex (h : xi_F P tb k c u b F) : iv_ex P F.1 c := rn_ext (k + 1) c u b h.1
theorem xi_pop (hx : iv_ex P F.1 c) (hS : xi_S P (t + 1) pk br pa kp km kj) (hL : xi_L P F.1 c (t + 1) pk km ma mt0)
    (h : (∀ l, l < pg_L P → ln_st (c l) = 1 → bt (km t) l = false) ∨ (1 ≤ t ∧ pk t = pg_j P (br t))) : xi_S P t pk br pa kp km kj ∧ xi_L P F.1 c t pk km ma mt0 := by
  obtain ⟨s1, s2, s3, s4, s5, s6⟩ := hS
  obtain ⟨l1, l2, l3, l4⟩ := hL
  refine ⟨⟨iv_stkpop s1, iv_cnpop s2, fun k hk => s3 k (by omega), fun k hk => s4 k (by omega), fun _ => s5 (by omega), fun k h1 h2 => s6 k h1 (by omega)⟩, ?_⟩
  rcases h with h | ⟨h, hj⟩
  · have := iv_pop1 h l1 l2
    exact ⟨this.1, this.2, l3, l4⟩
  · have := iv_pop2 h hx s1 hj l1 l2
    exact ⟨this.1, this.2, l3, l4⟩
/-- dropping the spent -/
theorem dr_lane (P : pg_P) (m : Int32) (c : Nat → ln_V) (hm : ∀ l, l < pg_L P → bt m l = true → ln_st (c l) = 1) (l : Nat) (hl : l < pg_L P) : mp_c m (dr_g P) c (pg_L P) l = c l ∨ (mp_c m (dr_g P) c (pg_L P) l = (4, (c l).2) ∧ ln_st (c l) = 1 ∧ ¬ ln_sp (c l) < pg_al P) := by
  by_cases b : bt m l = true
  · rw [mp_in hl b]
    unfold dr_g
    by_cases z : ln_sp (c l) < pg_al P
    · rw [if_pos z]; exact Or.inl rfl
    · rw [if_neg z]; exact Or.inr ⟨rfl, hm l hl b, z⟩
  · rw [mp_out b]; exact Or.inl rfl
theorem xi_drop (hm : ∀ l, l < pg_L P → bt m0 l = true → ln_st (c l) = 1) (hF : xi_F P tb k c u b F) (hL : xi_L P F.1 c (t + 1) pk km ma mt0) (hT : xi_T P c turn (t + 1)) (hG : xi_G P c) :
    xi_F P tb k (mp_c m0 (dr_g P) c (pg_L P)) u b F ∧ xi_L P F.1 (mp_c m0 (dr_g P) c (pg_L P)) (t + 1) pk km ma mt0 ∧ xi_T P (mp_c m0 (dr_g P) c (pg_L P)) turn (t + 1) ∧ xi_G P (mp_c m0 (dr_g P) c (pg_L P)) := by
  have dl := dr_lane P m0 c hm
  have sp : ∀ l, l < pg_L P → ln_sp (mp_c m0 (dr_g P) c (pg_L P) l) = ln_sp (c l) := fun l hl => by
    rcases dl l hl with e | e
    · rw [e]
    · rw [e.1]; rfl
  obtain ⟨l1, l2, l3, l4⟩ := hL
  have d := iv_drop (F := F.1) (fun l hl => by
    rcases dl l hl with e | e
    · exact Or.inl e
    · refine Or.inr ⟨?_, sp l hl⟩
      rw [e.1]
      show ¬ (4 : Int32) = 1
      decide) l1 l2 l3
  refine ⟨⟨rn_same ?_ hF.1, fun l hl z => ?_⟩, ⟨d.1, d.2.1, d.2.2, ?_⟩, ?_, fun l hl => ?_⟩
  · funext l
    unfold rn_nf
    by_cases hl : l < pg_L P
    · rw [if_pos hl, if_pos hl]
      rcases dl l hl with e | e
      · rw [e]
      · rw [e.1, ln_nfspent e.2.1 e.2.2 128, ln_nfstop (by show ¬ (4 : Int32) = 1; decide)]
    · rw [if_neg hl, if_neg hl]
      exact if_neg (fun w => hl w.1)
  · rcases dl l hl with e | e
    · rw [e] at z ⊢; exact hF.2 l hl z
    · rw [e.1] at z; exact absurd z (by show ¬ (4 : Int32) = 1; decide)
  · intro a p ha hp
    have := l4 a p ha hp
    dsimp only at this ⊢
    rw [sp a ha]
    exact this
  · unfold xi_T at hT ⊢
    have : sm_s (fun l => ln_sp (c l)) (pg_L P) ≤ sm_s (fun l => ln_sp (mp_c m0 (dr_g P) c (pg_L P) l)) (pg_L P) := sm_mono _ (fun l hl => by rw [sp l hl]; exact Nat.le_refl _)
    omega
  · rcases dl l hl with e | e
    · rw [e]; exact hG l hl
    · rw [e.1]; exact ln_gd4 (hG l hl)
/-- the lanes that carry out -/
def xi_r (P : pg_P) (c : Nat → ln_V) (km : Nat → Int32) (t : Nat) (r : Int32) : Prop := (∀ l, l < 32 → bt r l = true → l < pg_L P) ∧ ∀ l, l < pg_L P → (bt r l = true ↔ (ln_st (c l) = 1 ∧ bt (km t) l = true)) ∧ (bt r l = true → ln_sp (c l) < pg_al P)
theorem xi_go (hr : xi_r P c km t r) : iv_go P c (mp_c r (ln_step P u tb) c (pg_L P)) r := by
  intro l hl
  refine ⟨fun b => ?_, fun b => mp_out b⟩
  rw [mp_in hl b, ln_sp1]
theorem xi_G1 (ht : pg_tok P) (hin : ∀ p, p < pg_n P → pg_in P p) (hr : xi_r P c km t r) (hG : xi_G P c) : xi_G P (mp_c r (ln_step P u tb) c (pg_L P)) := by
  intro l hl
  by_cases b : bt r l = true
  · rw [mp_in hl b]
    exact ln_gd1 ht hin (hG l hl) (((hr.2 l hl).1.mp b).1) ((hr.2 l hl).2 b)
  · rw [mp_out b]; exact hG l hl
theorem xi_T1 {D D' : Nat} (hL : pg_L P ≤ 8) (hr : xi_r P c km t r) (hz : ¬ r = 0) (hD : D' ≤ D + 2) (hT : xi_T P c turn D) : xi_T P (mp_c r (ln_step P u tb) c (pg_L P)) (turn + 1) D' := by
  obtain ⟨i, hi, hb⟩ := bi_ne hz
  have hiL := hr.1 i hi hb
  have lt : sm_s (fun l => ln_sp (c l)) (pg_L P) < sm_s (fun l => ln_sp (mp_c r (ln_step P u tb) c (pg_L P) l)) (pg_L P) := by
    refine sm_lt _ (fun l hl => ?_) i hiL ?_
    · by_cases b : bt r l = true
      · rw [mp_in hl b, ln_sp1]; omega
      · rw [mp_out b]; exact Nat.le_refl _
    · rw [mp_in hiL hb, ln_sp1]; omega
  unfold xi_T at hT ⊢
  omega
/-- no SYNC: what is to come is the same -/
theorem xi_F1 (hal : pg_al P ≤ 128) (hr : xi_r P c km t r) (ho : ∀ l, l < pg_L P → bt r l = true → pg_o P (ln_pc (c l)) < 20) (hF : xi_F P tb k c u b F) : xi_F P tb k (mp_c r (ln_step P u tb) c (pg_L P)) u b F := by
  refine ⟨rn_same ?_ hF.1, fun l hl z => ?_⟩
  · funext l
    unfold rn_nf
    by_cases hl : l < pg_L P
    · rw [if_pos hl, if_pos hl]
      by_cases bb : bt r l = true
      · rw [mp_in hl bb]
        exact ln_nfstep hal (((hr.2 l hl).1.mp bb).1) ((hr.2 l hl).2 bb) (ho l hl bb)
      · rw [mp_out bb]
    · rw [if_neg hl, if_neg hl]
      exact if_neg (fun w => hl w.1)
  · by_cases bb : bt r l = true
    · rw [mp_in hl bb, ln_sp1]
      have := hF.2 l hl (((hr.2 l hl).1.mp bb).1)
      omega
    · rw [mp_out bb] at z ⊢
      exact hF.2 l hl z
/-- a SYNC: one round more -/
theorem xi_F2 (hal : pg_al P ≤ 128) {p : Nat} (hr : ∀ l, l < pg_L P → (bt r l = true ↔ ln_st (c l) = 1)) (hsp : ∀ l, l < pg_L P → bt r l = true → ln_sp (c l) < pg_al P ∧ ln_pc (c l) = p) (hz : ∃ l, l < pg_L P ∧ bt r l = true) (ho : 20 ≤ pg_o P p) (hF : xi_F P tb k c u b F) :
    (pg_o P p = 20 → F = (mp_c r (ln_step P u tb) c (pg_L P), sy_u P c u p, sy_b P b p)) ∧ (pg_o P p ≠ 20 → ∃ k', xi_F P tb k' (mp_c r (ln_step P u tb) c (pg_L P)) (sy_u P c u p) (sy_b P b p) F) := by
  have nf : rn_nf P u tb c = c := by
    funext l
    unfold rn_nf
    by_cases hl : l < pg_L P
    · rw [if_pos hl]
      by_cases s : ln_st (c l) = 1
      · have q := hsp l hl ((hr l hl).mpr s)
        exact ln_nfsync (by rw [q.2]; omega) (fun _ => q.1) _
      · exact ln_nfstop s _
    · rw [if_neg hl]
  have sc : sy_c P u tb c = mp_c r (ln_step P u tb) c (pg_L P) := by
    funext l
    unfold sy_c mp_c
    by_cases hl : l < pg_L P
    · by_cases s : ln_st (c l) = 1
      · rw [if_pos ⟨hl, s⟩, if_pos ⟨hl, (hr l hl).mpr s⟩]
      · rw [if_neg (fun w => s w.2), if_neg (fun w => s ((hr l hl).mp w.2))]
    · rw [if_neg (fun w => hl w.1), if_neg (fun w => hl w.1)]
  obtain ⟨l0, hl0, hb0⟩ := hz
  have ex : ∃ l, l < pg_L P ∧ ln_st (c l) = 1 := ⟨l0, hl0, (hr l0 hl0).mp hb0⟩
  obtain ⟨l, hl, hs, hmin⟩ := rn_least ex
  have fin := hF.1
  unfold rn_fin at fin
  rw [nf] at fin
  have f2 := fin.2 l hl hs hmin
  have hp := (hsp l hl ((hr l hl).mpr hs)).2
  rw [hp, sc] at f2
  refine ⟨f2.1, fun ne => ?_⟩
  have f3 := f2.2 ne
  have b1 := hF.2 l hl hs
  have b2 := (hsp l hl ((hr l hl).mpr hs)).1
  cases k with
  | zero => omega
  | succ k =>
    refine ⟨k, f3, fun q hq z => ?_⟩
    by_cases bb : bt r q = true
    · rw [mp_in hq bb, ln_sp1]
      have := hF.2 q hq ((hr q hq).mp bb)
      omega
    · rw [mp_out bb] at z
      exact absurd ((hr q hq).mpr z) bb
/-- the same index for all -/
theorem xi_exec (hs : pg_se P) (hx : iv_ex P F.1 c) (hx' : iv_ex P F.1 (mp_c r (ln_step P u tb) c (pg_L P))) (hL8 : pg_L P ≤ 8) (hS : xi_S P (t + 1) pk br pa kp km kj) (hL : xi_L P F.1 c (t + 1) pk km ma mt0) (hr : xi_r P c km t r) (he : iv_e P pk br t) (hin : ∀ p, p < pg_n P → pg_in P p) (hpn : pk t < pg_n P)
    {T : Nat} (hT : ∀ l, l < pg_L P → bt r l = true → ln_bd P (c l) = false → ln_nx P u (c l) = T) (hE : pg_E P (pk t) T)
    (hma : ∀ a q, a < pg_L P → q < 32 → ma' (32 * a + q) = if bt r a = true ∧ q = pk t then r else ma (32 * a + q)) :
    xi_S P (t + 1) (ln_up pk t T) br pa (upd kp t (nI T)) km kj ∧ xi_L P F.1 (mp_c r (ln_step P u tb) c (pg_L P)) (t + 1) (ln_up pk t T) km ma' mt0 := by
  obtain ⟨s1, s2, s3, s4, s5, s6⟩ := hS
  obtain ⟨l1, l2, l3, l4⟩ := hL
  have hm : iv_m P c km t r := fun l hl => (hr.2 l hl).1
  have hg := xi_go (u := u) (tb := tb) hr
  have hpc : ∀ l, l < pg_L P → bt r l = true → ln_st (mp_c r (ln_step P u tb) c (pg_L P) l) = 1 → ln_pc (mp_c r (ln_step P u tb) c (pg_L P) l) = T := by
    intro l hl bb z
    rw [mp_in hl bb] at z ⊢
    cases hb : ln_bd P (c l)
    · rw [ln_pc1 _ hb]; exact hT l hl bb hb
    · rw [ln_st2 _ hb] at z; exact absurd z (by decide)
  have hreg : t = 0 ∨ gr_wk (pg_n P) (pg_E P) (br t) (pg_j P (br t)) T ∨ T = pg_j P (br t) := by
    rcases he with z | z
    · exact Or.inl z
    · right
      by_cases q : T = pg_j P (br t)
      · exact Or.inr q
      · exact Or.inl (gr_s z hpn hE q)
  have X := iv_exec hs hx hx' s1 l1 l2 l3 hm he hg hpc hreg
  have M := iv_Mx (mt' := ma') (by omega) hg (fun bb hb => hr.1 bb (by
    rcases Nat.lt_or_ge bb 32 with z | z
    · exact z
    · rw [b_big z] at hb; exact absurd hb (by decide)) hb) (iv_pair hs hx hx' s1 l1 l2 l3 hm he hg) (fun a ha hb => by
      have z := (hm a ha).mp hb
      rw [iv_ft hx ha]
      exact (l1 a ha z.1).2 t (iv_tpt z.2)) hma l4
  refine ⟨⟨X.1, s2, fun q hq => ?_, s4, s5, s6⟩, X.2.1, X.2.2.1, X.2.2.2, M⟩
  by_cases e : q = t
  · rw [e]
    rw [show ln_up pk t T t = T from if_pos rfl, pk_us]
    exact ⟨pg_El hs.2.1 _ _ hpn hE, rfl⟩
  · rw [show ln_up pk t T q = pk q from if_neg e, pk_un e]
    exact s3 q hq
theorem xi_mk (km : Nat → Int32) (t : Nat) (m1 m2 : Int32) : upd (upd km (t + 1) m1) (t + 2) m2 = iv_mk km t m1 m2 := by
  funext q
  unfold upd iv_mk
  by_cases e2 : q = t + 2
  · rw [if_pos e2, if_neg (by omega), if_pos e2]
  · rw [if_neg e2]
    by_cases e1 : q = t + 1
    · rw [if_pos e1, if_pos e1]
    · rw [if_neg e1, if_neg e1, if_neg e2]
theorem xi_push (hs : pg_se P) (hx : iv_ex P F.1 c) (hx' : iv_ex P F.1 (mp_c r (ln_step P u tb) c (pg_L P))) (hL8 : pg_L P ≤ 8) (hS : xi_S P (t + 1) pk br pa kp km kj) (hL : xi_L P F.1 c (t + 1) pk km ma mt0) (hr : xi_r P c km t r) (he : iv_e P pk br t) (hin : ∀ p, p < pg_n P → pg_in P p) (hpn : pk t < pg_n P) (hbr : pr_br P (pk t))
    {m1 m2 : Int32} (hb1 : ∀ l, l < 32 → (bt m1 l = true ↔ (bt r l = true ∧ ln_tk P u (c l) = true))) (hb2 : ∀ l, l < 32 → (bt m2 l = true ↔ (bt r l = true ∧ ¬ ln_tk P u (c l) = true))) (hz1 : ¬ m1 = 0) (hz2 : ¬ m2 = 0) (hne : pg_tg P (pk t) ≠ pk t + 1)
    (hma : ∀ a q, a < pg_L P → q < 32 → ma' (32 * a + q) = if bt r a = true ∧ q = pk t then r else ma (32 * a + q)) :
    xi_S P (t + 3) (iv_pk pk t (pg_j P (pk t)) (pg_tg P (pk t)) (pk t + 1)) (iv_gh br t (pk t)) (iv_gh pa t t) (upd (upd (upd kp t (nI (pg_j P (pk t)))) (t + 1) (nI (pg_tg P (pk t)))) (t + 2) (nI (pk t + 1))) (iv_mk km t m1 m2) (upd (upd kj (t + 1) (nI (pg_j P (pk t)))) (t + 2) (nI (pg_j P (pk t)))) ∧
    xi_L P F.1 (mp_c r (ln_step P u tb) c (pg_L P)) (t + 3) (iv_pk pk t (pg_j P (pk t)) (pg_tg P (pk t)) (pk t + 1)) (iv_mk km t m1 m2) ma' mt0 := by
  obtain ⟨s1, s2, s3, s4, s5, s6⟩ := hS
  obtain ⟨l1, l2, l3, l4⟩ := hL
  have hm : iv_m P c km t r := fun l hl => (hr.2 l hl).1
  have hg := xi_go (u := u) (tb := tb) hr
  have big : ∀ (x : Int32) l, bt x l = true → l < 32 := fun x l hb => by
    rcases Nat.lt_or_ge l 32 with z | z
    · exact z
    · rw [b_big z] at hb; exact absurd hb (by decide)
  have rL : ∀ l, bt r l = true → l < pg_L P := fun l hb => hr.1 l (big r l hb) hb
  have m1r : ∀ l, bt m1 l = true → bt r l = true := fun l hb => ((hb1 l (big m1 l hb)).mp hb).1
  have m2r : ∀ l, bt m2 l = true → bt r l = true := fun l hb => ((hb2 l (big m2 l hb)).mp hb).1
  have m12 : ∀ l, bt r l = true → (bt m1 l = true ∧ ¬ bt m2 l = true) ∨ (¬ bt m1 l = true ∧ bt m2 l = true) := fun l hb => by
    have q := big r l hb
    by_cases k : ln_tk P u (c l) = true
    · exact Or.inl ⟨(hb1 l q).mpr ⟨hb, k⟩, fun w => ((hb2 l q).mp w).2 k⟩
    · exact Or.inr ⟨fun w => k ((hb1 l q).mp w).2, (hb2 l q).mpr ⟨hb, k⟩⟩
  have rt : ∀ l, bt r l = true → bt (km t) l = true := fun l hb => ((hm l (rL l hb)).mp hb).2
  have ob : 16 ≤ pg_o P (pk t) ∧ pg_o P (pk t) ≤ 17 := by unfold pr_br at hbr; omega
  have E1 : pg_E P (pk t) (pg_tg P (pk t)) := Or.inr (Or.inr (Or.inl ⟨ob.1, by omega, Or.inl rfl⟩))
  have E2 : pg_E P (pk t) (pk t + 1) := Or.inr (Or.inr (Or.inl ⟨ob.1, by omega, Or.inr rfl⟩))
  have pcl : ∀ l, l < pg_L P → bt r l = true → ln_pc (c l) = pk t := fun l hl hb => by
    have z := (hm l hl).mp hb
    exact (l1 l hl z.1).2 t (iv_tpt z.2)
  have nx : ∀ l, l < pg_L P → bt r l = true → ln_pc (mp_c r (ln_step P u tb) c (pg_L P) l) = if ln_tk P u (c l) = true then pg_tg P (pk t) else pk t + 1 := fun l hl hb => by
    have e := pcl l hl hb
    rw [mp_in hl hb, ln_pc1 _ (ln_bd0 _ (by rw [e]; omega))]
    unfold ln_nx
    rw [e, if_neg (by omega)]
  have X := iv_push (m1 := m1) (m2 := m2) hs hx hx' s1 l1 l2 l3 hm he hg hpn hbr hne E1 E2 m1r m2r m12 rt
    (fun l hl hb _ => by rw [nx l hl (m1r l hb), if_pos ((hb1 l (by omega)).mp hb).2]) (fun l hl hb _ => by rw [nx l hl (m2r l hb), if_neg ((hb2 l (by omega)).mp hb).2])
  have M := iv_Mx (mt' := ma') (by omega) hg rL (iv_pair hs hx hx' s1 l1 l2 l3 hm he hg) (fun a ha hb => by rw [iv_ft hx ha]; exact pcl a ha hb) hma l4
  obtain ⟨i1, hi1, z1⟩ := bi_ne hz1
  obtain ⟨i2, hi2, z2⟩ := bi_ne hz2
  have L1 := rL i1 (m1r i1 z1)
  have L2 := rL i2 (m2r i2 z2)
  have cnt := iv_cnpush (m1 := m1) (m2 := m2) s2 (fun l hb => rt l (m1r l hb)) (fun l hb => rt l (m2r l hb)) (fun l a1 a2 => by
    rcases m12 l (m1r l a1) with z | z
    · exact z.2 a2
    · exact z.1 a1) (a := i1) (b := i2) (by omega) (by omega) z1 z2
  have n1 : iv_mk km t m1 m2 (t + 1) = m1 := if_pos rfl
  have n2 : iv_mk km t m1 m2 (t + 2) = m2 := by unfold iv_mk; rw [if_neg (by omega), if_pos rfl]
  have nk : ∀ k, k ≤ t → iv_mk km t m1 m2 k = km k := fun k hk => by unfold iv_mk; rw [if_neg (by omega), if_neg (by omega)]
  have jn := hs.2.2.2.1 _ hpn
  refine ⟨⟨X.1, cnt.2, fun q hq => ?_, fun q hq l hb => ?_, fun _ => ?_, fun q q1 q2 => ?_⟩, X.2.1, X.2.2.1, X.2.2.2, M⟩
  · rcases Nat.lt_trichotomy q (t + 1) with e | e | e
    · by_cases e0 : q = t
      · rw [e0, pk_un (by omega), pk_un (by omega), pk_us]
        unfold iv_pk
        rw [if_pos rfl]
        exact ⟨jn.1, rfl⟩
      · rw [pk_un (by omega), pk_un (by omega), pk_un e0]
        unfold iv_pk
        rw [if_neg e0, if_neg (by omega), if_neg (by omega)]
        exact s3 q (by omega)
    · rw [e, pk_un (by omega), pk_us]
      unfold iv_pk
      rw [if_neg (by omega), if_pos rfl]
      exact ⟨pg_El hs.2.1 _ _ hpn E1, rfl⟩
    · have e2 : q = t + 2 := by omega
      rw [e2, pk_us]
      unfold iv_pk
      rw [if_neg (by omega), if_neg (by omega), if_pos rfl]
      exact ⟨by omega, rfl⟩
  · rcases Nat.lt_trichotomy q (t + 1) with e | e | e
    · rw [nk q (by omega)] at hb; exact s4 q (by omega) l hb
    · rw [e, n1] at hb; exact rL l (m1r l hb)
    · have e2 : q = t + 2 := by omega
      rw [e2, n2] at hb; exact rL l (m2r l hb)
  · rw [pk_un (by omega), pk_un (by omega)]; exact s5 (by omega)
  · rcases Nat.lt_trichotomy q (t + 1) with e | e | e
    · rw [pk_un (by omega), pk_un (by omega)]
      unfold iv_gh
      rw [if_neg (by omega), if_neg (by omega)]
      exact s6 q q1 (by omega)
    · rw [e, pk_un (by omega), pk_us]
      unfold iv_gh
      rw [if_pos rfl]
    · have e2 : q = t + 2 := by omega
      rw [e2, pk_us]
      unfold iv_gh
      rw [if_neg (by omega), if_pos rfl]
end
end
section
/-! own rows: the class's run -/
section
variable {P : pg_P} {c : Nat → ln_V} {xL xC xW xA xP xN xF xR xB xD : Int32} {xo xa xb xc : Nat → Int32} {xsu xpd xrg : Nat → Int64} {xjn xst xpc xsp xre xme xma xun xta xkp xkm xkj : Nat → Int32}
theorem xo_outbr {post : Int32 → SX → Prop} (hx : px_ok P xo xa xb xc) (hL : pg_L P ≤ 8) (hn : pg_n P ≤ 32) (htk : pg_tok P) (hjn : px_jn P xjn) {m : Int32} {t p : Nat} (ht : t < 24) (hp : p < pg_n P) (hin : pg_in P p) (hbr : pr_br P p) (hm : ∀ l, l < 32 → bt m l = true → l < pg_L P) (hpc : ∀ l, l < pg_L P → bt m l = true → ln_pc (c l) = p ∧ ln_st (c l) = 1)
    (ha : rl_a P (mp_c m (nt_g p) c (pg_L P)) xst xpc xre xme) (hr : rb_r P (mp_c m (nt_g p) c (pg_L P)) xR)
    (hroom : ∀ r x : Int32, (∀ l, l < 32 → (bt r l = true ↔ (bt m l = true ∧ ln_tk P xun (c l) = true))) → (∀ l, l < 32 → (bt x l = true ↔ (bt m l = true ∧ ¬ ln_tk P xun (c l) = true))) → ¬ r = 0 → ¬ x = 0 → t ≤ 12)
    (h1 : ∀ R st pc T, rl_a P (mp_c m (ln_step P xun xta) c (pg_L P)) st pc xre xme → rb_r P (mp_c m (ln_step P xun xta) c (pg_L P)) R → (∀ l, l < pg_L P → bt m l = true → ln_nx P xun (c l) = T) → pg_E P p T → post 0 (nI (pg_L P), xC, xW, xA, xP, nI (pg_n P), xF, R, xB, nI (t + 1), xo, xa, xb, xc, xsu, xpd, xrg, xjn, st, pc, xsp, xre, xme, xma, xun, xta, upd xkp t (nI T), xkm, xkj))
    (h2 : ∀ R st pc r x, rl_a P (mp_c m (ln_step P xun xta) c (pg_L P)) st pc xre xme → rb_r P (mp_c m (ln_step P xun xta) c (pg_L P)) R → pg_tg P p ≠ p + 1 → (∀ l, l < 32 → (bt r l = true ↔ (bt m l = true ∧ ln_tk P xun (c l) = true))) → (∀ l, l < 32 → (bt x l = true ↔ (bt m l = true ∧ ¬ ln_tk P xun (c l) = true))) → ¬ r = 0 → ¬ x = 0 →
      post 0 (nI (pg_L P), xC, xW, xA, xP, nI (pg_n P), xF, R, xB, nI (t + 3), xo, xa, xb, xc, xsu, xpd, xrg, xjn, st, pc, xsp, xre, xme, xma, xun, xta, upd (upd (upd xkp t (nI (pg_j P p))) (t + 1) (nI (pg_tg P p))) (t + 2) (nI (p + 1)), upd (upd xkm (t + 1) r) (t + 2) x, upd (upd xkj (t + 1) (nI (pg_j P p))) (t + 2) (nI (pg_j P p)))) :
    wpX_carryOut post (nI (pg_L P), xC, xW, xA, xP, nI (pg_n P), xF, xR, xB, nI (t + 1), xo, xa, xb, xc, xsu, xpd, xrg, xjn, xst, xpc, xsp, xre, xme, xma, xun, xta, xkp, xkm, xkj) (nI t) m (nI p) := by
  have hc : (nI p).toNatClampNeg = p := nI_clamp (by omega)
  have hv : vp_in (nI p) 32 := vp_in_nI (by omega) (by omega)
  have call : wX_carryOut_22 post (nI t) m (nI p) (nI (pg_L P)) xC xW xA xP (nI (pg_n P)) xF xR xB (nI (t + 1)) xo xa xb xc xsu xpd xrg xjn xst xpc xsp xre xme xma xun xta xkp xkm xkj := by
    unfold wX_carryOut_22
    exact xo_br hx hL hn htk hjn ht hp hin hbr hm hpc ha hr hroom h1 h2
  have f1 := (hx p hp).1
  have o24 := hin.1
  unfold wpX_carryOut
  refine ⟨hv, nm_e ?_⟩
  rw [hc, f1]
  refine pk_eq (pg_o P p) 16 (fun _ => call) (fun n16 => pk_eq (pg_o P p) 17 (fun _ => call) (fun n17 => ?_))
  unfold pr_br at hbr
  omega
theorem xn_loop {F : rn_S} {mt0 : Nat → Int32} {post : Int32 → SX → Prop} (hok : pg_ok P) (hse : pg_se P) (hx : px_ok P xo xa xb xc) (hjn : px_jn P xjn)
    (hfin : ∀ R D st pc sp re me ma kp km kj, rl_a P F.1 st pc re me → rb_r P F.1 R → iv_M P F.1 (fun l => ln_sp (F.1 l)) ma mt0 → xi_G P F.1 → (∃ s, s < pg_n P ∧ ∀ l, l < pg_L P → ln_st (F.1 l) = 1 → ln_pc (F.1 l) = s) → wX_run_47 post (nI (pg_L P)) xC (nI (pg_w P)) (nI (pg_al P)) xP (nI (pg_n P)) xF R F.2.2 D xo xa xb xc xsu xpd xrg xjn st pc sp re me ma F.2.1 xta kp km kj) :
    ∀ n turn D k c pk br pa R B st pc sp re me ma un kp km kj, 4096 < n + turn → rl_a P c st pc re me → rl_s P c sp → rb_r P c R → xi_G P c → xi_S P D pk br pa kp km kj → xi_L P F.1 c D pk km ma mt0 → xi_F P xta k c un B F → xi_T P c turn D →
      wX_run_18 post n 0 (nI turn) (nI (pg_L P)) xC (nI (pg_w P)) (nI (pg_al P)) xP (nI (pg_n P)) xF R B (nI D) xo xa xb xc xsu xpd xrg xjn st pc sp re me ma un xta kp km kj := by
  obtain ⟨hL2, hL, hn, hw4, hw, ha16, hal, hin⟩ := hok
  have htk := hse.2.1
  intro n
  induction n with
  | zero =>
    intro turn D k c pk br pa R B st pc sp re me ma un kp km kj hf _ _ _ hG _ _ _ hT
    exfalso
    have := sm_bd (f := fun l => ln_sp (c l)) (k := 128) (pg_L P) (fun l hl => by have := (hG l hl).2.2.1; omega)
    unfold xi_T at hT
    omega
  | succ n ih =>
    intro turn D k c pk br pa R B st pc sp re me ma un kp km kj hf ha hs hr hG hS hLi hF hT
    have tb : turn + D ≤ 3073 := by
      have := sm_bd (f := fun l => ln_sp (c l)) (k := 128) (pg_L P) (fun l hl => by have := (hG l hl).2.2.1; omega)
      unfold xi_T at hT
      omega
    have hex := xi_ex hF
    refine br_f (nI_ge (b := 4096) (by omega) (by omega)) ?_
    cases D with
    | zero =>
      refine br_t (by decide) ?_
      have stop : ∀ l, l < pg_L P → ln_st (c l) ≠ 1 := fun l hl z => by
        have := (hLi.1 l hl z).1.1
        omega
      have nf : rn_nf P un xta c = c := by
        funext l
        unfold rn_nf
        by_cases hl : l < pg_L P
        · rw [if_pos hl]; exact ln_nfstop (stop l hl) _
        · rw [if_neg hl]
      have fin := hF.1
      unfold rn_fin at fin
      rw [nf] at fin
      have e := fin.1 stop
      subst e
      exact hfin R _ st pc sp re me ma kp km kj ha hr hLi.2.2.2 hG ⟨0, hse.1, fun l hl z => absurd z (stop l hl)⟩
    | succ t =>
      refine br_f (nI_nle (by omega) (by omega)) (br_t rfl ?_)
      obtain ⟨s1, s2, s3, s4, s5, s6⟩ := hS
      obtain ⟨l1, l2, l3, l4⟩ := hLi
      have hpk := s3 t (by omega)
      have ht24 : t < 24 := by
        -- by the bound of the stack, or, where the mask is empty, by its place
        have := s2 t (by omega)
        omega
      refine xo_turn hL hn hal (fun l hl => (hG l hl).2.2.1) ht24 (by omega) hpk.2 ha hs hr (fun hA => ?_) (fun nj hq spent R' st' b1 b2 => ?_) (fun nj hq r R' st' b1 b2 zr hbits => ?_)
      · refine nm_r (nI_1 turn) ?_
        have pop := xi_pop (c := c) hex ⟨s1, s2, s3, s4, s5, s6⟩ ⟨l1, l2, l3, l4⟩ (by
          rcases hA with h | h | h
          · exact Or.inl h
          · rcases Nat.eq_zero_or_pos t with e | e
            · exfalso
              rw [e] at h hpk
              rw [s5 (by omega)] at h
              have := nI_pos (n := pk 0) (by omega)
              rw [h] at this
              exact absurd (by decide) this
            · rw [s6 t e (by omega)] at h
              refine Or.inr ⟨e, ?_⟩
              have jb := (hse.2.2.2.1 _ (s1 t e (by omega)).2.2.2.1).1
              exact (nI_eq (by omega) (by omega)).mp h
          · refine Or.inl fun l hl z => ?_
            cases w : bt (km t) l
            · rfl
            · exfalso
              have e := (l1 l hl z).2 t (iv_tpt w)
              have := (hG l hl).2.1 z
              omega)
        exact ih (turn + 1) t k c pk br pa R B st pc sp re me ma un kp km kj (by omega) ha hs hr hG pop.1 pop.2 hF (by unfold xi_T at hT ⊢; omega)
      · refine nm_r (nI_1 turn) ?_
        have hm0 : ∀ l, l < pg_L P → bt (km t &&& R) l = true → ln_st (c l) = 1 := fun l hl hb => by
          rw [bi_andp] at hb
          exact ((hr l (by omega)).mp hb.2).2
        have dr := xi_drop (m0 := km t &&& R) hm0 hF ⟨l1, l2, l3, l4⟩ hT hG
        have pop := xi_pop (c := mp_c (km t &&& R) (dr_g P) c (pg_L P)) (xi_ex dr.1) ⟨s1, s2, s3, s4, s5, s6⟩ dr.2.1 (Or.inl fun l hl z => by
          rcases dr_lane P (km t &&& R) c hm0 l hl with e | e
          · cases w : bt (km t) l
            · rfl
            · exfalso
              rw [e] at z
              have b : bt (km t &&& R) l = true := by rw [bi_andp]; exact ⟨w, (hr l (by omega)).mpr ⟨hl, z⟩⟩
              have e2 : mp_c (km t &&& R) (dr_g P) c (pg_L P) l = (4, (c l).2) := by
                rw [mp_in hl b]
                exact if_neg (spent l hl z w)
              rw [e2] at e
              have : ln_st (c l) = 4 := by rw [← e]; rfl
              rw [this] at z
              exact absurd z (by decide)
          · rw [e.1] at z; exact absurd z (by show ¬ (4 : Int32) = 1; decide))
        exact ih (turn + 1) t k _ pk br pa R' B st' pc sp re me ma un kp km kj (by omega) b1 (rl_smp hs (fun l hl => by
          rcases dr_lane P (km t &&& R) c hm0 l hl with e | e
          · rw [e]
          · rw [e.1]; rfl)) b2 dr.2.2.2 pop.1 pop.2 dr.1 (by have := dr.2.2.1; unfold xi_T at this ⊢; omega)
      · have hm0 : ∀ l, l < pg_L P → bt (km t &&& R) l = true → ln_st (c l) = 1 := fun l hl hb => by
          rw [bi_andp] at hb
          exact ((hr l (by omega)).mp hb.2).2
        have dr := xi_drop (m0 := km t &&& R) hm0 hF ⟨l1, l2, l3, l4⟩ hT hG
        have dl := dr_lane P (km t &&& R) c hm0
        have hs' : rl_s P (mp_c (km t &&& R) (dr_g P) c (pg_L P)) sp := rl_smp hs (fun l hl => by
          rcases dl l hl with e | e
          · rw [e]
          · rw [e.1]; rfl)
        have hrr : xi_r P (mp_c (km t &&& R) (dr_g P) c (pg_L P)) km t r := by
          refine ⟨fun l hl hb => ((hbits l hl).mp hb).1, fun l hl => ?_⟩
          have hb := hbits l (by omega)
          refine ⟨⟨fun z => ?_, fun z => ?_⟩, fun z => ?_⟩
          · have q := hb.mp z
            rcases dl l hl with e | e
            · rw [e]; exact ⟨q.2.1, q.2.2.1⟩
            · exact absurd q.2.2.2 e.2.2
          · rcases dl l hl with e | e
            · rw [e] at z
              refine hb.mpr ⟨hl, z.1, z.2, ?_⟩
              apply Classical.byContradiction
              intro w
              have b : bt (km t &&& R) l = true := by rw [bi_andp]; exact ⟨z.2, (hr l (by omega)).mpr ⟨hl, z.1⟩⟩
              have e2 : mp_c (km t &&& R) (dr_g P) c (pg_L P) l = (4, (c l).2) := by
                rw [mp_in hl b]
                exact if_neg w
              rw [e2] at e
              have : ln_st (c l) = 4 := by rw [← e]; rfl
              rw [this] at z
              exact absurd z.1 (by decide)
            · rw [e.1] at z; exact absurd z.1 (by show ¬ (4 : Int32) = 1; decide)
          · have q := hb.mp z
            rcases dl l hl with e | e
            · rw [e]; exact q.2.2.2
            · exact absurd q.2.2.2 e.2.2
        obtain ⟨dF, dL, dT, dG⟩ := dr
        clear hbits dl
        generalize mp_c (km t &&& R) (dr_g P) c (pg_L P) = c1 at b1 b2 dF dL dT dG hs' hrr
        have hex1 := xi_ex dF
        have he : iv_e P pk br t := by
          rcases Nat.eq_zero_or_pos t with e | e
          · exact Or.inl e
          · rcases (s1 t e (by omega)).2.2.2.2.2.2.1 with z | z
            · exact Or.inr z
            · exfalso
              apply nj
              rw [s6 t e (by omega), z]
        have hpc : ∀ l, l < pg_L P → bt r l = true → ln_pc (c1 l) = pk t ∧ ln_st (c1 l) = 1 := fun l hl hb => by
          have z := (hrr.2 l hl).1.mp hb
          exact ⟨(dL.1 l hl z.1).2 t (iv_tpt z.2), z.1⟩
        refine xr_note (c := c1) hL (by omega) hs' (fun sp2 ma2 n1 n2 => ?_)
        have sp2' : ∀ (g : Nat → ln_V → ln_V), (∀ l v, ln_sp (g l v) = ln_sp v + 1) → rl_s P (mp_c r g c1 (pg_L P)) sp2 := by
          intro g hg l hl
          have := n1 l hl
          rw [this]
          by_cases b : bt r l = true
          · rw [mp_in hl b, mp_in hl b, hg]; rfl
          · rw [mp_out b, mp_out b]
        have ra1 : rl_a P (mp_c r (nt_g (pk t)) c1 (pg_L P)) st' pc re me := rl_mp b1 (fun l hl => by
          by_cases b : bt r l = true
          · rw [mp_in hl b]; exact ⟨rfl, rfl, rfl, rfl⟩
          · rw [mp_out b]; exact ⟨rfl, rfl, rfl, rfl⟩)
        have rr1 : rb_r P (mp_c r (nt_g (pk t)) c1 (pg_L P)) R' := rb_mp b2 (fun l hl => by
          by_cases b : bt r l = true
          · rw [mp_in hl b]; rfl
          · rw [mp_out b])
        have G2 := xi_G1 (u := un) (tb := xta) htk hin hrr dG
        by_cases hbr : pr_br P (pk t)
        · have o20 : ∀ l, l < pg_L P → bt r l = true → pg_o P (ln_pc (c1 l)) < 20 := fun l hl hb => by
            rw [(hpc l hl hb).1]
            unfold pr_br at hbr
            omega
          have F2 := xi_F1 hal hrr o20 dF
          have hex2 := xi_ex F2
          refine xo_outbr hx hL hn htk hjn ht24 hq (hin _ hq) hbr hrr.1 hpc ra1 rr1 (fun x1 x2 y1 y2 z1 z2 => ?_) (fun R3 st3 pc3 T q1 q2 q3 q4 => ⟨yw_b (Or.inl rfl), nm_r (nI_1 turn) ?_⟩) (fun R3 st3 pc3 x1 x2 q1 q2 q3 y1 y2 z1 z2 => ⟨yw_b (Or.inl rfl), nm_r (nI_1 turn) ?_⟩)
          · obtain ⟨i1, hi1, w1⟩ := bi_ne z1
            obtain ⟨i2, hi2, w2⟩ := bi_ne z2
            have v1 := (y1 i1 hi1).mp w1
            have v2 := (y2 i2 hi2).mp w2
            have L1 := hrr.1 i1 hi1 v1.1
            have L2 := hrr.1 i2 hi2 v2.1
            have big : ∀ (x : Int32) l, bt x l = true → l < 32 := fun x l hb => by
              rcases Nat.lt_or_ge l 32 with z | z
              · exact z
              · rw [b_big z] at hb; exact absurd hb (by decide)
            refine (iv_cnpush (m1 := x1) (m2 := x2) s2 (fun l hb => ?_) (fun l hb => ?_) (fun l a1 a2 => ?_) (a := i1) (b := i2) (by omega) (by omega) w1 w2).1
            · have w := (y1 l (big _ l hb)).mp hb
              exact ((hrr.2 l (hrr.1 l (big _ l hb) w.1)).1.mp w.1).2
            · have w := (y2 l (big _ l hb)).mp hb
              exact ((hrr.2 l (hrr.1 l (big _ l hb) w.1)).1.mp w.1).2
            · exact ((y2 l (big _ l a2)).mp a2).2 ((y1 l (big _ l a1)).mp a1).2
          · have X := xi_exec (ma' := ma2) hse hex1 hex2 hL ⟨s1, s2, s3, s4, s5, s6⟩ dL hrr he hin hq (fun l hl hb _ => q3 l hl hb) q4 n2
            exact ih (turn + 1) (t + 1) k _ _ br pa R3 B st3 pc3 sp2 re me ma2 un _ km kj (by omega) q1 (sp2' _ (fun l v => ln_sp1 v)) q2 G2 X.1 X.2 F2 (xi_T1 (D := t + 1) hL hrr zr (by omega) dT)
          · have X := xi_push (ma' := ma2) hse hex1 hex2 hL ⟨s1, s2, s3, s4, s5, s6⟩ dL hrr he hin hq hbr y1 y2 z1 z2 q3 n2
            rw [xi_mk km t x1 x2]
            exact ih (turn + 1) (t + 3) k _ _ _ _ R3 B st3 pc3 sp2 re me ma2 un _ _ _ (by omega) q1 (sp2' _ (fun l v => ln_sp1 v)) q2 G2 X.1 X.2 F2 (xi_T1 (D := t + 1) hL hrr zr (by omega) dT)
        · -- no lane branch
          have sync0 : 20 ≤ pg_o P (pk t) → t = 0 := fun h20 => by
            rcases he with z | z
            · exact z
            · rcases Nat.eq_zero_or_pos t with e | e
              · exact e
              · exfalso
                have b := s1 t e (by omega)
                exact hse.2.2.2.2 (br t) (pk t) b.2.2.2.1 hq b.2.2.2.2.1 h20 z
          have allrun : 20 ≤ pg_o P (pk t) → ∀ l, l < pg_L P → (bt r l = true ↔ ln_st (c1 l) = 1) := fun h20 l hl => by
            rw [(hrr.2 l hl).1]
            refine ⟨fun z => z.1, fun z => ⟨z, ?_⟩⟩
            have := (dL.1 l hl z).1.2
            rw [sync0 h20]
            exact this
          refine xo_out hx hL hn hw htk ht24 hq (hin _ hq) hbr hpc allrun ra1 rr1 (fun R3 st3 pc3 re3 me3 q1 q2 => ⟨yw_b (by by_cases e : pg_o P (pk t) = 20 <;> simp [e]), nm_r (nI_1 turn) ?_⟩)
          have Tn : ∀ l, l < pg_L P → bt r l = true → ln_bd P (c1 l) = false → ln_nx P un (c1 l) = tu_t P un (pk t) := fun l hl hb _ => tu_nx (hpc l hl hb).1 hbr
          have TE : pg_E P (pk t) (tu_t P un (pk t)) := by
            obtain ⟨i, hi, hb⟩ := bi_ne zr
            have hl := hrr.1 i hi hb
            have e := hpc i hl hb
            have E := ln_edge (P := P) (u := un) (c1 i) (by rw [e.1]; exact (hin _ hq).1)
            rw [e.1, tu_nx e.1 hbr] at E
            exact E
          by_cases h20 : 20 ≤ pg_o P (pk t)
          · rw [if_pos h20, if_pos h20]
            have t0 := sync0 h20
            have F2 := xi_F2 (r := r) hal (allrun h20) (fun l hl hb => ⟨(hrr.2 l hl).2 hb, (hpc l hl hb).1⟩) (by obtain ⟨i, hi, hb⟩ := bi_ne zr; exact ⟨i, hrr.1 i hi hb, hb⟩) h20 dF
            by_cases e20 : pg_o P (pk t) = 20
            · rw [if_pos e20]
              have fe := F2.1 e20
              have hex2 : iv_ex P F.1 (mp_c r (ln_step P un xta) c1 (pg_L P)) := fun l hl => by rw [fe]; exact ln_ext0 _
              have X := xi_exec (ma' := ma2) hse hex1 hex2 hL ⟨s1, s2, s3, s4, s5, s6⟩ dL hrr he hin hq Tn TE n2
              cases n with
              | zero => omega
              | succ n =>
                refine br_f (nI_ge (b := 4096) (by omega) (by omega)) (br_f (nI_nle (by omega) (by omega)) (br_f (by decide) ?_))
                have e1 : F.1 = mp_c r (ln_step P un xta) c1 (pg_L P) := by rw [fe]
                have e2 : F.2.1 = sy_u P c1 un (pk t) := by rw [fe]
                have e3 : F.2.2 = sy_b P B (pk t) := by rw [fe]
                have M := X.2.2.2.2
                rw [← e1] at q1 q2 M G2
                rw [← e2, ← e3]
                refine hfin R3 _ st3 pc3 sp2 re3 me3 ma2 _ km kj q1 q2 M G2 ?_
                have nxt : tu_t P un (pk t) = pk t + 1 := by
                  unfold tu_t
                  rw [if_neg (by omega), if_neg (by omega)]
                have pcs : ∀ l, l < pg_L P → ln_st (F.1 l) = 1 → ln_pc (F.1 l) = pk t + 1 := fun l hl z => by
                  rw [e1] at z ⊢
                  by_cases b : bt r l = true
                  · rw [mp_in hl b] at z ⊢
                    have bd := ln_bd0 (P := P) (c1 l) (by rw [(hpc l hl b).1]; omega)
                    rw [ln_pc1 _ bd, Tn l hl b bd, nxt]
                  · rw [mp_out b] at z
                    exact absurd ((allrun h20 l hl).mpr z) b
                by_cases run : ∃ l, l < pg_L P ∧ ln_st (F.1 l) = 1
                · obtain ⟨l, hl, z⟩ := run
                  refine ⟨pk t + 1, ?_, pcs⟩
                  have := (G2 l hl).2.1 z
                  rw [pcs l hl z] at this
                  exact this
                · exact ⟨0, hse.1, fun l hl z => absurd ⟨l, hl, z⟩ run⟩
            · rw [if_neg e20]
              obtain ⟨k', F3⟩ := F2.2 e20
              have X := xi_exec (ma' := ma2) hse hex1 (xi_ex F3) hL ⟨s1, s2, s3, s4, s5, s6⟩ dL hrr he hin hq Tn TE n2
              exact ih (turn + 1) (t + 1) k' _ _ br pa R3 _ st3 pc3 sp2 re3 me3 ma2 _ _ km kj (by omega) q1 (sp2' _ (fun l v => ln_sp1 v)) q2 G2 X.1 X.2 F3 (xi_T1 (D := t + 1) hL hrr zr (by omega) dT)
          · rw [if_neg h20, if_neg h20, if_neg (show ¬ pg_o P (pk t) = 20 by omega)]
            have F2 := xi_F1 hal hrr (fun l hl hb => by rw [(hpc l hl hb).1]; omega) dF
            have X := xi_exec (ma' := ma2) hse hex1 (xi_ex F2) hL ⟨s1, s2, s3, s4, s5, s6⟩ dL hrr he hin hq Tn TE n2
            exact ih (turn + 1) (t + 1) k _ _ br pa R3 B st3 pc3 sp2 re3 me3 ma2 un _ km kj (by omega) q1 (sp2' _ (fun l v => ln_sp1 v)) q2 G2 X.1 X.2 F2 (xi_T1 (D := t + 1) hL hrr zr (by omega) dT)
end
end
section
/-! own rows: the class's run from its start -/
theorem rn_exF (P : pg_P) (t : Nat → Int32) : ∀ (k : Nat) (c : Nat → ln_V) (u : Nat → Int32) (b : Int32), ∃ F, rn_fin P t k c u b F := by
  intro k
  induction k with
  | zero => intro c u b; exact ⟨_, rfl⟩
  | succ k ih =>
    intro c u b
    by_cases run : ∃ l, l < pg_L P ∧ ln_st (rn_nf P u t c l) = 1
    · obtain ⟨l, hl, h1, h2⟩ := rn_least run
      have uq : ∀ q, q < pg_L P → ln_st (rn_nf P u t c q) = 1 → (∀ m, m < q → ln_st (rn_nf P u t c m) ≠ 1) → q = l := by
        intro q _ q1 q2
        rcases Nat.lt_trichotomy q l with e | e | e
        · exact absurd q1 (h2 q e)
        · exact e
        · exact absurd h1 (q2 l e)
      by_cases o20 : pg_o P (ln_pc (rn_nf P u t c l)) = 20
      · refine ⟨(sy_c P u t (rn_nf P u t c), sy_u P (rn_nf P u t c) u (ln_pc (rn_nf P u t c l)), sy_b P b (ln_pc (rn_nf P u t c l))), fun z => absurd h1 (z l hl), fun q hq q1 q2 => ?_⟩
        rw [uq q hq q1 q2]
        exact ⟨fun _ => rfl, fun z => absurd o20 z⟩
      · obtain ⟨F, hF⟩ := ih (sy_c P u t (rn_nf P u t c)) (sy_u P (rn_nf P u t c) u (ln_pc (rn_nf P u t c l))) (sy_b P b (ln_pc (rn_nf P u t c l)))
        refine ⟨F, fun z => absurd h1 (z l hl), fun q hq q1 q2 => ?_⟩
        rw [uq q hq q1 q2]
        exact ⟨fun z => absurd z o20, fun _ => hF⟩
    · exact ⟨(rn_nf P u t c, u, b), fun _ => rfl, fun q hq q1 _ => absurd ⟨q, hq, q1⟩ run⟩
section
variable {P : pg_P} {c : Nat → ln_V} {xL xC xW xA xP xN xF xR xB xD : Int32} {xo xa xb xc : Nat → Int32} {xsu xpd xrg : Nat → Int64} {xjn xst xpc xsp xre xme xma xun xta xkp xkm xkj : Nat → Int32}
theorem xn_begin {post : SX → Prop} (hL : pg_L P ≤ 8) (ha : rl_a P c xst xpc xre xme) {s : Nat} (hs : ∀ l, l < pg_L P → ln_st (c l) = 1 → ln_pc (c l) = s)
    (h : ∀ sp q, (∀ l, l < pg_L P → sp l = 0) → (q = 0 ∨ q = s) → (∀ l, l < pg_L P → ln_st (c l) = 1 → q = s) → post (nI (pg_L P), xC, xW, xA, xP, xN, xF, xR, xB, nI 1, xo, xa, xb, xc, xsu, xpd, xrg, xjn, xst, xpc, sp, xre, xme, xma, xun, xta, upd xkp 0 (nI q), upd xkm 0 xR, upd xkj 0 (-1))) :
    wpX_beginRun post (nI (pg_L P), xC, xW, xA, xP, xN, xF, xR, xB, xD, xo, xa, xb, xc, xsu, xpd, xrg, xjn, xst, xpc, xsp, xre, xme, xma, xun, xta, xkp, xkm, xkj) := by
  refine loop_0 (fun n i (z : Int32 × (Nat → Int32)) => wX_beginRun_4 post (nI (pg_L P)) xC xW xA xP xN xF xR xB xD n z.1 (nI i) xo xa xb xc xsu xpd xrg xjn xst xpc z.2 xre xme xma xun xta xkp xkm xkj) (fun i z => (∀ l, l < i → z.2 l = 0) ∧ ∃ q, z.1 = nI q ∧ (q = 0 ∨ q = s) ∧ ∀ l, l < i → ln_st (c l) = 1 → q = s) (pg_L P) (0, xsp) ⟨fun l hl => by omega, 0, rfl, Or.inl rfl, fun l hl => by omega⟩ ?_ ?_
  · intro n z ⟨h1, q, e, h2, h3⟩
    refine br_t (nI_le (Nat.le_refl _) (by omega)) ?_
    rw [e]
    exact xo_push (t := 0) (by omega) (h z.2 q h1 h2 h3)
  · intro n i z hi ⟨h1, q, e, h2, h3⟩ ih
    obtain ⟨x, sp⟩ := z
    dsimp only at h1 e ih ⊢
    have hc : (nI i).toNatClampNeg = i := nI_clamp (by omega)
    have sp1 : ∀ l, l < i + 1 → upd sp i 0 l = 0 := by
      intro l hl
      by_cases el : l = i
      · rw [el, pk_us]
      · rw [pk_un el]; exact h1 l (by omega)
    refine br_f (nI_ge hi (by omega)) ⟨vp_in_nI (by omega) (by omega), nm_e ⟨vp_in_nI (by omega) (by omega), ?_⟩⟩
    rw [hc, (ha i hi).1]
    refine br_c (fun w => ⟨vp_in_nI (by omega) (by omega), nm_e (nm_r (nI_1 i) ?_)⟩) (fun w => nm_r (nI_1 i) (ih (x, upd sp i 0) ⟨sp1, q, e, h2, fun l hl z => ?_⟩))
    · rw [(ha i hi).2.1, hs i hi w]
      exact ih (nI s, upd sp i 0) ⟨sp1, s, rfl, Or.inr rfl, fun _ _ _ => rfl⟩
    · by_cases el : l = i
      · rw [el] at z; exact absurd z w
      · exact h3 l (by omega) z
theorem xn_run {F : rn_S} {post : Int32 → SX → Prop} (hok : pg_ok P) (hse : pg_se P) (hx : px_ok P xo xa xb xc) (hjn : px_jn P xjn) (ha : rl_a P c xst xpc xre xme) (hr : rb_r P c xR) (hsp : ∀ l, l < pg_L P → ln_sp (c l) = 0) (hG : xi_G P c) {s : Nat} (hsn : s < pg_n P) (hs : ∀ l, l < pg_L P → ln_st (c l) = 1 → ln_pc (c l) = s) (hF : rn_fin P xta 130 c xun xB F)
    (hfin : ∀ R st pc sp re me ma kp km kj, rl_a P F.1 st pc re me → rb_r P F.1 R → iv_M P F.1 (fun l => ln_sp (F.1 l)) ma xma → xi_G P F.1 → (∃ s, s < pg_n P ∧ ∀ l, l < pg_L P → ln_st (F.1 l) = 1 → ln_pc (F.1 l) = s) →
      ∀ ph, (R = 0 ∧ ph = 3 ∨ ¬ R = 0 ∧ ph = 2) → post ph (nI (pg_L P), xC, nI (pg_w P), nI (pg_al P), ph, nI (pg_n P), xF, R, F.2.2, 0, xo, xa, xb, xc, xsu, xpd, xrg, xjn, st, pc, sp, re, me, ma, F.2.1, xta, kp, km, kj)) :
    wpX_run post (nI (pg_L P), xC, nI (pg_w P), nI (pg_al P), 2, nI (pg_n P), xF, xR, xB, xD, xo, xa, xb, xc, xsu, xpd, xrg, xjn, xst, xpc, xsp, xre, xme, xma, xun, xta, xkp, xkm, xkj) := by
  have hL := hok.2.1
  have hn := hok.2.2.1
  unfold wpX_run
  refine br_t rfl ?_
  refine xn_begin hL ha hs (fun sp q h1 h2 h3 => ⟨4097, ?_⟩)
  have big : ∀ (x : Int32) l, bt x l = true → l < 32 := fun x l hb => by
    rcases Nat.lt_or_ge l 32 with z | z
    · exact z
    · rw [b_big z] at hb; exact absurd hb (by decide)
  have start := iv_start (P := P) (F := F.1) (c := c) (pk := fun _ => q) (mk := upd xkm 0 xR) (br := fun _ => 0) (pa := fun _ => 0) (mt := xma) hsp (fun l hl z => ⟨(hs l hl z).trans (h3 l hl z).symm, by rw [pk_us]; exact (hr l (by omega)).mpr ⟨hl, z⟩⟩)
  obtain ⟨i1, i2, i3, i4, i5, i6⟩ := start
  refine xn_loop (F := F) (mt0 := xma) hok hse hx hjn (fun R D st pc sp re me ma kp km kj f1 f2 f3 f4 f5 => br_c (fun z => ?_) (fun z => ?_)) 4097 0 1 129 c (fun _ => q) (fun _ => 0) (fun _ => 0) xR xB xst xpc sp xre xme xma xun _ _ _ (by omega) ha (fun l hl => by rw [h1 l hl, hsp l hl]; rfl) hr hG ⟨i1, i6, fun k hk => ?_, fun k hk l hb => ?_, fun _ => pk_us, fun k h1 h2 => by omega⟩ ⟨i2, i3, i4, i5⟩ ⟨hF, fun l hl z => by rw [hsp l hl]; omega⟩ (by unfold xi_T; omega)
  · exact hfin R st pc sp re me ma kp km kj f1 f2 f3 f4 f5 3 (Or.inl ⟨z, rfl⟩)
  · exact hfin R st pc sp re me ma kp km kj f1 f2 f3 f4 f5 2 (Or.inr ⟨z, rfl⟩)
  · have e : k = 0 := by omega
    rw [e, pk_us]
    refine ⟨?_, rfl⟩
    show q ≤ pg_n P
    rcases h2 with z | z <;> omega
  · have e : k = 0 := by omega
    rw [e, pk_us] at hb
    exact ((hr l (big _ l hb)).mp hb).1
end
end
section
/-! own rows: the reference carries out one instruction of one lane (the chain of cases is printed by gen26.py) -/
section
variable {P : pg_P} {c : Nat → ln_V} {yL yC yW yA yP yN yF yB : Int32} {yco yjn yse ypd yst ypc ysp yre yun yme yta yma ytr : Nat → Int32}
theorem yr_192 {post : SY → Prop} (hL : pg_L P ≤ 8) {l p : Nat} {x9 ad : Int32} (hl : l < pg_L P) (hpc : ln_pc (c l) = p) (hin : pg_in P p) (ho : pg_o P p < 20) (h9 : 5 ≤ pg_o P p → pg_o P p ≤ 10 → x9 = ln_rg (c l) (pg_tg P p)) (had : ln_ad P (c l) = ad) (hk : 12 ≤ pg_o P p → pg_o P p ≤ 14 → ∃ k, k < 16 ∧ ad = nI k) (ha : rl_a P c yst ypc yre yme)
    (h : wY_carryOut_381 post (nI l) (nI p) (nI (pg_o P p)) (nI (pg_a P p)) (pg_c P p) (ln_vl P yun yta l (c l)) yL yC yW yA yP yN yF yB yco yjn yse ypd yst ypc ysp yre yun (if pg_o P p = 14 then upd yme (16 * l + ad.toNatClampNeg) (ln_rg (c l) (pg_a P p)) else yme) yta yma ytr) :
    wY_carryOut_192 post (nI l) (nI p) (nI (pg_o P p)) (nI (pg_a P p)) (nI (pg_b P p)) (pg_c P p) (ln_rg (c l) (pg_a P p)) (ln_rg (c l) (pg_b P p)) x9 ad yL yC yW yA yP yN yF yB yco yjn yse ypd yst ypc ysp yre yun yme yta yma ytr := by
  obtain ⟨i1, i2, i3, i4, i5, i6, i7⟩ := hin
  have hh : pg_o P p = 0 ∨ pg_o P p = 1 ∨ pg_o P p = 2 ∨ pg_o P p = 3 ∨ pg_o P p = 4 ∨ pg_o P p = 5 ∨ pg_o P p = 6 ∨ pg_o P p = 7 ∨ pg_o P p = 8 ∨ pg_o P p = 9 ∨ pg_o P p = 10 ∨ pg_o P p = 11 ∨ pg_o P p = 12 ∨ pg_o P p = 13 ∨ pg_o P p = 14 ∨ pg_o P p = 15 ∨ pg_o P p = 16 ∨ pg_o P p = 17 ∨ pg_o P p = 18 ∨ pg_o P p = 19 := by omega
  unfold ln_vl at h
  rw [hpc, had] at h
  rcases hh with e | e | e | e | e | e | e | e | e | e | e | e | e | e | e | e | e | e | e | e
  · -- 0
    rw [e] at h ⊢
    exact br_f (by decide) (br_f (by decide) (br_f (by decide) (br_f (by decide) (br_f (by decide) (br_f (by decide) (br_f (by decide) (br_f (by decide) (br_f (by decide) (br_f (by decide) (br_f (by decide) (br_f (by decide) (br_f (by decide) (br_f (by decide) (h))))))))))))))
  · -- 1
    rw [e] at h ⊢
    exact br_t rfl (br_f (by decide) (br_f (by decide) (br_f (by decide) (br_f (by decide) (br_f (by decide) (br_f (by decide) (br_f (by decide) (br_f (by decide) (br_f (by decide) (br_f (by decide) (br_f (by decide) (br_f (by decide) (br_f (by decide) (h))))))))))))))
  · -- 2
    rw [e] at h ⊢
    exact br_f (by decide) (br_t rfl (br_f (by decide) (br_f (by decide) (br_f (by decide) (br_f (by decide) (br_f (by decide) (br_f (by decide) (br_f (by decide) (br_f (by decide) (br_f (by decide) (br_f (by decide) (br_f (by decide) (br_f (by decide) (h))))))))))))))
  · -- 3
    rw [e] at h ⊢
    exact br_f (by decide) (br_f (by decide) (br_t rfl (br_f (by decide) (br_f (by decide) (br_f (by decide) (br_f (by decide) (br_f (by decide) (br_f (by decide) (br_f (by decide) (br_f (by decide) (br_f (by decide) (br_f (by decide) (br_f (by decide) (h))))))))))))))
  · -- 4
    have b4 := i5 (Or.inl e)
    have eu : yun (nI (pg_b P p)).toNatClampNeg = yun (pg_b P p) := by rw [nI_clamp (by omega)]
    rw [e] at h ⊢
    exact br_f (by decide) (br_f (by decide) (br_f (by decide) (br_t rfl ⟨vp_in_nI b4 (by omega), nm_r eu (br_f (by decide) (br_f (by decide) (br_f (by decide) (br_f (by decide) (br_f (by decide) (br_f (by decide) (br_f (by decide) (br_f (by decide) (br_f (by decide) (br_f (by decide) (h)))))))))))⟩)))
  · -- 5
    rw [← h9 (by omega) (by omega)] at h
    rw [e] at h ⊢
    exact br_f (by decide) (br_f (by decide) (br_f (by decide) (br_f (by decide) (br_t rfl (nm_e (br_f (by decide) (br_f (by decide) (br_f (by decide) (br_f (by decide) (br_f (by decide) (br_f (by decide) (br_f (by decide) (br_f (by decide) (br_f (by decide) (h)))))))))))))))
  · -- 6
    rw [← h9 (by omega) (by omega)] at h
    rw [e] at h ⊢
    exact br_f (by decide) (br_f (by decide) (br_f (by decide) (br_f (by decide) (br_f (by decide) (br_t rfl (nm_e (br_f (by decide) (br_f (by decide) (br_f (by decide) (br_f (by decide) (br_f (by decide) (br_f (by decide) (br_f (by decide) (br_f (by decide) (h)))))))))))))))
  · -- 7
    rw [← h9 (by omega) (by omega)] at h
    rw [e] at h ⊢
    exact br_f (by decide) (br_f (by decide) (br_f (by decide) (br_f (by decide) (br_f (by decide) (br_f (by decide) (br_t rfl (nm_e (br_f (by decide) (br_f (by decide) (br_f (by decide) (br_f (by decide) (br_f (by decide) (br_f (by decide) (br_f (by decide) (h)))))))))))))))
  · -- 8
    rw [← h9 (by omega) (by omega)] at h
    rw [e] at h ⊢
    exact br_f (by decide) (br_f (by decide) (br_f (by decide) (br_f (by decide) (br_f (by decide) (br_f (by decide) (br_f (by decide) (br_t rfl (nm_e (br_f (by decide) (br_f (by decide) (br_f (by decide) (br_f (by decide) (br_f (by decide) (br_f (by decide) (h)))))))))))))))
  · -- 9
    rw [← h9 (by omega) (by omega)] at h
    rw [e] at h ⊢
    exact br_f (by decide) (br_f (by decide) (br_f (by decide) (br_f (by decide) (br_f (by decide) (br_f (by decide) (br_f (by decide) (br_f (by decide) (br_t rfl (nm_e (br_f (by decide) (br_f (by decide) (br_f (by decide) (br_f (by decide) (br_f (by decide) (h)))))))))))))))
  · -- 10
    rw [← h9 (by omega) (by omega)] at h
    rw [e] at h ⊢
    have h' : wY_carryOut_381 post (nI l) (nI p) (nI 10) (nI (pg_a P p)) (pg_c P p) (if x9 ≤ ln_rg (c l) (pg_b P p) then 0 else 1) yL yC yW yA yP yN yF yB yco yjn yse ypd yst ypc ysp yre yun yme yta yma ytr := h
    refine br_f (by decide) (br_f (by decide) (br_f (by decide) (br_f (by decide) (br_f (by decide) (br_f (by decide) (br_f (by decide) (br_f (by decide) (br_f (by decide) (br_t rfl (br_c (fun z => ?_) (fun z => ?_)))))))))))
    · rw [if_pos z] at h'
      exact br_f (by decide) (br_f (by decide) (br_f (by decide) (br_f (by decide) (h'))))
    · rw [if_neg z] at h'
      exact br_f (by decide) (br_f (by decide) (br_f (by decide) (br_f (by decide) (h'))))
  · -- 11
    rw [e] at h ⊢
    exact br_f (by decide) (br_f (by decide) (br_f (by decide) (br_f (by decide) (br_f (by decide) (br_f (by decide) (br_f (by decide) (br_f (by decide) (br_f (by decide) (br_f (by decide) (br_t rfl (br_f (by decide) (br_f (by decide) (br_f (by decide) (h))))))))))))))
  · -- 12
    obtain ⟨k, hk, ek⟩ := hk (by omega) (by omega)
    rw [e] at h ⊢
    exact br_f (by decide) (br_f (by decide) (br_f (by decide) (br_f (by decide) (br_f (by decide) (br_f (by decide) (br_f (by decide) (br_f (by decide) (br_f (by decide) (br_f (by decide) (br_f (by decide) (br_t rfl ⟨by rw [ek]; exact vp_in_nI hk (by omega), nm_e (br_f (by decide) (br_f (by decide) (h)))⟩)))))))))))
  · -- 13
    obtain ⟨k, hk, ek⟩ := hk (by omega) (by omega)
    have vm : vp_in (16 * nI l + ad) 128 := by rw [ek, iy_16]; exact vp_in_nI (by omega) (by omega)
    have em : yme (16 * nI l + ad).toNatClampNeg = ln_mm (c l) ad.toNatClampNeg := by rw [ek, iy_16, nI_clamp (by omega), nI_clamp (by omega)]; exact (ha l hl).2.2.2 k hk
    rw [e] at h ⊢
    exact br_f (by decide) (br_f (by decide) (br_f (by decide) (br_f (by decide) (br_f (by decide) (br_f (by decide) (br_f (by decide) (br_f (by decide) (br_f (by decide) (br_f (by decide) (br_f (by decide) (br_f (by decide) (br_t rfl ⟨vm, nm_r em (br_f (by decide) (h))⟩))))))))))))
  · -- 14
    obtain ⟨k, hk, ek⟩ := hk (by omega) (by omega)
    have vm : vp_in (16 * nI l + ad) 128 := by rw [ek, iy_16]; exact vp_in_nI (by omega) (by omega)
    have em2 : upd yme (16 * nI l + ad).toNatClampNeg (ln_rg (c l) (pg_a P p)) = upd yme (16 * l + ad.toNatClampNeg) (ln_rg (c l) (pg_a P p)) := by rw [ek, iy_16, nI_clamp (by omega), nI_clamp (by omega)]
    rw [e] at h ⊢
    exact br_f (by decide) (br_f (by decide) (br_f (by decide) (br_f (by decide) (br_f (by decide) (br_f (by decide) (br_f (by decide) (br_f (by decide) (br_f (by decide) (br_f (by decide) (br_f (by decide) (br_f (by decide) (br_f (by decide) (br_t rfl ⟨vm, nm_r em2 (h)⟩)))))))))))))
  · -- 15
    rw [e] at h ⊢
    exact br_f (by decide) (br_f (by decide) (br_f (by decide) (br_f (by decide) (br_f (by decide) (br_f (by decide) (br_f (by decide) (br_f (by decide) (br_f (by decide) (br_f (by decide) (br_f (by decide) (br_f (by decide) (br_f (by decide) (br_f (by decide) (h))))))))))))))
  · -- 16
    rw [e] at h ⊢
    exact br_f (by decide) (br_f (by decide) (br_f (by decide) (br_f (by decide) (br_f (by decide) (br_f (by decide) (br_f (by decide) (br_f (by decide) (br_f (by decide) (br_f (by decide) (br_f (by decide) (br_f (by decide) (br_f (by decide) (br_f (by decide) (h))))))))))))))
  · -- 17
    rw [e] at h ⊢
    exact br_f (by decide) (br_f (by decide) (br_f (by decide) (br_f (by decide) (br_f (by decide) (br_f (by decide) (br_f (by decide) (br_f (by decide) (br_f (by decide) (br_f (by decide) (br_f (by decide) (br_f (by decide) (br_f (by decide) (br_f (by decide) (h))))))))))))))
  · -- 18
    rw [e] at h ⊢
    exact br_f (by decide) (br_f (by decide) (br_f (by decide) (br_f (by decide) (br_f (by decide) (br_f (by decide) (br_f (by decide) (br_f (by decide) (br_f (by decide) (br_f (by decide) (br_f (by decide) (br_f (by decide) (br_f (by decide) (br_f (by decide) (h))))))))))))))
  · -- 19
    rw [e] at h ⊢
    exact br_f (by decide) (br_f (by decide) (br_f (by decide) (br_f (by decide) (br_f (by decide) (br_f (by decide) (br_f (by decide) (br_f (by decide) (br_f (by decide) (br_f (by decide) (br_f (by decide) (br_f (by decide) (br_f (by decide) (br_f (by decide) (h))))))))))))))
end
end
section
/-! own rows: the reference carries out one instruction: the rest of the way -/
section
variable {P : pg_P} {c : Nat → ln_V} {yL yC yW yA yP yN yF yB : Int32} {yco yjn yse ypd yst ypc ysp yre yun yme yta yma ytr : Nat → Int32}
/-- the end of a carrying-out: regs and memory are written, the lane goes on -/
theorem yr_goon {post : SY → Prop} (hL : pg_L P ≤ 8) (hn : pg_n P ≤ 32) {l t : Nat} (hl : l < pg_L P) (ht : t ≤ pg_n P) (ha : rl_a P c yst ypc yre yme)
    (h : ∀ st pc, rl_a P (cs_set c l (if t = pg_n P then 2 else (c l).1, t, (c l).2.2)) st pc yre yme → post (yL, yC, yW, yA, yP, nI (pg_n P), yF, yB, yco, yjn, yse, ypd, st, pc, ysp, yre, yun, yme, yta, yma, ytr)) :
    wpY_goOn post (yL, yC, yW, yA, yP, nI (pg_n P), yF, yB, yco, yjn, yse, ypd, yst, ypc, ysp, yre, yun, yme, yta, yma, ytr) (nI l) (nI t) := by
  have hc : (nI l).toNatClampNeg = l := nI_clamp (by omega)
  have hv : vp_in (nI l) 8 := vp_in_nI (by omega) (by omega)
  have h1 := rl_pc (i := l) ha t
  unfold wpY_goOn
  refine ⟨hv, nm_e ?_⟩
  rw [hc]
  refine pk_eq t (pg_n P) (fun z => ⟨hv, nm_e (h _ _ ?_)⟩) (fun z => h _ _ ?_)
  · rw [if_pos z]
    have h2 := rl_st (i := l) h1 2
    rw [cs_2, cs_at] at h2
    exact h2
  · rw [if_neg z]
    exact h1
theorem yr_381 {post : SY → Prop} (hL : pg_L P ≤ 8) (hn : pg_n P ≤ 32) (htk : pg_tok P) {l p : Nat} {v : Int32} (hl : l < pg_L P) (hp : p < pg_n P) (hin : pg_in P p) (ho : pg_o P p < 20) (hv : 16 ≤ pg_o P p → v = ln_rg (c l) (pg_a P p)) (hpc : ln_pc (c l) = p) (ha : rl_a P c yst ypc yre yme)
    (h : ∀ st pc re, rl_a P (cs_set c l (if ln_nx P yun (c l) = pg_n P then 2 else (c l).1, ln_nx P yun (c l), (c l).2.2.1, upd (ln_rg (c l)) (pg_a P p) v, (c l).2.2.2.2)) st pc re yme → post (yL, yC, yW, yA, yP, nI (pg_n P), yF, yB, yco, yjn, yse, ypd, st, pc, ysp, re, yun, yme, yta, yma, ytr)) :
    wY_carryOut_381 post (nI l) (nI p) (nI (pg_o P p)) (nI (pg_a P p)) (pg_c P p) v yL yC yW yA yP (nI (pg_n P)) yF yB yco yjn yse ypd yst ypc ysp yre yun yme yta yma ytr := by
  have a8 := hin.2.1
  have o24 := hin.1
  have h1 := rl_re (i := l) ha a8 v
  have nxle := ln_nxle (u := yun) htk (c l) (by rw [hpc]; exact hp) (by rw [hpc]; exact o24)
  have goon : ∀ T, ln_nx P yun (c l) = T → wY_carryOut_486 post (nI l) (nI T) yL yC yW yA yP (nI (pg_n P)) yF yB yco yjn yse ypd yst ypc ysp (upd yre (8 * l + pg_a P p) v) yun yme yta yma ytr := by
    intro T hT
    unfold wY_carryOut_486
    refine yr_goon (c := cs_set c l ((c l).1, (c l).2.1, (c l).2.2.1, upd (ln_rg (c l)) (pg_a P p) v, (c l).2.2.2.2)) hL hn hl (by rw [← hT]; exact nxle) h1 (fun st pc h2 => h st pc _ ?_)
    rw [cs_2, cs_at] at h2
    rw [hT]
    exact h2
  have tgt : 15 ≤ pg_o P p → pg_c P p = nI (pg_tg P p) := fun h15 => (htk p hp h15 (by omega)).1
  have j1 : 15 ≤ pg_o P p → ln_tk P yun (c l) = true → wY_carryOut_455 post (nI l) (nI p) (nI (pg_o P p)) (pg_c P p) yL yC yW yA yP (nI (pg_n P)) yF yB yco yjn yse ypd yst ypc ysp (upd yre (8 * l + pg_a P p) v) yun yme yta yma ytr := by
    intro h15 k
    unfold wY_carryOut_455 wY_carryOut_460
    refine pk_eq (pg_o P p) 0 (fun z => by omega) (fun _ => br_f (by decide) ?_)
    rw [tgt h15]
    refine goon _ ?_
    unfold ln_nx
    rw [hpc, if_neg (by omega), if_pos k]
  have j0 : ln_tk P yun (c l) = false → wY_carryOut_459 post (nI l) (nI p) (nI (pg_o P p)) (pg_c P p) yL yC yW yA yP (nI (pg_n P)) yF yB yco yjn yse ypd yst ypc ysp (upd yre (8 * l + pg_a P p) v) yun yme yta yma ytr := by
    intro k
    unfold wY_carryOut_459 wY_carryOut_460
    refine pk_eq (pg_o P p) 0 (fun z => goon _ ?_) (fun z => br_t rfl ?_)
    · unfold ln_nx
      rw [hpc, if_pos z]
    · rw [nI_1]
      refine goon _ ?_
      unfold ln_nx
      rw [hpc, if_neg z, if_neg (by rw [k]; exact Bool.noConfusion)]
  have tkd : ln_tk P yun (c l) = (decide (pg_o P p = 15) || (decide (pg_o P p = 16) && decide (ln_rg (c l) (pg_a P p) = 0)) || (decide (pg_o P p = 17) && !decide (ln_rg (c l) (pg_a P p) = 0)) || (decide (pg_o P p = 18) && decide (yun (pg_a P p) = 0)) || (decide (pg_o P p = 19) && !decide (yun (pg_a P p) = 0))) := by
    unfold ln_tk; rw [hpc]
  unfold wY_carryOut_381
  rw [iy_8, nI_clamp (by omega)]
  refine ⟨vp_in_nI (by omega) (by omega), nm_e ?_⟩
  have c439 : pg_o P p ≠ 15 → pg_o P p ≠ 16 → pg_o P p ≠ 17 → (pg_o P p = 18 → ¬ yun (pg_a P p) = 0) → wY_carryOut_439 post (nI l) (nI p) (nI (pg_o P p)) (nI (pg_a P p)) (pg_c P p) yL yC yW yA yP (nI (pg_n P)) yF yB yco yjn yse ypd yst ypc ysp (upd yre (8 * l + pg_a P p) v) yun yme yta yma ytr := by
    intro n15 n16 n17 n18
    unfold wY_carryOut_439
    refine pk_eq (pg_o P p) 19 (fun z => ⟨vp_in_nI (hin.2.2.2.1 (by omega)) (by omega), ?_⟩) (fun z => j0 ?_)
    · rw [nI_clamp (by omega)]
      refine br_c (fun w => j0 ?_) (fun w => j1 (by omega) ?_)
      · rw [tkd]; simp [z, w]
      · rw [tkd]; simp [z, w]
    · rw [tkd]
      by_cases e18 : pg_o P p = 18
      · simp [e18, n18 e18]
      · simp [n15, n16, n17, e18, z]
  have c423 : pg_o P p ≠ 15 → pg_o P p ≠ 16 → pg_o P p ≠ 17 → wY_carryOut_423 post (nI l) (nI p) (nI (pg_o P p)) (nI (pg_a P p)) (pg_c P p) yL yC yW yA yP (nI (pg_n P)) yF yB yco yjn yse ypd yst ypc ysp (upd yre (8 * l + pg_a P p) v) yun yme yta yma ytr := by
    intro n15 n16 n17
    unfold wY_carryOut_423
    refine pk_eq (pg_o P p) 18 (fun z => ⟨vp_in_nI (hin.2.2.2.1 (by omega)) (by omega), ?_⟩) (fun z => c439 n15 n16 n17 (fun w => absurd w z))
    rw [nI_clamp (by omega)]
    refine br_c (fun w => j1 (by omega) ?_) (fun w => c439 n15 n16 n17 (fun _ => w))
    rw [tkd]; simp [z, w]
  have c412 : pg_o P p ≠ 15 → (pg_o P p = 16 → ¬ v = 0) → wY_carryOut_412 post (nI l) (nI p) (nI (pg_o P p)) (nI (pg_a P p)) (pg_c P p) v yL yC yW yA yP (nI (pg_n P)) yF yB yco yjn yse ypd yst ypc ysp (upd yre (8 * l + pg_a P p) v) yun yme yta yma ytr := by
    intro n15 n16
    unfold wY_carryOut_412
    by_cases e16 : pg_o P p = 16
    · have v0 := n16 e16
      rw [hv (by omega)] at v0
      refine pk_eq (pg_o P p) 17 (fun z => by omega) (fun z => ?_)
      unfold wY_carryOut_423 wY_carryOut_439
      refine pk_eq (pg_o P p) 18 (fun z => by omega) (fun z => pk_eq (pg_o P p) 19 (fun z => by omega) (fun z => j0 ?_))
      rw [tkd]; simp [e16, v0]
    · refine pk_eq (pg_o P p) 17 (fun z => br_c (fun w => ?_) (fun w => j1 (by omega) ?_)) (fun z => c423 n15 e16 z)
      · rw [hv (by omega)] at w
        unfold wY_carryOut_423 wY_carryOut_439
        refine pk_eq (pg_o P p) 18 (fun z => by omega) (fun _ => pk_eq (pg_o P p) 19 (fun z => by omega) (fun _ => j0 ?_))
        rw [tkd]; simp [z, w]
      · rw [hv (by omega)] at w
        rw [tkd]; simp [z, w]
  refine pk_eq (pg_o P p) 15 (fun z => j1 (by omega) ?_) (fun n15 => pk_eq (pg_o P p) 16 (fun z => br_c (fun w => j1 (by omega) ?_) (fun w => c412 n15 (fun _ => w))) (fun z => c412 n15 (fun w => absurd w z)))
  · rw [tkd]; simp [z]
  · rw [hv (by omega)] at w
    rw [tkd]; simp [z, w]
end
end
section
/-! own rows: the reference: one instruction whole; a lane alone -/
theorem rl_t1 {P : pg_P} {c : Nat → ln_V} {tr : Nat → Int32} {i p : Nat} (h : rl_t P c tr) (hsp : ∀ l, l < pg_L P → ln_sp (c l) ≤ 128) (hi : ln_sp (c i) < 128) {v : ln_V} (h1 : ln_sp v = ln_sp (c i) + 1) (h2 : ln_tr v = ln_up (ln_tr (c i)) (ln_sp (c i)) p) : rl_t P (cs_set c i v) (upd tr (128 * i + ln_sp (c i)) (nI p)) := by
  intro l hl q hq
  by_cases e : l = i
  · rw [e] at hl hq ⊢
    rw [cs_at] at hq ⊢
    rw [h2]
    unfold ln_up
    by_cases z : q = ln_sp (c i)
    · rw [z, pk_us, if_pos rfl]
    · rw [pk_un (by omega), if_neg z]
      exact h i hl q (by omega)
  · rw [cs_ne e] at hq ⊢
    have := hsp l hl
    rw [pk_un (by omega)]
    exact h l hl q hq
theorem rl_t0 {P : pg_P} {c : Nat → ln_V} {tr : Nat → Int32} {i : Nat} (h : rl_t P c tr) {v : ln_V} (h1 : ln_sp v = ln_sp (c i)) (h2 : ln_tr v = ln_tr (c i)) : rl_t P (cs_set c i v) tr := by
  intro l hl q hq
  by_cases e : l = i
  · rw [e] at hl hq ⊢
    rw [cs_at] at hq ⊢
    rw [h2]
    rw [h1] at hq
    exact h i hl q hq
  · rw [cs_ne e] at hq ⊢
    exact h l hl q hq
section
variable {P : pg_P} {c : Nat → ln_V} {yL yC yW yA yP yN yF yB : Int32} {yco yjn yse ypd yst ypc ysp yre yun yme yta yma ytr : Nat → Int32}
theorem yr_131 {post : SY → Prop} (hL : pg_L P ≤ 8) (hn : pg_n P ≤ 32) (hw : pg_w P ≤ 16) (htk : pg_tok P) (hsp : ∀ l, l < pg_L P → ln_sp (c l) ≤ 128) {l p : Nat} {x9 z0 : Int32} (hl : l < pg_L P) (hl128 : ln_sp (c l) < 128) (hpc : ln_pc (c l) = p) (hp : p < pg_n P) (hin : pg_in P p) (ho : pg_o P p < 20) (h9 : 5 ≤ pg_o P p → pg_o P p ≤ 10 → x9 = ln_rg (c l) (pg_tg P p)) (hz0 : z0 = ln_lm P p) (ha : rl_a P c yst ypc yre yme) (hs : rl_s P c ysp) (htr : rl_t P c ytr)
    (h : ∀ st pc sp re me tr, rl_a P (cs_set c l (ln_step P yun yta l (c l))) st pc re me → rl_s P (cs_set c l (ln_step P yun yta l (c l))) sp → rl_t P (cs_set c l (ln_step P yun yta l (c l))) tr → post (yL, yC, yW, yA, yP, nI (pg_n P), yF, yB, yco, yjn, yse, ypd, st, pc, sp, re, yun, me, yta, yma, tr)) :
    wY_carryOut_131 post (nI l) (nI p) (nI (pg_o P p)) (nI (pg_a P p)) (nI (pg_b P p)) (pg_c P p) (ln_rg (c l) (pg_a P p)) (ln_rg (c l) (pg_b P p)) x9 (ln_ad P (c l)) z0 yL yC yW yA yP (nI (pg_n P)) yF yB yco yjn yse ypd yst ypc ysp yre yun yme yta yma ytr := by
  have hc : (nI l).toNatClampNeg = l := nI_clamp (by omega)
  have hv : vp_in (nI l) 8 := vp_in_nI (by omega) (by omega)
  have o24 := hin.1
  have a8 := hin.2.1
  have sv : ln_sp (ln_step P yun yta l (c l)) = ln_sp (c l) + 1 := ln_sp1 _
  have tv : ln_tr (ln_step P yun yta l (c l)) = ln_up (ln_tr (c l)) (ln_sp (c l)) p := by rw [ln_tr1, hpc]
  have S := rl_s1 (i := l) hs _ _ sv
  have T := rl_t1 (i := l) (p := p) htr hsp hl128 sv tv
  have a1 : rl_a P (cs_set c l (nt_g p l (c l))) yst ypc yre yme := rl_any ha rfl rfl rfl rfl
  unfold wY_carryOut_131
  rw [hc, hs l hl, iy_128, nI_clamp (by omega), nI_1]
  refine ⟨hv, vp_in_nI (by omega) (by omega), nm_e ⟨hv, hv, nm_e ?_⟩⟩
  have good : ln_bd P (c l) = false → (12 ≤ pg_o P p → pg_o P p ≤ 14 → ∃ k, k < 16 ∧ ln_ad P (c l) = nI k) → wY_carryOut_192 post (nI l) (nI p) (nI (pg_o P p)) (nI (pg_a P p)) (nI (pg_b P p)) (pg_c P p) (ln_rg (c l) (pg_a P p)) (ln_rg (c l) (pg_b P p)) x9 (ln_ad P (c l)) yL yC yW yA yP (nI (pg_n P)) yF yB yco yjn yse ypd yst ypc (upd ysp l (nI (ln_sp (c l) + 1))) yre yun yme yta yma (upd ytr (128 * l + ln_sp (c l)) (nI p)) := by
    intro bd hk
    refine yr_192 (c := c) hL hl hpc hin ho h9 rfl hk ha ?_
    -- memory first
    have key : ∀ me mmv, rl_a P (cs_set c l ((c l).1, (c l).2.1, ln_sp (c l) + 1, (c l).2.2.2.1, mmv, ln_up (ln_tr (c l)) (ln_sp (c l)) p)) yst ypc yre me → (if pg_o P p = 14 then upd (ln_mm (c l)) (ln_ad P (c l)).toNatClampNeg (ln_rg (c l) (pg_a P p)) else ln_mm (c l)) = mmv → wY_carryOut_381 post (nI l) (nI p) (nI (pg_o P p)) (nI (pg_a P p)) (pg_c P p) (ln_vl P yun yta l (c l)) yL yC yW yA yP (nI (pg_n P)) yF yB yco yjn yse ypd yst ypc (upd ysp l (nI (ln_sp (c l) + 1))) yre yun me yta yma (upd ytr (128 * l + ln_sp (c l)) (nI p)) := by
      intro me mmv r1 r2
      refine yr_381 (c := cs_set c l ((c l).1, (c l).2.1, ln_sp (c l) + 1, (c l).2.2.2.1, mmv, ln_up (ln_tr (c l)) (ln_sp (c l)) p)) hL hn htk hl hp hin ho (fun h16 => ?_) (by rw [cs_at]; exact hpc) r1 (fun st pc re r3 => ?_)
      · rw [cs_at]
        exact st_vl0 hpc (Or.inr (by omega))
      · rw [cs_2, cs_at] at r3
        have e : ln_step P yun yta l (c l) = (if ln_nx P yun (c l) = pg_n P then 2 else (c l).1, ln_nx P yun (c l), ln_sp (c l) + 1, upd (ln_rg (c l)) (pg_a P p) (ln_vl P yun yta l (c l)), mmv, ln_up (ln_tr (c l)) (ln_sp (c l)) p) := by
          unfold ln_step
          rw [if_neg (show ¬ ln_bd P (c l) = true by rw [bd]; exact Bool.noConfusion), hpc, r2]
          rfl
        exact h st pc _ re me _ (by rw [e]; exact r3) S T
    by_cases o14 : pg_o P p = 14
    · obtain ⟨k, hk16, ek⟩ := hk (by omega) (by omega)
      rw [if_pos o14]
      have m1 := rl_me (i := l) a1 hk16 (ln_rg (c l) (pg_a P p))
      rw [cs_2, cs_at] at m1
      refine key _ (upd (ln_mm (c l)) (ln_ad P (c l)).toNatClampNeg (ln_rg (c l) (pg_a P p))) ?_ (by rw [if_pos o14])
      rw [ek, nI_clamp (by omega)]
      exact m1
    · rw [if_neg o14]
      exact key yme (ln_mm (c l)) a1 (if_neg o14)
  have bdp := fun (h12 : 12 ≤ pg_o P p) (h14 : pg_o P p ≤ 14) => ln_bdp (P := P) hpc ⟨h12, h14⟩
  refine pk_lt (pg_o P p) 12 (fun z => good (ln_bd0 _ (by rw [hpc]; omega)) (fun w => by omega)) (fun h12 => pk_lt 14 (pg_o P p) (fun z => good (ln_bd0 _ (by rw [hpc]; omega)) (fun _ w => by omega)) (fun h14 => ?_))
  have bad : ln_bd P (c l) = true → vp_in (nI l) 8 ∧ ∀ st3 : Nat → Int32, st3 = upd yst l 3 → post (yL, yC, yW, yA, yP, nI (pg_n P), yF, yB, yco, yjn, yse, ypd, st3, ypc, upd ysp l (nI (ln_sp (c l) + 1)), yre, yun, yme, yta, yma, upd ytr (128 * l + ln_sp (c l)) (nI p)) := by
    intro bd
    refine ⟨hv, nm_e ?_⟩
    have e : ln_step P yun yta l (c l) = (3, (nt_g p l (c l)).2) := by
      unfold ln_step
      rw [if_pos bd, hpc, ← hpc]
      rfl
    have r := rl_st (i := l) a1 3
    rw [cs_2, cs_at, ← e] at r
    exact h _ ypc _ yre yme _ r S T
  rw [hz0]
  unfold wpY_in
  refine br_c (fun z => br_t rfl (bad ((bdp h12 h14).mpr (Or.inl z)))) (fun z => br_c (fun w => br_t rfl (bad ((bdp h12 h14).mpr (Or.inr w)))) (fun w => br_f (by decide) ?_))
  have nb : ln_bd P (c l) = false := by
    cases q : ln_bd P (c l)
    · rfl
    · rcases (bdp h12 h14).mp q with y | y
      · exact absurd y z
      · exact absurd y w
  refine good nb (fun _ _ => ?_)
  obtain ⟨k, hk31, ek⟩ := nI_of z
  refine ⟨k, ?_, ek⟩
  rw [ek] at w
  unfold ln_lm at w
  by_cases o12 : pg_o P p = 12
  · rw [if_pos o12] at w
    have := mt (nI_leI (a := 16) (b := k) (by omega) hk31).mpr w
    omega
  · rw [if_neg o12] at w
    have := mt (nI_leI (a := pg_w P) (b := k) (by omega) hk31).mpr w
    omega
theorem yr_out {post : SY → Prop} (hy : py_ok P yco) (hL : pg_L P ≤ 8) (hn : pg_n P ≤ 32) (hw : pg_w P ≤ 16) (htk : pg_tok P) (hsp : ∀ l, l < pg_L P → ln_sp (c l) ≤ 128) {l : Nat} (hl : l < pg_L P) (hl128 : ln_sp (c l) < 128) (hp : ln_pc (c l) < pg_n P) (hin : pg_in P (ln_pc (c l))) (ho : pg_o P (ln_pc (c l)) < 20) (ha : rl_a P c yst ypc yre yme) (hs : rl_s P c ysp) (htr : rl_t P c ytr)
    (h : ∀ st pc sp re me tr, rl_a P (cs_set c l (ln_step P yun yta l (c l))) st pc re me → rl_s P (cs_set c l (ln_step P yun yta l (c l))) sp → rl_t P (cs_set c l (ln_step P yun yta l (c l))) tr → post (yL, yC, nI (pg_w P), yA, yP, nI (pg_n P), yF, yB, yco, yjn, yse, ypd, st, pc, sp, re, yun, me, yta, yma, tr)) :
    wpY_carryOut post (yL, yC, nI (pg_w P), yA, yP, nI (pg_n P), yF, yB, yco, yjn, yse, ypd, yst, ypc, ysp, yre, yun, yme, yta, yma, ytr) (nI l) := by
  have hc : (nI l).toNatClampNeg = l := nI_clamp (by omega)
  have hv : vp_in (nI l) 8 := vp_in_nI (by omega) (by omega)
  obtain ⟨i1, i2, i3, i4, i5, i6, i7⟩ := hin
  obtain ⟨p, hpc⟩ : ∃ p, ln_pc (c l) = p := ⟨_, rfl⟩
  rw [hpc] at hp ho i1 i2 i3 i4 i5 i6 i7
  obtain ⟨f1, f2, f3, f4⟩ := hy p hp
  have e2 : ypc l = nI p := by rw [(ha l hl).2.1, hpc]
  have c0 : (nI (4 * p)).toNatClampNeg = 4 * p := nI_clamp (by omega)
  have c1 : (nI (4 * p + 1)).toNatClampNeg = 4 * p + 1 := nI_clamp (by omega)
  have c2 : (nI (4 * p + 2)).toNatClampNeg = 4 * p + 2 := nI_clamp (by omega)
  have c3 : (nI (4 * p + 3)).toNatClampNeg = 4 * p + 3 := nI_clamp (by omega)
  have w1 : nI (4 * p) + 1 = nI (4 * p + 1) := yw_4a p 1
  have w2 : nI (4 * p) + 2 = nI (4 * p + 2) := yw_4a p 2
  have w3 : nI (4 * p) + 3 = nI (4 * p + 3) := yw_4a p 3
  have ra : yre (nI (8 * l + pg_a P p)).toNatClampNeg = ln_rg (c l) (pg_a P p) := by rw [nI_clamp (by omega)]; exact (ha l hl).2.2.1 _ i2
  have rb : yre (nI (8 * l + pg_b P p)).toNatClampNeg = ln_rg (c l) (pg_b P p) := by rw [nI_clamp (by omega)]; exact (ha l hl).2.2.1 _ i3
  have ead : ln_rg (c l) (pg_b P p) + pg_c P p = ln_ad P (c l) := by unfold ln_ad; rw [hpc]
  have j107 : ∀ x9 : Int32, (5 ≤ pg_o P p → pg_o P p ≤ 10 → x9 = ln_rg (c l) (pg_tg P p)) → wY_carryOut_107 post (nI l) (nI p) (nI (pg_o P p)) (nI (pg_a P p)) (nI (pg_b P p)) (pg_c P p) (ln_rg (c l) (pg_a P p)) (ln_rg (c l) (pg_b P p)) x9 yL yC (nI (pg_w P)) yA yP (nI (pg_n P)) yF yB yco yjn yse ypd yst ypc ysp yre yun yme yta yma ytr := by
    intro x9 h9
    unfold wY_carryOut_107
    refine nm_r ead (pk_eq (pg_o P p) 12 (fun z => ?_) (fun z => ?_))
    · exact yr_131 hL hn hw htk hsp hl hl128 hpc hp ⟨i1, i2, i3, i4, i5, i6, i7⟩ ho h9 (by unfold ln_lm; rw [if_pos z]) ha hs htr h
    · exact yr_131 hL hn hw htk hsp hl hl128 hpc hp ⟨i1, i2, i3, i4, i5, i6, i7⟩ ho h9 (by unfold ln_lm; rw [if_neg z]) ha hs htr h
  unfold wpY_carryOut
  refine ⟨hv, nm_r (e' := nI p) (by rw [hc]; exact e2) ?_⟩
  rw [yw_4, w1, w2, w3, c0, c1, c2, c3, f1, f2, f3, f4]
  refine ⟨vp_in_nI (by omega) (by omega), nm_e ⟨vp_in_nI (by omega) (by omega), nm_e ⟨vp_in_nI (by omega) (by omega), nm_e ⟨vp_in_nI (by omega) (by omega), nm_e ?_⟩⟩⟩⟩
  rw [iy_8, iy_8, ra, rb]
  refine ⟨vp_in_nI (by omega) (by omega), nm_e ⟨vp_in_nI (by omega) (by omega), nm_e ?_⟩⟩
  refine pk_lt (pg_o P p) 5 (fun z => j107 0 (fun w => by omega)) (fun h5 => pk_lt 10 (pg_o P p) (fun z => j107 0 (fun _ w => by omega)) (fun h10 => ?_))
  obtain ⟨k, hk, ek⟩ := i6 h5 h10
  have tg : pg_tg P p = k := by unfold pg_tg; rw [ek, nI_clamp (by omega)]
  have j := j107 (ln_rg (c l) k) (fun _ _ => by rw [tg])
  rw [ek] at j ⊢
  rw [iy_8, show yre (nI (8 * l + k)).toNatClampNeg = ln_rg (c l) k by rw [nI_clamp (by omega)]; exact (ha l hl).2.2.1 _ hk]
  exact ⟨vp_in_nI (by omega) (by omega), j⟩
end
end
section
/-! own rows: the reference: lanes alone, the first running, a SYNC by all -/
def mr_c (g : Nat → ln_V → ln_V) (c : Nat → ln_V) (i : Nat) : Nat → ln_V := fun l => if l < i ∧ ln_st (c l) = 1 then g l (c l) else c l
theorem mr_0 {g : Nat → ln_V → ln_V} {c : Nat → ln_V} : mr_c g c 0 = c := by
  funext l
  exact if_neg (fun z => absurd z.1 (Nat.not_lt_zero _))
theorem mr_at {g : Nat → ln_V → ln_V} {c : Nat → ln_V} {i : Nat} : mr_c g c i i = c i := if_neg (fun z => absurd z.1 (Nat.lt_irrefl _))
theorem mr_s1 {g : Nat → ln_V → ln_V} {c : Nat → ln_V} {i : Nat} (h : ln_st (c i) = 1) : mr_c g c (i + 1) = cs_set (mr_c g c i) i (g i (c i)) := by
  funext l
  unfold mr_c cs_set
  by_cases e : l = i
  · rw [if_pos e, e, if_pos ⟨by omega, h⟩]
  · rw [if_neg e]
    dsimp only
    by_cases z : l < i ∧ ln_st (c l) = 1
    · rw [if_pos z, if_pos ⟨by omega, z.2⟩]
    · rw [if_neg z, if_neg (fun w => z ⟨by omega, w.2⟩)]
theorem mr_s0 {g : Nat → ln_V → ln_V} {c : Nat → ln_V} {i : Nat} (h : ¬ ln_st (c i) = 1) : mr_c g c (i + 1) = mr_c g c i := by
  funext l
  unfold mr_c
  by_cases e : l = i
  · rw [e, if_neg (fun z => h z.2), if_neg (fun z => h z.2)]
  · by_cases z : l < i ∧ ln_st (c l) = 1
    · rw [if_pos z, if_pos ⟨by omega, z.2⟩]
    · rw [if_neg z, if_neg (fun w => z ⟨by omega, w.2⟩)]
section
variable {P : pg_P} {c : Nat → ln_V} {yL yC yW yA yP yN yF yB : Int32} {yco yjn yse ypd yst ypc ysp yre yun yme yta yma ytr : Nat → Int32}
theorem yr_alone {post : SY → Prop} (hok : pg_ok P) (htk : pg_tok P) (hy : py_ok P yco) {l : Nat} (hl : l < pg_L P) :
    ∀ d j c st pc sp re me tr, j + d = 129 → xi_G P c → rl_a P c st pc re me → rl_s P c sp → rl_t P c tr →
      (∀ st pc sp re me tr, rl_a P (cs_set c l (ln_nf P yun yta l d (c l))) st pc re me → rl_s P (cs_set c l (ln_nf P yun yta l d (c l))) sp → rl_t P (cs_set c l (ln_nf P yun yta l d (c l))) tr → post (yL, yC, nI (pg_w P), nI (pg_al P), yP, nI (pg_n P), yF, yB, yco, yjn, yse, ypd, st, pc, sp, re, yun, me, yta, yma, tr)) →
      wY_goAlone_2 post (nI l) (d + 1) (nI j) yL yC (nI (pg_w P)) (nI (pg_al P)) yP (nI (pg_n P)) yF yB yco yjn yse ypd st pc sp re yun me yta yma tr := by
  obtain ⟨hL2, hL, hn, hw4, hw, ha16, hal, hin⟩ := hok
  have hc : (nI l).toNatClampNeg = l := nI_clamp (by omega)
  have hv : vp_in (nI l) 8 := vp_in_nI (by omega) (by omega)
  intro d
  induction d with
  | zero =>
    intro j c st pc sp re me tr hj _ ha hs ht h
    refine br_t (nI_lt (a := 128) (by omega) (by omega)) (h st pc sp re me tr ?_ ?_ ?_)
    · rw [ln_nf, cs_self]; exact ha
    · rw [ln_nf, cs_self]; exact hs
    · rw [ln_nf, cs_self]; exact ht
  | succ d ih =>
    intro j c st pc sp re me tr hj hG ha hs ht h
    have g := hG l hl
    refine br_f (nI_nlt (a := 128) (by omega) (by omega)) ⟨hv, ?_⟩
    rw [hc, (ha l hl).1, hs l hl]
    refine br_c (fun z => ⟨hv, pk_lt (ln_sp (c l)) (pg_al P) (fun w => ⟨hv, ?_⟩) (fun w => ?_) rfl rfl (by have := g.2.2.1; omega)⟩) (fun z => ?_)
    · have hp := g.2.1 z
      rw [(ha l hl).2.1, yw_4, show yco (nI (4 * ln_pc (c l))).toNatClampNeg = nI (pg_o P (ln_pc (c l))) by rw [nI_clamp (by omega)]; exact (hy _ hp).1]
      have o24 := (hin _ hp).1
      refine ⟨vp_in_nI (by omega) (by omega), pk_lt (pg_o P (ln_pc (c l))) 20 (fun o20 => ?_) (fun o20 => h st pc sp re me tr ?_ ?_ ?_)⟩
      · refine yr_out hy hL hn hw htk (fun q hq => by have := (hG q hq).2.2.1; omega) hl (by omega) hp (hin _ hp) o20 ha hs ht (fun st pc sp re me tr a1 a2 a3 => nm_r (nI_1 j) ?_)
        refine ih (j + 1) _ st pc sp re me tr (by omega) (fun q hq => ?_) a1 a2 a3 ?_
        · by_cases e : q = l
          · rw [e, cs_at]; exact ln_gd1 htk hin g z w
          · rw [cs_ne e]; exact hG q hq
        · rw [cs_2, cs_at]
          rw [ln_nf, if_pos z, if_pos w, if_pos o20] at h
          exact h
      · rw [ln_nf, if_pos z, if_pos w, if_neg (by omega), cs_self]; exact ha
      · rw [ln_nf, if_pos z, if_pos w, if_neg (by omega), cs_self]; exact hs
      · rw [ln_nf, if_pos z, if_pos w, if_neg (by omega), cs_self]; exact ht
    · rw [ln_nf, if_pos z, if_neg (by omega)] at h
      refine ⟨hv, nm_e (nm_r (nI_1 j) ?_)⟩
      have s4 : ln_st ((4, (c l).2) : ln_V) ≠ 1 := by show ¬ (4 : Int32) = 1; decide
      refine ih (j + 1) (cs_set c l (4, (c l).2)) _ pc sp re me tr (by omega) (fun q hq => ?_) (rl_st ha 4) (rl_s0 hs _ rfl) (rl_t0 ht rfl rfl) ?_
      · by_cases e : q = l
        · rw [e, cs_at]; exact ln_gd4 g
        · rw [cs_ne e]; exact hG q hq
      · rw [cs_2, cs_at, ln_nfstop s4]
        exact h
    · rw [ln_nf, if_neg z, cs_self] at h
      exact h st pc sp re me tr ha hs ht
theorem yr_first {post : Int32 → Prop} (hL : pg_L P ≤ 8) (ha : rl_a P c yst ypc yre yme) {e : Nat} (he : e ≤ pg_L P) (hno : ∀ l, l < e → ln_st (c l) ≠ 1) (hend : e = pg_L P → post (-1)) (hbad : e < pg_L P → ln_st (c e) = 1 ∧ post (nI e)) :
    wpY_firstRunning post (nI (pg_L P), yC, yW, yA, yP, yN, yF, yB, yco, yjn, yse, ypd, yst, ypc, ysp, yre, yun, yme, yta, yma, ytr) := by
  refine loop_0 (fun n i (_ : Unit) => wY_firstRunning_2 post (nI (pg_L P)) yC yW yA yP yN yF yB yco yjn yse ypd yst ypc ysp yre yun yme yta yma ytr n (nI i)) (fun _ _ => True) e () trivial ?_ ?_
  · intro n _ _
    rcases Nat.lt_or_ge e (pg_L P) with z | z
    · refine br_f (nI_ge z (by omega)) ⟨vp_in_nI (by omega) (by omega), ?_⟩
      rw [nI_clamp (by omega), (ha e z).1]
      exact br_t (hbad z).1 (hbad z).2
    · exact br_t (nI_le z (by omega)) (hend (by omega))
  · intro n i _ hi _ ih
    refine br_f (nI_ge (by omega) (by omega)) ⟨vp_in_nI (by omega) (by omega), ?_⟩
    rw [nI_clamp (by omega), (ha i (by omega)).1]
    exact br_f (hno i hi) (nm_r (nI_1 i) (ih () trivial))
/-- the lanes' part of a SYNC -/
theorem yr_197 {post : SY → Prop} {u0 : Nat → Int32} (hok : pg_ok P) (htk : pg_tok P) {p : Nat} (hp : p < pg_n P) (ho : 20 ≤ pg_o P p) (hpc : ∀ l, l < pg_L P → ln_st (c l) = 1 → ln_pc (c l) = p ∧ ln_sp (c l) < pg_al P) (hsp : ∀ l, l < pg_L P → ln_sp (c l) ≤ 128) (ha : rl_a P c yst ypc yre yme) (hs : rl_s P c ysp) (htr : rl_t P c ytr)
    (h : ∀ st pc sp tr, rl_a P (sy_c P u0 yta c) st pc yre yme → rl_s P (sy_c P u0 yta c) sp → rl_t P (sy_c P u0 yta c) tr → post (nI (pg_L P), yC, yW, yA, yP, nI (pg_n P), yF, yB, yco, yjn, yse, ypd, st, pc, sp, yre, yun, yme, yta, yma, tr)) :
    ∃ n, wY_sync_197 post (nI p) n 0 (nI (pg_L P)) yC yW yA yP (nI (pg_n P)) yF yB yco yjn yse ypd yst ypc ysp yre yun yme yta yma ytr := by
  obtain ⟨hL2, hL, hn, hw4, hw, ha16, hal, hin⟩ := hok
  have sc : sy_c P u0 yta c = mr_c (ln_step P u0 yta) c (pg_L P) := rfl
  rw [sc] at h
  have spm : ∀ i l, l < pg_L P → ln_sp (mr_c (ln_step P u0 yta) c i l) ≤ 128 := by
    intro i l hl
    unfold mr_c
    by_cases z : l < i ∧ ln_st (c l) = 1
    · rw [if_pos z, ln_sp1]
      have := (hpc l hl z.2).2
      omega
    · rw [if_neg z]; exact hsp l hl
  refine loop_0 (fun n i (s : (Nat → Int32) × (Nat → Int32) × (Nat → Int32) × (Nat → Int32)) => wY_sync_197 post (nI p) n (nI i) (nI (pg_L P)) yC yW yA yP (nI (pg_n P)) yF yB yco yjn yse ypd s.1 s.2.1 s.2.2.1 yre yun yme yta yma s.2.2.2) (fun i s => rl_a P (mr_c (ln_step P u0 yta) c i) s.1 s.2.1 yre yme ∧ rl_s P (mr_c (ln_step P u0 yta) c i) s.2.2.1 ∧ rl_t P (mr_c (ln_step P u0 yta) c i) s.2.2.2) (pg_L P) (yst, ypc, ysp, ytr) ⟨by rw [mr_0]; exact ha, by rw [mr_0]; exact hs, by rw [mr_0]; exact htr⟩ ?_ ?_
  · intro n s ⟨h1, h2, h3⟩
    exact br_t (nI_le (Nat.le_refl _) (by omega)) (h _ _ _ _ h1 h2 h3)
  · intro n i s hi ⟨h1, h2, h3⟩ ih
    obtain ⟨st, pc, sp, tr⟩ := s
    dsimp only at h1 h2 h3 ih ⊢
    have hc : (nI i).toNatClampNeg = i := nI_clamp (by omega)
    have hv : vp_in (nI i) 8 := vp_in_nI (by omega) (by omega)
    have e1 : st i = ln_st (c i) := by have := (h1 i hi).1; rw [mr_at] at this; exact this
    have e2 : sp i = nI (ln_sp (c i)) := by have := h2 i hi; rw [mr_at] at this; exact this
    refine br_f (nI_ge hi (by omega)) ⟨hv, ?_⟩
    rw [hc, e1]
    refine br_c (fun z => ?_) (fun z => nm_r (nI_1 i) (ih (st, pc, sp, tr) ?_))
    · have q := hpc i hi z
      rw [e2, iy_128, nI_clamp (by omega), nI_1 (ln_sp (c i)), nI_1 p]
      refine ⟨hv, vp_in_nI (by omega) (by omega), nm_e ⟨hv, hv, nm_e ?_⟩⟩
      have sv : ln_sp (nt_g p i (c i)) = ln_sp (c i) + 1 := rfl
      have tv : ln_tr (nt_g p i (c i)) = ln_up (ln_tr (mr_c (ln_step P u0 yta) c i i)) (ln_sp (mr_c (ln_step P u0 yta) c i i)) p := by rw [mr_at]; rfl
      have a1 : rl_a P (cs_set (mr_c (ln_step P u0 yta) c i) i (nt_g p i (c i))) st pc yre yme := rl_any h1 (by rw [mr_at]; rfl) (by rw [mr_at]; rfl) (by rw [mr_at]; rfl) (by rw [mr_at]; rfl)
      have s1 := rl_s1 (i := i) h2 (nt_g p i (c i)) _ sv
      have t1 := rl_t1 (i := i) (p := p) (v := nt_g p i (c i)) h3 (spm i) (by rw [mr_at]; omega) (by rw [mr_at]; rfl) tv
      rw [mr_at] at t1
      have nx : ln_nx P u0 (c i) = p + 1 := by
        rw [tu_nx q.1 (by unfold pr_br; omega)]
        unfold tu_t
        rw [if_neg (by omega), if_neg (by omega)]
      have stp : ln_step P u0 yta i (c i) = (if p + 1 = pg_n P then 2 else (nt_g p i (c i)).1, p + 1, (nt_g p i (c i)).2.2) := by
        have s := st_simple (P := P) (u := u0) (t := yta) (l := i) z q.1 (Or.inr (by omega)) (by rw [nx]; omega)
        rw [← s, nx]
        have hpl : pl_g (pg_n P) (p + 1) i (nt_g p i (c i)) = (if pg_n P ≤ p + 1 then 2 else (nt_g p i (c i)).1, p + 1, (nt_g p i (c i)).2.2) := if_pos z
        rw [hpl]
        by_cases w : p + 1 = pg_n P
        · rw [if_pos w, if_pos (by omega)]
        · rw [if_neg w, if_neg (by omega)]
      refine yr_goon (c := cs_set (mr_c (ln_step P u0 yta) c i) i (nt_g p i (c i))) hL hn hi (by omega) a1 (fun st2 pc2 a2 => nm_r (nI_1 i) (ih (st2, pc2, _, _) ⟨?_, ?_, ?_⟩))
      · dsimp only
        rw [cs_2, cs_at, ← stp] at a2
        rw [mr_s1 z]
        exact a2
      · dsimp only
        rw [mr_s1 z]
        intro l hl
        have := s1 l hl
        by_cases e : l = i
        · rw [e, cs_at] at this ⊢
          rw [ln_sp1]
          exact this
        · rw [cs_ne e] at this ⊢; exact this
      · dsimp only
        rw [mr_s1 z]
        intro l hl k hk
        by_cases e : l = i
        · rw [e, cs_at] at hk ⊢
          have := t1 i hi k
          rw [cs_at] at this
          rw [ln_tr1, q.1]
          rw [ln_sp1] at hk
          exact this hk
        · have := t1 l hl k
          rw [cs_ne e] at this hk ⊢
          exact this hk
    · rw [mr_s0 z]
      exact ⟨h1, h2, h3⟩
theorem yr_sync {post : SY → Prop} (hok : pg_ok P) (htk : pg_tok P) (hy : py_ok P yco) {p : Nat} (hp : p < pg_n P) (ho : 20 ≤ pg_o P p) (hpc : ∀ l, l < pg_L P → ln_st (c l) = 1 → ln_pc (c l) = p ∧ ln_sp (c l) < pg_al P) (hsp : ∀ l, l < pg_L P → ln_sp (c l) ≤ 128) (ha : rl_a P c yst ypc yre yme) (hs : rl_s P c ysp) (htr : rl_t P c ytr)
    (h : ∀ st pc sp tr, rl_a P (sy_c P yun yta c) st pc yre yme → rl_s P (sy_c P yun yta c) sp → rl_t P (sy_c P yun yta c) tr → post (nI (pg_L P), yC, yW, yA, yP, nI (pg_n P), yF, sy_b P yB p, yco, yjn, yse, ypd, st, pc, sp, yre, sy_u P c yun p, yme, yta, yma, tr)) :
    wpY_sync post (nI (pg_L P), yC, yW, yA, yP, nI (pg_n P), yF, yB, yco, yjn, yse, ypd, yst, ypc, ysp, yre, yun, yme, yta, yma, ytr) (nI p) := by
  have hok' := hok
  obtain ⟨hL2, hL, hn, hw4, hw, ha16, hal, hin⟩ := hok
  obtain ⟨i1, i2, i3, i4, i5, i6, i7⟩ := hin p hp
  obtain ⟨f1, f2, f3, f4⟩ := hy p hp
  have c0 : (nI (4 * p)).toNatClampNeg = 4 * p := nI_clamp (by omega)
  have c1 : (nI (4 * p + 1)).toNatClampNeg = 4 * p + 1 := nI_clamp (by omega)
  have c2 : (nI (4 * p + 2)).toNatClampNeg = 4 * p + 2 := nI_clamp (by omega)
  have c3 : (nI (4 * p + 3)).toNatClampNeg = 4 * p + 3 := nI_clamp (by omega)
  have w1 : nI (4 * p) + 1 = nI (4 * p + 1) := yw_4a p 1
  have w2 : nI (4 * p) + 2 = nI (4 * p + 2) := yw_4a p 2
  have w3 : nI (4 * p) + 3 = nI (4 * p + 3) := yw_4a p 3
  unfold wpY_sync
  dsimp only
  rw [yw_4, w1, w2, w3, c0, c1, c2, c3, f1, f2, f3, f4]
  refine ⟨vp_in_nI (by omega) (by omega), nm_e ⟨vp_in_nI (by omega) (by omega), nm_e ⟨vp_in_nI (by omega) (by omega), nm_e ⟨vp_in_nI (by omega) (by omega), nm_e ?_⟩⟩⟩⟩
  refine loop_0 (fun n i (s : Int32) => wY_sync_50 post (nI p) (nI (pg_o P p)) (nI (pg_a P p)) (nI (pg_b P p)) (pg_c P p) (nI (pg_L P)) yC yW yA yP (nI (pg_n P)) yF yB yco yjn yse ypd yst ypc ysp yre yun yme yta yma ytr n s (nI i)) (fun i s => s = nI (bm_m (fun l => decide (ln_st (c l) = 1) && !decide (ln_rg (c l) (pg_b P p) = 0)) i)) (pg_L P) 0 rfl ?_ ?_
  · intro n s hs'
    refine br_t (nI_le (Nat.le_refl _) (by omega)) ?_
    have es : s = sy_v P c p := hs'
    rw [es]
    unfold sy_b sy_u at h
    have fin := fun (B : Int32) (u : Nat → Int32) (hh : ∀ st pc sp tr, rl_a P (sy_c P yun yta c) st pc yre yme → rl_s P (sy_c P yun yta c) sp → rl_t P (sy_c P yun yta c) tr → post (nI (pg_L P), yC, yW, yA, yP, nI (pg_n P), yF, B, yco, yjn, yse, ypd, st, pc, sp, yre, u, yme, yta, yma, tr)) => yr_197 (u0 := yun) (yun := u) (yB := B) hok' htk hp ho hpc hsp ha hs htr hh
    have hh : pg_o P p = 20 ∨ pg_o P p = 21 ∨ pg_o P p = 22 ∨ pg_o P p = 23 ∨ pg_o P p = 24 := by omega
    rcases hh with e | e | e | e | e
    · rw [e] at h ⊢
      exact br_t rfl (nm_e (br_f (by decide) (br_f (by decide) (br_f (by decide) (br_f (by decide) (fin _ _ h))))))
    · have a4 := i4 (by omega)
      rw [e] at h ⊢
      refine br_f (by decide) (br_t rfl ⟨vp_in_nI a4 (by omega), nm_e (br_f (by decide) (br_f (by decide) (br_f (by decide) ?_)))⟩)
      rw [nI_clamp (by omega)]
      exact fin _ _ h
    · have a4 := i4 (by omega)
      rw [e] at h ⊢
      refine br_f (by decide) (br_f (by decide) (br_t rfl ⟨vp_in_nI a4 (by omega), nm_e (br_f (by decide) (br_f (by decide) ?_))⟩))
      rw [nI_clamp (by omega)]
      exact fin _ _ h
    · have a4 := i4 (by omega)
      have b4 := i5 (by omega)
      rw [e] at h ⊢
      refine br_f (by decide) (br_f (by decide) (br_f (by decide) (br_t rfl ⟨vp_in_nI b4 (by omega), vp_in_nI a4 (by omega), nm_e (br_f (by decide) ?_)⟩)))
      rw [nI_clamp (by omega), nI_clamp (by omega)]
      exact fin _ _ h
    · have a4 := i4 (by omega)
      have b4 := i5 (by omega)
      obtain ⟨k, hk, ek⟩ := i7 e
      have tg : pg_tg P p = k := by unfold pg_tg; rw [ek, nI_clamp (by omega)]
      rw [tg] at h
      rw [e] at h ⊢
      rw [ek]
      refine br_f (by decide) (br_f (by decide) (br_f (by decide) (br_f (by decide) (br_t rfl ⟨vp_in_nI b4 (by omega), vp_in_nI hk (by omega), vp_in_nI a4 (by omega), nm_e ?_⟩))))
      rw [nI_clamp (by omega), nI_clamp (by omega), nI_clamp (by omega)]
      exact fin _ _ h
  · intro n i s hi hs' ih
    have skip : ¬ (ln_st (c i) = 1 ∧ ¬ ln_rg (c i) (pg_b P p) = 0) → wY_sync_50 post (nI p) (nI (pg_o P p)) (nI (pg_a P p)) (nI (pg_b P p)) (pg_c P p) (nI (pg_L P)) yC yW yA yP (nI (pg_n P)) yF yB yco yjn yse ypd yst ypc ysp yre yun yme yta yma ytr n s (nI (i + 1)) := by
      intro no
      refine ih s ?_
      rw [hs', bm_m, if_neg (by simpa using no)]
      rfl
    have er : yre (nI (8 * i + pg_b P p)).toNatClampNeg = ln_rg (c i) (pg_b P p) := by rw [nI_clamp (by omega)]; exact (ha i hi).2.2.1 _ i3
    refine br_f (nI_ge hi (by omega)) ⟨vp_in_nI (by omega) (by omega), ?_⟩
    rw [nI_clamp (by omega), (ha i hi).1, iy_8, er]
    refine br_c (fun z => ⟨vp_in_nI (by omega) (by omega), br_c (fun w => nm_r (nI_1 i) (skip (fun y => y.2 w))) (fun w => nm_e (nm_r (nI_1 i) (ih _ ?_)))⟩) (fun z => nm_r (nI_1 i) (skip (fun y => z y.1)))
    rw [hs', bm_m, if_pos (by simp [z, w])]
    exact bm_pl _ (by omega)
end
end
section
/-! own rows: the reference lays two traces side by side -/
def ly_B (P : pg_P) (f g : ln_V) (k p : Nat) : Prop := ∃ k' i j, k' < k ∧ pr_k P f g k' i j ∧ i < ln_sp f ∧ j < ln_sp g ∧ ln_ft f i = p ∧ ∀ q, i < q → q < ln_sp f → ln_ft f q ≠ p
section
variable {P : pg_P} {F : Nat → ln_V} {yL yC yW yA yP yN yF yB : Int32} {yco yjn yse ypd yst ypc ysp yre yun yme yta yma ytr : Nat → Int32}
theorem ly_ft {v : ln_V} {i : Nat} (h : i < ln_sp v) : ln_ft v i = ln_tr v i := if_pos h
theorem ly_ftn (hG : xi_G P F) {a i : Nat} (ha : a < pg_L P) : ln_ft (F a) i ≤ pg_n P := by
  unfold ln_ft
  by_cases z : i < ln_sp (F a)
  · rw [if_pos z]; exact Nat.le_of_lt ((hG a ha).2.2.2 i z)
  · rw [if_neg z]; exact (hG a ha).1
theorem yl_find {post : Int32 → Prop} (hok : pg_ok P) (hG : xi_G P F) (hs : rl_s P F ysp) (htr : rl_t P F ytr) {a i0 w e : Nat} (ha : a < pg_L P) (hw : w ≤ 33) (hi : i0 ≤ e) (he : e ≤ ln_sp (F a)) (hno : ∀ q, i0 ≤ q → q < e → ln_ft (F a) q ≠ w) (hend : e = ln_sp (F a) → post (-1)) (hbad : e < ln_sp (F a) → ln_ft (F a) e = w ∧ post (nI e)) :
    wpY_find post (yL, yC, yW, yA, yP, yN, yF, yB, yco, yjn, yse, ypd, yst, ypc, ysp, yre, yun, yme, yta, yma, ytr) (nI a) (nI i0) (nI w) := by
  obtain ⟨hL2, hL, hn, hw4, hww, ha16, hal, hin⟩ := hok
  have sp128 : ln_sp (F a) ≤ 128 := by have := (hG a ha).2.2.1; omega
  have hv : vp_in (nI a) 8 := vp_in_nI (by omega) (by omega)
  have es : ysp (nI a).toNatClampNeg = nI (ln_sp (F a)) := by rw [nI_clamp (by omega)]; exact hs a ha
  have et : ∀ q, q < ln_sp (F a) → ytr (nI (128 * a + q)).toNatClampNeg = nI (ln_ft (F a) q) := fun q hq => by rw [nI_clamp (by omega), ly_ft hq]; exact htr a ha q hq
  refine pk_loop (fun n i (_ : Unit) => wY_find_3 post (nI a) (nI w) yL yC yW yA yP yN yF yB yco yjn yse ypd yst ypc ysp yre yun yme yta yma ytr n (nI i)) (fun i _ => i0 ≤ i) e i0 () hi (Nat.le_refl _) ?_ ?_
  · intro n _ _
    simp only [wY_find_3]
    rw [es]
    refine ⟨hv, pk_le (ln_sp (F a)) e (fun z => hend (by omega)) (fun z => ?_)⟩
    obtain ⟨b1, b2⟩ := hbad z
    rw [iy_128, et e z, b1]
    exact ⟨vp_in_nI (by omega) (by omega), br_t rfl b2⟩
  · intro n i _ hie hi0 ih
    simp only [wY_find_3]
    rw [es]
    refine ⟨hv, pk_le (ln_sp (F a)) i (fun z => by omega) (fun z => ?_)⟩
    rw [iy_128, et i z]
    refine ⟨vp_in_nI (by omega) (by omega), br_f (fun y => ?_) (nm_r (nI_1 i) (ih () (by omega)))⟩
    have := ly_ftn (i := i) hG ha
    exact hno i hi0 hie ((nI_eq (by omega) (by omega)).mp y)
/-- there is a first place, or none -/
theorem ly_first (f : ln_V) (w i0 : Nat) (h : i0 ≤ ln_sp f) : ∃ e, i0 ≤ e ∧ e ≤ ln_sp f ∧ (∀ q, i0 ≤ q → q < e → ln_ft f q ≠ w) ∧ (e < ln_sp f → ln_ft f e = w) := by
  by_cases ex : ∃ q, i0 ≤ q ∧ q < ln_sp f ∧ ln_ft f q = w
  · obtain ⟨e, he, hm⟩ := pk_least _ ex
    exact ⟨e, he.1, by omega, fun q q1 q2 q3 => hm q q2 ⟨q1, by omega, q3⟩, fun _ => he.2.2⟩
  · exact ⟨ln_sp f, h, Nat.le_refl _, fun q q1 q2 q3 => ex ⟨q, q1, q2, q3⟩, fun z => absurd z (Nat.lt_irrefl _)⟩
theorem ly_Ball {k i j : Nat} {f g : ln_V} (hk : pr_k P f g k i j) (hx : ln_sp f ≤ i ∨ ln_sp g ≤ j) (p : Nat) : (∃ i j, pr_p P f g i j ∧ i < ln_sp f ∧ j < ln_sp g ∧ ln_ft f i = p ∧ ∀ q, i < q → q < ln_sp f → ln_ft f q ≠ p) → ly_B P f g k p := by
  intro ⟨i', j', ⟨k', hk'⟩, h1, h2, h3⟩
  refine ⟨k', i', j', ?_, hk', h1, h2, h3⟩
  rcases Nat.lt_trichotomy k k' with c | c | c
  · have := pr_klt hk hk' c
    omega
  · subst c
    have := pr_ku k hk hk'
    omega
  · exact c
theorem yl_two {post : SY → Prop} (hok : pg_ok P) (hse : pg_se P) (hy : py_ok P yco) (hjn : py_jn P yjn) (hG : xi_G P F) (ha' : rl_a P F yst ypc yre yme) (hs : rl_s P F ysp) (htr : rl_t P F ytr) {a b : Nat} (ha : a < pg_L P) (hb : b < pg_L P)
    (h : ∀ ma, (∀ p q, p < 32 → q < 32 → (bt (ma (32 * a + p)) q = true ↔ (bt (yma (32 * a + p)) q = true ∨ (q = b ∧ mt_pr P F (ln_sp (F a)) a p b)))) → (∀ a' p, a' < pg_L P → a' ≠ a → p < 32 → ma (32 * a' + p) = yma (32 * a' + p)) → post (yL, yC, yW, yA, yP, yN, yF, yB, yco, yjn, yse, ypd, yst, ypc, ysp, yre, yun, yme, yta, ma, ytr)) :
    wpY_layTwo post (yL, yC, yW, yA, yP, yN, yF, yB, yco, yjn, yse, ypd, yst, ypc, ysp, yre, yun, yme, yta, yma, ytr) (nI a) (nI b) := by
  have hok' := hok
  obtain ⟨hL2, hL, hn, hw4, hww, ha16, hal, hin⟩ := hok
  have spa : ln_sp (F a) ≤ 128 := by have := (hG a ha).2.2.1; omega
  have spb : ln_sp (F b) ≤ 128 := by have := (hG b hb).2.2.1; omega
  have hva : vp_in (nI a) 8 := vp_in_nI (by omega) (by omega)
  have hvb : vp_in (nI b) 8 := vp_in_nI (by omega) (by omega)
  have ca : (nI a).toNatClampNeg = a := nI_clamp (by omega)
  have cb : (nI b).toNatClampNeg = b := nI_clamp (by omega)
  have esa : ysp (nI a).toNatClampNeg = nI (ln_sp (F a)) := by rw [ca]; exact hs a ha
  have esb : ysp (nI b).toNatClampNeg = nI (ln_sp (F b)) := by rw [cb]; exact hs b hb
  have epa : ypc (nI a).toNatClampNeg = nI (ln_pc (F a)) := by rw [ca]; exact (ha' a ha).2.1
  have epb : ypc (nI b).toNatClampNeg = nI (ln_pc (F b)) := by rw [cb]; exact (ha' b hb).2.1
  have eta : ∀ q, q < ln_sp (F a) → ytr (nI (128 * a + q)).toNatClampNeg = nI (ln_ft (F a) q) := fun q hq => by rw [nI_clamp (by omega), ly_ft hq]; exact htr a ha q hq
  have etb : ∀ q, q < ln_sp (F b) → ytr (nI (128 * b + q)).toNatClampNeg = nI (ln_ft (F b) q) := fun q hq => by rw [nI_clamp (by omega), ly_ft hq]; exact htr b hb q hq
  have fle : ∀ x q, x < pg_L P → ln_ft (F x) q ≤ pg_n P := fun x q hx => ly_ftn hG hx
  let I : Nat → (Nat → Int32) → Prop := fun k ma => (∀ p q, p < 32 → q < 32 → (bt (ma (32 * a + p)) q = true ↔ (bt (yma (32 * a + p)) q = true ∨ (q = b ∧ ly_B P (F a) (F b) k p)))) ∧ (∀ a' p, a' < pg_L P → a' ≠ a → p < 32 → ma (32 * a' + p) = yma (32 * a' + p))
  have fin : ∀ k ma, I k ma → (∀ p, mt_pr P F (ln_sp (F a)) a p b → ly_B P (F a) (F b) k p) → post (yL, yC, yW, yA, yP, yN, yF, yB, yco, yjn, yse, ypd, yst, ypc, ysp, yre, yun, yme, yta, ma, ytr) := by
    intro k ma hI hB
    refine h ma (fun p q hp hq => ?_) hI.2
    rw [hI.1 p q hp hq]
    constructor
    · intro z
      rcases z with z | ⟨z, k', i, j, _, h2, h3, h4, h5⟩
      · exact Or.inl z
      · exact Or.inr ⟨z, i, j, ⟨k', h2⟩, h3, h4, h5⟩
    · intro z
      rcases z with z | z
      · exact Or.inl z
      · exact Or.inr ⟨z.1, hB p z.2⟩
  have exit : ∀ k i j ma, pr_k P (F a) (F b) k i j → (ln_sp (F a) ≤ i ∨ ln_sp (F b) ≤ j) → I k ma → post (yL, yC, yW, yA, yP, yN, yF, yB, yco, yjn, yse, ypd, yst, ypc, ysp, yre, yun, yme, yta, ma, ytr) := fun k i j ma hk hx hI => fin k ma hI (fun p hp => ly_Ball hk hx p hp)
  have main : ∀ d k i j ma, k + d = 128 → pr_k P (F a) (F b) k i j → I k ma → i ≤ 128 → j ≤ 128 → wY_layTwo_8 post (nI a) (nI b) yL yC yW yA yP yN yF yB (d + 1) (nI i) (nI j) (nI k) yco yjn yse ypd yst ypc ysp yre yun yme yta ma ytr := by
    intro d
    induction d with
    | zero =>
      intro k i j ma hk hp hI hi hj
      have := pr_kge hp
      exact br_t (nI_le (a := 128) (by omega) (by omega)) (exit k i j ma hp (Or.inl (by omega)) hI)
    | succ d ih =>
      intro k i j ma hk hp hI hi hj
      refine br_f (nI_ge (b := 128) (by omega) (by omega)) ⟨hva, ?_⟩
      rw [esa, esb]
      refine pk_le (ln_sp (F a)) i (fun z => exit k i j ma hp (Or.inl z) hI) (fun hia => ⟨hvb, pk_le (ln_sp (F b)) j (fun z => exit k i j ma hp (Or.inr z) hI) (fun hjb => ?_)⟩)
      rw [iy_128, eta i hia]
      have pn : ln_ft (F a) i < pg_n P := by rw [ly_ft hia]; exact (hG a ha).2.2.2 i hia
      refine ⟨vp_in_nI (by omega) (by omega), nm_e ?_⟩
      rw [yw_4, show yco (nI (4 * ln_ft (F a) i)).toNatClampNeg = nI (pg_o P (ln_ft (F a) i)) by rw [nI_clamp (by omega)]; exact (hy _ pn).1, nI_1]
      refine ⟨vp_in_nI (by omega) (by omega), nm_e ?_⟩
      have o24 := (hin _ pn).1
      -- behind the note
      have after : ∀ ma2, I (k + 1) ma2 → wY_layTwo_97 post (wY_layTwo_8 post (nI a) (nI b) yL yC yW yA yP yN yF yB (d + 1)) (nI a) (nI b) (nI i) (nI j) (nI k) (nI (ln_ft (F a) i)) (nI (pg_o P (ln_ft (F a) i))) yL yC yW yA yP yN yF yB yco yjn yse ypd yst ypc ysp yre yun yme yta ma2 ytr := by
        intro ma2 hI2
        have tail : ∀ x9 x10 : Int32, x9 = nI (ln_ft (F a) (i + 1)) → x10 = nI (ln_ft (F b) (j + 1)) → wY_layTwo_169 post (wY_layTwo_8 post (nI a) (nI b) yL yC yW yA yP yN yF yB (d + 1)) (nI a) (nI b) (nI (i + 1)) (nI (j + 1)) (nI k) (nI (ln_ft (F a) i)) (nI (pg_o P (ln_ft (F a) i))) x9 x10 yL yC yW yA yP yN yF yB yco yjn yse ypd yst ypc ysp yre yun yme yta ma2 ytr := by
          intro x9 x10 e9 e10
          have ja := fle a (i + 1) ha
          have jb := fle b (j + 1) hb
          have go : (¬ pr_br P (ln_ft (F a) i) ∨ ln_ft (F a) (i + 1) = ln_ft (F b) (j + 1)) → wY_layTwo_8 post (nI a) (nI b) yL yC yW yA yP yN yF yB (d + 1) (nI (i + 1)) (nI (j + 1)) (nI (k + 1)) yco yjn yse ypd yst ypc ysp yre yun yme yta ma2 ytr := fun hc => ih (k + 1) (i + 1) (j + 1) ma2 (by omega) ⟨i, j, hp, hia, hjb, Or.inl ⟨hc, rfl, rfl⟩⟩ hI2 (by omega) (by omega)
          have c185 : pr_br P (ln_ft (F a) i) → wY_layTwo_185 post (wY_layTwo_8 post (nI a) (nI b) yL yC yW yA yP yN yF yB (d + 1)) (nI a) (nI b) (nI (i + 1)) (nI (j + 1)) (nI k) (nI (ln_ft (F a) i)) x9 x10 yL yC yW yA yP yN yF yB yco yjn yse ypd yst ypc ysp yre yun yme yta ma2 ytr := by
            intro hbr
            unfold wY_layTwo_185
            refine pk_eq (ln_ft (F a) (i + 1)) (ln_ft (F b) (j + 1)) (fun z => nm_r (nI_1 k) (go (Or.inr z))) (fun hne => ?_) e9 e10
            have ej : yjn (nI (ln_ft (F a) i)).toNatClampNeg = nI (pg_j P (ln_ft (F a) i)) := by rw [nI_clamp (by omega)]; exact hjn _ pn
            rw [ej]
            have jle := (hse.2.2.2.1 _ pn).1
            obtain ⟨ea, p1, p2, p3, p4⟩ := ly_first (F a) (pg_j P (ln_ft (F a) i)) (i + 1) (by omega)
            obtain ⟨eb, q1, q2, q3, q4⟩ := ly_first (F b) (pg_j P (ln_ft (F a) i)) (j + 1) (by omega)
            have stop : (ea = ln_sp (F a) ∨ eb = ln_sp (F b)) → post (yL, yC, yW, yA, yP, yN, yF, yB, yco, yjn, yse, ypd, yst, ypc, ysp, yre, yun, yme, yta, ma2, ytr) := by
              intro hx
              refine fin (k + 1) ma2 hI2 (fun p ⟨i', j', ⟨k', hk'⟩, r1, r2, r3⟩ => ⟨k', i', j', ?_, hk', r1, r2, r3⟩)
              rcases Nat.lt_or_ge k k' with c | c
              · exfalso
                obtain ⟨x, y, s, x1, y1⟩ := pr_kaft hp hk' c
                rcases s.2.2 with ⟨s1, _⟩ | ⟨_, s1, s2⟩
                · rcases s1 with s1 | s1
                  · exact s1 hbr
                  · exact hne s1
                · rcases hx with hx | hx
                  · exact p3 x s1.1 (by omega) s1.2.2.1
                  · exact q3 y s2.1 (by omega) s2.2.2.1
              · omega
            have whenb : ∀ ra : Int32, (ea = ln_sp (F a) → ra < 0) → (ea < ln_sp (F a) → ra = nI ea) → wpY_find (fun r_67 => (((ra < 0 → (post (yL, yC, yW, yA, yP, yN, yF, yB, yco, yjn, yse, ypd, yst, ypc, ysp, yre, yun, yme, yta, ma2, ytr))) ∧ (¬ ra < 0 → (((0 ≤ r_67 → (∀ x5_91 : Int32, x5_91 = nI k + 1 → (wY_layTwo_8 post (nI a) (nI b) yL yC yW yA yP yN yF yB (d + 1) ra r_67 x5_91 yco yjn yse ypd yst ypc ysp yre yun yme yta ma2 ytr))) ∧ (¬ 0 ≤ r_67 → (post (yL, yC, yW, yA, yP, yN, yF, yB, yco, yjn, yse, ypd, yst, ypc, ysp, yre, yun, yme, yta, ma2, ytr))))))))) (yL, yC, yW, yA, yP, yN, yF, yB, yco, yjn, yse, ypd, yst, ypc, ysp, yre, yun, yme, yta, ma2, ytr) (nI b) (nI (j + 1)) (nI (pg_j P (ln_ft (F a) i))) := by
              intro ra r1 r2
              refine yl_find hok' hG hs htr hb (by omega) q1 q2 q3 (fun z => ?_) (fun z => ⟨q4 z, ?_⟩)
              · refine br_c (fun _ => stop (Or.inr z)) (fun _ => br_f (by decide) (stop (Or.inr z)))
              · refine br_c (fun w => ?_) (fun w => br_t (nI_pos' (by omega)) (nm_r (nI_1 k) ?_))
                · rcases Nat.lt_or_ge ea (ln_sp (F a)) with y | y
                  · rw [r2 y] at w
                    exact absurd w (nI_pos (by omega))
                  · exact stop (Or.inl (by omega))
                · rcases Nat.lt_or_ge ea (ln_sp (F a)) with y | y
                  · rw [r2 y]
                    exact ih (k + 1) ea eb ma2 (by omega) ⟨i, j, hp, hia, hjb, Or.inr ⟨⟨hbr, hne⟩, ⟨p1, p2, p4 y, p3⟩, ⟨q1, q2, q4 z, q3⟩⟩⟩ hI2 (by omega) (by omega)
                  · exact absurd (r1 (by omega)) w
            refine ⟨vp_in_nI (by omega) (by omega), ?_⟩
            refine yl_find hok' hG hs htr ha (by omega) p1 p2 p3 (fun z => ⟨vp_in_nI (by omega) (by omega), ?_⟩) (fun z => ⟨p4 z, vp_in_nI (by omega) (by omega), ?_⟩)
            · exact whenb (-1) (fun _ => by decide) (fun w => by omega)
            · exact whenb (nI ea) (fun w => by omega) (fun _ => rfl)
          unfold wY_layTwo_169
          refine pk_eq (pg_o P (ln_ft (F a) i)) 16 (fun z => c185 (Or.inl z)) (fun n16 => pk_eq (pg_o P (ln_ft (F a) i)) 17 (fun z => c185 (Or.inr z)) (fun n17 => nm_r (nI_1 k) (go (Or.inl (fun w => ?_)))))
          rcases w with w | w
          · exact n16 w
          · exact n17 w
        have mid : ∀ x9 : Int32, x9 = nI (ln_ft (F a) (i + 1)) → wY_layTwo_134 post (wY_layTwo_8 post (nI a) (nI b) yL yC yW yA yP yN yF yB (d + 1)) (nI a) (nI b) (nI (i + 1)) (nI (j + 1)) (nI k) (nI (ln_ft (F a) i)) (nI (pg_o P (ln_ft (F a) i))) x9 yL yC yW yA yP yN yF yB yco yjn yse ypd yst ypc ysp yre yun yme yta ma2 ytr := by
          intro x9 e9
          unfold wY_layTwo_134
          rw [esb, epb]
          refine ⟨hvb, pk_le (ln_sp (F b)) (j + 1) (fun z => ⟨hvb, tail _ _ e9 ?_⟩) (fun z => ?_)⟩
          · unfold ln_ft; rw [if_neg (show ¬ j + 1 < ln_sp (F b) by omega)]
          · rw [iy_128]
            exact ⟨vp_in_nI (by omega) (by omega), tail _ _ e9 (etb _ z)⟩
        unfold wY_layTwo_97
        refine nm_r (nI_1 i) (nm_r (nI_1 j) ?_)
        rw [esa, epa]
        refine ⟨hva, pk_le (ln_sp (F a)) (i + 1) (fun z => ⟨hva, mid _ ?_⟩) (fun z => ?_)⟩
        · unfold ln_ft; rw [if_neg (show ¬ i + 1 < ln_sp (F a) by omega)]
        · rw [iy_128]
          exact ⟨vp_in_nI (by omega) (by omega), mid _ (eta _ z)⟩
      -- is there a later one
      obtain ⟨e, p1, p2, p3, p4⟩ := ly_first (F a) (ln_ft (F a) i) (i + 1) (by omega)
      refine yl_find hok' hG hs htr ha (by omega) p1 p2 p3 (fun z => br_f (by decide) ?_) (fun z => ⟨p4 z, br_t (nI_pos' (by omega)) (after ma ⟨fun p q hp' hq' => ?_, hI.2⟩)⟩)
      · rw [iy_32, nI_clamp (by omega)]
        refine ⟨vp_in_nI (by omega) (by omega), vp_in_nI (by omega) (by omega), nm_e (after _ ⟨fun p q hp' hq' => ?_, fun a' p h1 h2 h3 => ?_⟩)⟩
        · have new : ly_B P (F a) (F b) (k + 1) (ln_ft (F a) i) := ⟨k, i, j, by omega, hp, hia, hjb, rfl, fun q q1 q2 => p3 q (by omega) (by omega)⟩
          by_cases ep : p = ln_ft (F a) i
          · rw [ep, pk_us, bi_or1p _ (by omega) hq', hI.1 _ q (by omega) hq']
            constructor
            · intro w
              rcases w with (w | w) | w
              · exact Or.inl w
              · exact Or.inr ⟨w.1, new⟩
              · exact Or.inr ⟨w, new⟩
            · intro w
              rcases w with w | w
              · exact Or.inl (Or.inl w)
              · exact Or.inr w.1
          · rw [pk_un (by omega), hI.1 p q hp' hq']
            have eqv : ly_B P (F a) (F b) (k + 1) p ↔ ly_B P (F a) (F b) k p := by
              constructor
              · intro ⟨k', i', j', r1, r2, r3⟩
                rcases Nat.lt_or_ge k' k with c | c
                · exact ⟨k', i', j', c, r2, r3⟩
                · have ek : k' = k := by omega
                  rw [ek] at r2
                  have := pr_ku k r2 hp
                  rw [this.1] at r3
                  exact absurd r3.2.2.1.symm ep
              · intro ⟨k', i', j', r1, r2⟩
                exact ⟨k', i', j', by omega, r2⟩
            rw [eqv]
        · rw [pk_un (by omega)]; exact hI.2 a' p h1 h2 h3
      · rw [hI.1 p q hp' hq']
        have eqv : ly_B P (F a) (F b) (k + 1) p ↔ ly_B P (F a) (F b) k p := by
          constructor
          · intro ⟨k', i', j', r1, r2, r3, r4, r5, r6⟩
            rcases Nat.lt_or_ge k' k with c | c
            · exact ⟨k', i', j', c, r2, r3, r4, r5, r6⟩
            · exfalso
              have ek : k' = k := by omega
              rw [ek] at r2
              have e2 := (pr_ku k r2 hp).1
              rw [e2] at r5 r6
              exact r6 e (by omega) z ((p4 z).trans r5)
          · intro ⟨k', i', j', r1, r2⟩
            exact ⟨k', i', j', by omega, r2⟩
        rw [eqv]
  unfold wpY_layTwo
  refine ⟨129, main 128 0 0 0 yma (by omega) ⟨rfl, rfl⟩ ⟨fun p q _ _ => ⟨Or.inl, fun z => z.elim id (fun ⟨_, k', _, _, w, _⟩ => by omega)⟩, fun _ _ _ _ _ => rfl⟩ (by omega) (by omega)⟩
end
end
section
/-! own rows: the reference's finish and run -/
section
variable {P : pg_P} {F : Nat → ln_V} {yL yC yW yA yP yN yF yB : Int32} {yco yjn yse ypd yst ypc ysp yre yun yme yta yma ytr : Nat → Int32}
theorem yf_all {post : Int32 → SY → Prop} (hok : pg_ok P) (hse : pg_se P) (hy : py_ok P yco) (hjn : py_jn P yjn) (hG : xi_G P F) (ha : rl_a P F yst ypc yre yme) (hs : rl_s P F ysp) (htr : rl_t P F ytr) {ma0 : Nat → Int32}
    (h1 : ∀ a p, a < pg_L P → p < 32 → (mt_in (F a) (ln_sp (F a)) p → yma (32 * a + p) = (1 : Int32) <<< (nI a &&& 31)) ∧ (¬ mt_in (F a) (ln_sp (F a)) p → yma (32 * a + p) = ma0 (32 * a + p)))
    (h : ∀ ma, iv_M P F (fun l => ln_sp (F l)) ma ma0 → ∀ ph, ((∀ l, l < pg_L P → ln_st (F l) ≠ 1) ∧ ph = 3 ∨ (∃ l, l < pg_L P ∧ ln_st (F l) = 1) ∧ ph = yP) → post ph (nI (pg_L P), yC, yW, yA, ph, yN, yF, yB, yco, yjn, yse, ypd, yst, ypc, ysp, yre, yun, yme, yta, ma, ytr)) :
    ∃ n, wY_finish_61 post n 0 (nI (pg_L P)) yC yW yA yP yN yF yB yco yjn yse ypd yst ypc ysp yre yun yme yta yma ytr := by
  have hok' := hok
  obtain ⟨hL2, hL, hn, hw4, hww, ha16, hal, hin⟩ := hok
  refine loop_0 (fun n i (s : Nat → Int32) => wY_finish_61 post n (nI i) (nI (pg_L P)) yC yW yA yP yN yF yB yco yjn yse ypd yst ypc ysp yre yun yme yta s ytr) (fun i s => ∀ a p q, a < pg_L P → p < 32 → q < 32 → (bt (s (32 * a + p)) q = true ↔ (bt (yma (32 * a + p)) q = true ∨ (a < i ∧ q < pg_L P ∧ q ≠ a ∧ mt_pr P F (ln_sp (F a)) a p q)))) (pg_L P) yma (fun a p q _ _ _ => ⟨Or.inl, fun z => z.elim id (fun w => by omega)⟩) ?_ ?_
  · intro n s hsp
    refine br_t (nI_le (Nat.le_refl _) (by omega)) ?_
    have M : iv_M P F (fun l => ln_sp (F l)) s ma0 := by
      intro a p hal' hp
      dsimp only
      have := h1 a p hal' hp
      refine ⟨fun z b hb => ?_, fun z => ?_⟩
      · rw [hsp a p b hal' hp hb, this.1 z, bi_1 a (by omega) b hb]
        simp only [decide_eq_true_eq]
        exact ⟨fun w => w.elim Or.inl (fun w => Or.inr w.2), fun w => w.elim Or.inl (fun w => Or.inr ⟨hal', w⟩)⟩
      · apply b_ext
        intro q hq
        have e := hsp a p q hal' hp hq
        rw [this.2 z] at e
        have no : ¬ (a < pg_L P ∧ q < pg_L P ∧ q ≠ a ∧ mt_pr P F (ln_sp (F a)) a p q) := fun w => by
          obtain ⟨i, j, _, w2, _, w4, _⟩ := w.2.2.2
          exact z ⟨i, w2, w4⟩
        cases x : bt (ma0 (32 * a + p)) q
        · cases y : bt (s (32 * a + p)) q
          · rfl
          · rcases e.mp y with w | w
            · rw [x] at w; exact absurd w (by decide)
            · exact absurd w no
        · exact e.mpr (Or.inl x)
    by_cases run : ∃ l, l < pg_L P ∧ ln_st (F l) = 1
    · obtain ⟨l, hl, z1, z2⟩ := rn_least run
      exact yr_first hL ha (e := l) (by omega) z2 (fun w => by omega) (fun _ => ⟨z1, br_t (nI_pos' (by omega)) (h s M yP (Or.inr ⟨run, rfl⟩))⟩)
    · exact yr_first hL ha (e := pg_L P) (Nat.le_refl _) (fun l hl z => run ⟨l, hl, z⟩) (fun _ => br_f (by decide) (h s M 3 (Or.inl ⟨fun l hl z => run ⟨l, hl, z⟩, rfl⟩))) (fun w => by omega)
  · intro n i s hi hsp ih
    refine br_f (nI_ge hi (by omega)) ?_
    refine loop_0 (fun m j (r : Nat → Int32) => wY_finish_71 post (wY_finish_61 post n) (nI i) m (nI j) (nI (pg_L P)) yC yW yA yP yN yF yB yco yjn yse ypd yst ypc ysp yre yun yme yta r ytr) (fun j r => ∀ a p q, a < pg_L P → p < 32 → q < 32 → (bt (r (32 * a + p)) q = true ↔ (bt (yma (32 * a + p)) q = true ∨ ((a < i ∨ (a = i ∧ q < j)) ∧ q < pg_L P ∧ q ≠ a ∧ mt_pr P F (ln_sp (F a)) a p q)))) (pg_L P) s (fun a p q h1 h2 h3 => ?_) ?_ ?_
    · rw [hsp a p q h1 h2 h3]
      exact ⟨fun z => z.elim Or.inl (fun w => Or.inr ⟨Or.inl w.1, w.2⟩), fun z => z.elim Or.inl (fun w => Or.inr ⟨by rcases w.1 with y | y <;> omega, w.2⟩)⟩
    · intro m r hr
      refine br_t (nI_le (Nat.le_refl _) (by omega)) (nm_r (nI_1 i) (ih r (fun a p q h1 h2 h3 => ?_)))
      rw [hr a p q h1 h2 h3]
      refine ⟨fun z => z.elim Or.inl (fun w => Or.inr ⟨by rcases w.1 with y | y <;> omega, w.2⟩), fun z => z.elim Or.inl (fun w => Or.inr ⟨?_, w.2⟩)⟩
      by_cases e : a = i
      · exact Or.inr ⟨e, w.2.1⟩
      · exact Or.inl (by omega)
    · intro m j r hj hr ih2
      refine br_f (nI_ge hj (by omega)) (pk_eq i j (fun z => nm_r (nI_1 j) (ih2 r (fun a p q h1 h2 h3 => ?_))) (fun z => ?_))
      · rw [hr a p q h1 h2 h3]
        refine ⟨fun z => z.elim Or.inl (fun w => Or.inr ⟨by rcases w.1 with y | y <;> omega, w.2⟩), fun w => w.elim Or.inl (fun w => Or.inr ⟨?_, w.2⟩)⟩
        have := w.2.2.1
        rcases w.1 with y | y
        · exact Or.inl y
        · exact Or.inr ⟨y.1, by omega⟩
      · refine yl_two hok' hse hy hjn hG ha hs htr hi hj (fun ma m1 m2 => nm_r (nI_1 j) (ih2 ma (fun a p q h1 h2 h3 => ?_)))
        by_cases e : a = i
        · subst e
          rw [m1 p q h2 h3, hr a p q h1 h2 h3]
          constructor
          · intro w
            rcases w with (w | w) | w
            · exact Or.inl w
            · refine Or.inr ⟨?_, w.2⟩
              rcases w.1 with y | y
              · exact Or.inl y
              · exact Or.inr ⟨rfl, by omega⟩
            · exact Or.inr ⟨Or.inr ⟨rfl, by omega⟩, by omega, by omega, by rw [w.1]; exact w.2⟩
          · intro w
            rcases w with w | ⟨w1, w2, w3, w4⟩
            · exact Or.inl (Or.inl w)
            · by_cases eq : q = j
              · rw [eq] at w4; exact Or.inr ⟨eq, w4⟩
              · refine Or.inl (Or.inr ⟨?_, w2, w3, w4⟩)
                rcases w1 with y | y
                · exact Or.inl y
                · exact Or.inr ⟨rfl, by omega⟩
        · rw [m2 a p h1 e h2, hr a p q h1 h2 h3]
          refine ⟨fun w => w.elim Or.inl (fun w => Or.inr ⟨by rcases w.1 with y | y <;> omega, w.2⟩), fun w => w.elim Or.inl (fun w => Or.inr ⟨by rcases w.1 with y | y <;> omega, w.2⟩)⟩
theorem yf_fin {post : Int32 → SY → Prop} (hok : pg_ok P) (hse : pg_se P) (hy : py_ok P yco) (hjn : py_jn P yjn) (hG : xi_G P F) (ha : rl_a P F yst ypc yre yme) (hs : rl_s P F ysp) (htr : rl_t P F ytr)
    (h : ∀ ma, iv_M P F (fun l => ln_sp (F l)) ma yma → ∀ ph, ((∀ l, l < pg_L P → ln_st (F l) ≠ 1) ∧ ph = 3 ∨ (∃ l, l < pg_L P ∧ ln_st (F l) = 1) ∧ ph = yP) → post ph (nI (pg_L P), yC, yW, yA, ph, yN, yF, yB, yco, yjn, yse, ypd, yst, ypc, ysp, yre, yun, yme, yta, ma, ytr)) :
    wpY_finish post (nI (pg_L P), yC, yW, yA, yP, yN, yF, yB, yco, yjn, yse, ypd, yst, ypc, ysp, yre, yun, yme, yta, yma, ytr) := by
  have hok' := hok
  obtain ⟨hL2, hL, hn, hw4, hww, ha16, hal, hin⟩ := hok
  let Q : Nat → Nat → (Nat → Int32) → Prop := fun i e ma => ∀ a p, a < pg_L P → p < 32 → ((a < i ∧ mt_in (F a) (ln_sp (F a)) p ∨ (a = i ∧ mt_in (F a) e p)) → ma (32 * a + p) = (1 : Int32) <<< (nI a &&& 31)) ∧ (¬ (a < i ∧ mt_in (F a) (ln_sp (F a)) p ∨ (a = i ∧ mt_in (F a) e p)) → ma (32 * a + p) = yma (32 * a + p))
  have n0 : ∀ a p, ¬ mt_in (F a) 0 p := fun a p ⟨i, hi, _⟩ => by omega
  refine loop_0 (fun n i (s : Nat → Int32) => wY_finish_2 post (nI (pg_L P)) yC yW yA yP yN yF yB n (nI i) yco yjn yse ypd yst ypc ysp yre yun yme yta s ytr) (fun i s => Q i 0 s) (pg_L P) yma (fun a p _ _ => ⟨fun z => ?_, fun _ => rfl⟩) ?_ ?_
  · rcases z with z | z
    · omega
    · exact absurd z.2 (n0 a p)
  · intro n s hq
    refine br_t (nI_le (Nat.le_refl _) (by omega)) (yf_all hok' hse hy hjn hG ha hs htr (fun a p h1 h2 => ⟨fun z => (hq a p h1 h2).1 (Or.inl ⟨h1, z⟩), fun z => (hq a p h1 h2).2 (fun w => ?_)⟩) h)
    rcases w with w | w
    · exact z w.2
    · omega
  · intro n i s hi hq ih
    have sp128 : ln_sp (F i) ≤ 128 := by have := (hG i hi).2.2.1; omega
    have hv : vp_in (nI i) 8 := vp_in_nI (by omega) (by omega)
    have es : ysp (nI i).toNatClampNeg = nI (ln_sp (F i)) := by rw [nI_clamp (by omega)]; exact hs i hi
    refine br_f (nI_ge hi (by omega)) ?_
    refine loop_0 (fun m e (r : Nat → Int32) => wY_finish_12 post (wY_finish_2 post (nI (pg_L P)) yC yW yA yP yN yF yB n) (nI i) (nI (pg_L P)) yC yW yA yP yN yF yB m (nI e) yco yjn yse ypd yst ypc ysp yre yun yme yta r ytr) (fun e r => Q i e r) (ln_sp (F i)) s hq ?_ ?_
    · intro m r hr
      simp only [wY_finish_12]
      rw [es]
      refine ⟨hv, pk_le (ln_sp (F i)) (ln_sp (F i)) (fun _ => nm_r (nI_1 i) (ih r (fun a p h1 h2 => ?_))) (fun z => by omega)⟩
      have := hr a p h1 h2
      refine ⟨fun z => this.1 ?_, fun z => this.2 (fun w => z ?_)⟩
      · rcases z with z | z
        · by_cases e : a = i
          · subst e; exact Or.inr ⟨rfl, z.2⟩
          · exact Or.inl ⟨by omega, z.2⟩
        · exact absurd z.2 (n0 a p)
      · rcases w with w | w
        · exact Or.inl ⟨by omega, w.2⟩
        · have e := w.1
          subst e
          exact Or.inl ⟨by omega, w.2⟩
    · intro m e r he hr ih2
      have te : ln_ft (F i) e < pg_n P := by rw [ly_ft he]; exact (hG i hi).2.2.2 e he
      simp only [wY_finish_12]
      rw [es, iy_128, show ytr (nI (128 * i + e)).toNatClampNeg = nI (ln_ft (F i) e) by rw [nI_clamp (by omega), ly_ft he]; exact htr i hi e he, iy_32, nI_clamp (by omega)]
      refine ⟨hv, pk_le (ln_sp (F i)) e (fun z => by omega) (fun _ => ⟨vp_in_nI (by omega) (by omega), vp_in_nI (by omega) (by omega), nm_e (nm_r (nI_1 e) (ih2 _ (fun a p h1 h2 => ?_)))⟩)⟩
      have old := hr a p h1 h2
      have more : ∀ p, p ≠ ln_ft (F i) e → (mt_in (F i) (e + 1) p ↔ mt_in (F i) e p) := by
        intro p hp
        constructor
        · intro ⟨x, x1, x2⟩
          by_cases z : x = e
          · rw [z] at x2; exact absurd x2.symm hp
          · exact ⟨x, by omega, x2⟩
        · intro ⟨x, x1, x2⟩
          exact ⟨x, by omega, x2⟩
      by_cases c : a = i ∧ p = ln_ft (F i) e
      · rw [c.1, c.2, pk_us]
        exact ⟨fun _ => rfl, fun z => absurd (Or.inr ⟨rfl, e, by omega, rfl⟩) z⟩
      · rw [pk_un (by omega)]
        by_cases ai : a = i
        · subst ai
          have := more p (fun z => c ⟨rfl, z⟩)
          rw [this]
          exact old
        · refine ⟨fun z => old.1 ?_, fun z => old.2 (fun w => z ?_)⟩
          · rcases z with z | z
            · exact Or.inl z
            · exact absurd z.1 ai
          · rcases w with w | w
            · exact Or.inl w
            · exact absurd w.1 ai
/-- all lanes alone, one behind another -/
theorem yf_round {post : Int32 → SY → Prop} {J : Int32 → Int32 → Int32 → Int32 → Int32 → Int32 → Int32 → Int32 → Int32 → (Nat → Int32) → (Nat → Int32) → (Nat → Int32) → (Nat → Int32) → (Nat → Int32) → (Nat → Int32) → (Nat → Int32) → (Nat → Int32) → (Nat → Int32) → (Nat → Int32) → (Nat → Int32) → (Nat → Int32) → (Nat → Int32) → Prop} {c : Nat → ln_V} {x1 : Int32} (hok : pg_ok P) (htk : pg_tok P) (hy : py_ok P yco) (hG : xi_G P c) (ha : rl_a P c yst ypc yre yme) (hs : rl_s P c ysp) (htr : rl_t P c ytr)
    (h : ∀ n st pc sp re me tr, rl_a P (rn_nf P yun yta c) st pc re me → rl_s P (rn_nf P yun yta c) sp → rl_t P (rn_nf P yun yta c) tr → wY_run_42 post J x1 (n + 1) (nI (pg_L P)) (nI (pg_L P)) yC (nI (pg_w P)) (nI (pg_al P)) yP (nI (pg_n P)) yF yB yco yjn yse ypd st pc sp re yun me yta yma tr) :
    ∃ n, wY_run_42 post J x1 n 0 (nI (pg_L P)) yC (nI (pg_w P)) (nI (pg_al P)) yP (nI (pg_n P)) yF yB yco yjn yse ypd yst ypc ysp yre yun yme yta yma ytr := by
  have hok' := hok
  obtain ⟨hL2, hL, hn, hw4, hww, ha16, hal, hin⟩ := hok
  let C : Nat → Nat → ln_V := fun i l => if l < i then ln_nf P yun yta l 129 (c l) else c l
  have C0 : C 0 = c := by funext l; exact if_neg (Nat.not_lt_zero _)
  have CL : C (pg_L P) = rn_nf P yun yta c := rfl
  have Ci : ∀ i, C i i = c i := fun i => if_neg (Nat.lt_irrefl _)
  have Cs : ∀ i, cs_set (C i) i (ln_nf P yun yta i 129 (C i i)) = C (i + 1) := by
    intro i
    funext l
    by_cases e : l = i
    · rw [e, cs_at, Ci]
      exact (if_pos (by omega)).symm
    · rw [cs_ne e]
      show (if l < i then _ else _) = (if l < i + 1 then _ else _)
      by_cases z : l < i
      · rw [if_pos z, if_pos (by omega)]
      · rw [if_neg z, if_neg (by omega)]
  refine loop_0 (fun n i (s : (Nat → Int32) × (Nat → Int32) × (Nat → Int32) × (Nat → Int32) × (Nat → Int32) × (Nat → Int32)) => wY_run_42 post J x1 n (nI i) (nI (pg_L P)) yC (nI (pg_w P)) (nI (pg_al P)) yP (nI (pg_n P)) yF yB yco yjn yse ypd s.1 s.2.1 s.2.2.1 s.2.2.2.1 yun s.2.2.2.2.1 yta yma s.2.2.2.2.2) (fun i s => rl_a P (C i) s.1 s.2.1 s.2.2.2.1 s.2.2.2.2.1 ∧ rl_s P (C i) s.2.2.1 ∧ rl_t P (C i) s.2.2.2.2.2) (pg_L P) (yst, ypc, ysp, yre, yme, ytr) ⟨by rw [C0]; exact ha, by rw [C0]; exact hs, by rw [C0]; exact htr⟩ ?_ ?_
  · intro n s ⟨h1, h2, h3⟩
    rw [CL] at h1 h2 h3
    exact h n _ _ _ _ _ _ h1 h2 h3
  · intro n i s hi ⟨h1, h2, h3⟩ ih
    obtain ⟨st, pc, sp, re, me, tr⟩ := s
    dsimp only at h1 h2 h3 ih ⊢
    have Gi : xi_G P (C i) := by
      intro l hl
      show ln_gd P (if l < i then _ else _)
      by_cases z : l < i
      · rw [if_pos z]; exact ln_gdnf htk hin 129 _ (hG l hl)
      · rw [if_neg z]; exact hG l hl
    refine br_f (nI_ge hi (by omega)) ?_
    unfold wpY_goAlone
    refine ⟨130, yr_alone hok' htk hy hi 129 0 (C i) st pc sp re me tr (by omega) Gi h1 h2 h3 (fun st pc sp re me tr a1 a2 a3 => nm_r (nI_1 i) (ih (st, pc, sp, re, me, tr) ?_))⟩
    rw [Cs] at a1 a2 a3
    exact ⟨a1, a2, a3⟩
end
end
section
/-! own rows: lanes that began together come to the same SYNC; the reference's run -/
section
variable {P : pg_P} {u t : Nat → Int32}
/-- out of a region a running lane comes by the join point -/
theorem sh_reg (hok : pg_ok P) (hse : pg_se P) {p l : Nat} (hp : p < pg_n P) (hbr : pr_br P p) : ∀ d (v : ln_V), pg_al P ≤ d + ln_sp v → ln_gd P v → ln_st v = 1 → (gr_wk (pg_n P) (pg_E P) p (pg_j P p) (ln_pc v) ∨ ln_pc v = pg_j P p) → ln_st (ln_nf P u t l 129 v) = 1 →
    ∃ v', ln_nf P u t l 129 v' = ln_nf P u t l 129 v ∧ ln_gd P v' ∧ ln_st v' = 1 ∧ ln_pc v' = pg_j P p ∧ ln_sp v ≤ ln_sp v' := by
  obtain ⟨hL2, hL, hn, hw4, hww, ha16, hal, hin⟩ := hok
  intro d
  induction d with
  | zero =>
    intro v hd hg hs hr hf
    rw [ln_nfspent hs (by omega) 128] at hf
    exact absurd hf (by show ¬ (4 : Int32) = 1; decide)
  | succ d ih =>
    intro v hd hg hs hr hf
    by_cases e : ln_pc v = pg_j P p
    · exact ⟨v, rfl, hg, hs, e, Nat.le_refl _⟩
    · have hw : gr_wk (pg_n P) (pg_E P) p (pg_j P p) (ln_pc v) := by
        rcases hr with z | z
        · exact z
        · exact absurd z e
      have hpn := hg.2.1 hs
      have sp : ln_sp v < pg_al P := by
        apply Classical.byContradiction
        intro z
        rw [ln_nfspent hs z 128] at hf
        exact absurd hf (by show ¬ (4 : Int32) = 1; decide)
      have o20 : pg_o P (ln_pc v) < 20 := by
        apply Classical.byContradiction
        intro z
        exact hse.2.2.2.2 p (ln_pc v) hp hpn hbr (by omega) hw
      have nf := ln_nfstep (P := P) (u := u) (t := t) (l := l) hal hs sp o20
      rw [← nf] at hf
      have gs := ln_gd1 (u := u) (t := t) (l := l) hse.2.1 hin hg hs sp
      have bd : ln_bd P v = false := by
        cases z : ln_bd P v
        · rfl
        · exfalso
          have s3 := ln_st2 (u := u) (t := t) (l := l) v z
          rw [ln_nfstop (by rw [s3]; decide), s3] at hf
          exact absurd hf (by decide)
      have s1 : ln_st (ln_step P u t l v) = 1 := by
        rw [ln_st1 v bd]
        by_cases z : ln_nx P u v = pg_n P
        · exfalso
          have s2 := ln_st1 (u := u) (t := t) (l := l) v bd
          rw [if_pos z] at s2
          rw [ln_nfstop (by rw [s2]; decide), s2] at hf
          exact absurd hf (by decide)
        · rw [if_neg z]; exact hs
      have E := ln_edge (P := P) (u := u) v (hin _ hpn).1
      have pc1 := ln_pc1 (u := u) (t := t) (l := l) v bd
      have r1 : gr_wk (pg_n P) (pg_E P) p (pg_j P p) (ln_pc (ln_step P u t l v)) ∨ ln_pc (ln_step P u t l v) = pg_j P p := by
        rw [pc1]
        by_cases z : ln_nx P u v = pg_j P p
        · exact Or.inr z
        · exact Or.inl (gr_s hw hpn E z)
      obtain ⟨v', w1, w2, w3, w4, w5⟩ := ih (ln_step P u t l v) (by rw [ln_sp1]; omega) gs s1 r1 hf
      rw [ln_sp1] at w5
      exact ⟨v', by rw [w1, nf], w2, w3, w4, by omega⟩
theorem sh_two (hok : pg_ok P) (hse : pg_se P) {l m : Nat} : ∀ d (v w : ln_V), 2 * pg_al P ≤ d + ln_sp v + ln_sp w → ln_gd P v → ln_gd P w → ln_st v = 1 → ln_st w = 1 → ln_pc v = ln_pc w → ln_st (ln_nf P u t l 129 v) = 1 → ln_st (ln_nf P u t m 129 w) = 1 → ln_pc (ln_nf P u t l 129 v) = ln_pc (ln_nf P u t m 129 w) := by
  have hok' := hok
  obtain ⟨hL2, hL, hn, hw4, hww, ha16, hal, hin⟩ := hok
  intro d
  induction d using Nat.strongRecOn with
  | ind d ih =>
    intro v w hd gv gw sv sw hpc fv fw
    have hv := gv.2.1 sv
    have hw := gw.2.1 sw
    have spv : ln_sp v < pg_al P := by
      apply Classical.byContradiction
      intro z
      rw [ln_nfspent sv z 128] at fv
      exact absurd fv (by show ¬ (4 : Int32) = 1; decide)
    have spw : ln_sp w < pg_al P := by
      apply Classical.byContradiction
      intro z
      rw [ln_nfspent sw z 128] at fw
      exact absurd fw (by show ¬ (4 : Int32) = 1; decide)
    by_cases o20 : pg_o P (ln_pc v) < 20
    · have nv := ln_nfstep (P := P) (u := u) (t := t) (l := l) hal sv spv o20
      have nw := ln_nfstep (P := P) (u := u) (t := t) (l := m) hal sw spw (by rw [← hpc]; exact o20)
      rw [← nv] at fv ⊢
      rw [← nw] at fw ⊢
      have live : ∀ (x : ln_V) (q : Nat), ln_st (ln_nf P u t q 129 x) = 1 → ln_st x = 1 := fun x q z => by
        apply Classical.byContradiction
        intro y
        rw [ln_nfstop y] at z
        exact y z
      have s1 := live _ _ fv
      have s2 := live _ _ fw
      have bd : ∀ (x : ln_V) (q : Nat), ln_st (ln_step P u t q x) = 1 → ln_bd P x = false := fun x q z => by
        cases y : ln_bd P x
        · rfl
        · rw [ln_st2 x y] at z; exact absurd z (by decide)
      have b1 := bd _ _ s1
      have b2 := bd _ _ s2
      have g1 := ln_gd1 (u := u) (t := t) (l := l) hse.2.1 hin gv sv spv
      have g2 := ln_gd1 (u := u) (t := t) (l := m) hse.2.1 hin gw sw spw
      by_cases same : ln_nx P u v = ln_nx P u w
      · exact ih (d - 2) (by omega) _ _ (by rw [ln_sp1, ln_sp1]; omega) g1 g2 s1 s2 (by rw [ln_pc1 v b1, ln_pc1 w b2, same]) fv fw
      · have hbr : pr_br P (ln_pc v) := by
          apply Classical.byContradiction
          intro z
          apply same
          rw [tu_nx rfl z, tu_nx (p := ln_pc v) hpc.symm z]
        have reg : ∀ (x : ln_V) (q : Nat), ln_pc x = ln_pc v → ln_pc x < pg_n P → ln_bd P x = false → gr_wk (pg_n P) (pg_E P) (ln_pc v) (pg_j P (ln_pc v)) (ln_pc (ln_step P u t q x)) ∨ ln_pc (ln_step P u t q x) = pg_j P (ln_pc v) := by
          intro x q e hx hb
          rw [ln_pc1 x hb]
          have E := ln_edge (P := P) (u := u) x (hin _ hx).1
          rw [e] at E
          by_cases z : ln_nx P u x = pg_j P (ln_pc v)
          · exact Or.inr z
          · exact Or.inl (gr_1 E z)
        obtain ⟨v', a1, a2, a3, a4, a5⟩ := sh_reg hok' hse hv hbr (pg_al P) _ (by omega) g1 s1 (reg v l rfl hv b1) fv
        obtain ⟨w', c1, c2, c3, c4, c5⟩ := sh_reg hok' hse hv hbr (pg_al P) _ (by omega) g2 s2 (reg w m hpc.symm hw b2) fw
        rw [ln_sp1] at a5 c5
        rw [← a1] at fv ⊢
        rw [← c1] at fw ⊢
        exact ih (d - 2) (by omega) v' w' (by omega) a2 c2 a3 c3 (by rw [a4, c4]) fv fw
    · rw [ln_nfsync o20 (fun _ => spv), ln_nfsync (by rw [← hpc]; exact o20) (fun _ => spw)]
      exact hpc
end
section
variable {P : pg_P} {F : rn_S} {yL yC yW yA yP yN yF yB : Int32} {yco yjn yse ypd yst ypc ysp yre yun yme yta yma ytr : Nat → Int32}
theorem yn_loop {post : Int32 → SY → Prop} (hok : pg_ok P) (hse : pg_se P) (hy : py_ok P yco) (hjn : py_jn P yjn)
    (h : ∀ st pc sp re me tr ma, rl_a P F.1 st pc re me → iv_M P F.1 (fun l => ln_sp (F.1 l)) ma yma → ∀ ph, ((∀ l, l < pg_L P → ln_st (F.1 l) ≠ 1) ∧ ph = 3 ∨ (∃ l, l < pg_L P ∧ ln_st (F.1 l) = 1) ∧ ph = yP) → post ph (nI (pg_L P), yC, nI (pg_w P), nI (pg_al P), ph, nI (pg_n P), yF, F.2.2, yco, yjn, yse, ypd, st, pc, sp, re, F.2.1, me, yta, ma, tr)) :
    ∀ k r c un B st pc sp re me tr, r + k = 130 → rn_fin P yta k c un B F → xi_G P c → (∃ s, ∀ l, l < pg_L P → ln_st (c l) = 1 → ln_pc (c l) = s) → rl_a P c st pc re me → rl_s P c sp → rl_t P c tr →
      wY_run_33 post (k + 1) (nI r) (nI (pg_L P)) yC (nI (pg_w P)) (nI (pg_al P)) yP (nI (pg_n P)) yF B yco yjn yse ypd st pc sp re un me yta yma tr := by
  have hok' := hok
  obtain ⟨hL2, hL, hn, hw4, hww, ha16, hal, hin⟩ := hok
  have htk := hse.2.1
  intro k
  induction k with
  | zero =>
    intro r c un B st pc sp re me tr hk hF hG _ ha hs htr
    have e : F = (c, un, B) := hF
    subst e
    refine br_t (nI_le (a := 130) (by omega) (by omega)) ?_
    exact yf_fin hok' hse hy hjn hG ha hs htr (fun ma M ph hp => h st pc sp re me tr ma ha M ph hp)
  | succ k ih =>
    intro r c un B st pc sp re me tr hk hF hG ⟨s, hsh⟩ ha hs htr
    refine br_f (nI_ge (b := 130) (by omega) (by omega)) ?_
    refine yf_round hok' htk hy hG ha hs htr (fun n st pc sp re me tr a1 a2 a3 => br_t (nI_le (Nat.le_refl _) (by omega)) ?_)
    have Gn : xi_G P (rn_nf P un yta c) := fun l hl => by
      unfold rn_nf
      rw [if_pos hl]
      exact ln_gdnf htk hin 129 _ (hG l hl)
    have fin := hF
    unfold rn_fin at fin
    by_cases run : ∃ l, l < pg_L P ∧ ln_st (rn_nf P un yta c l) = 1
    · obtain ⟨l, hl, z1, z2⟩ := rn_least run
      have f2 := fin.2 l hl z1 z2
      have pin : ∀ q, q < pg_L P → ln_st (rn_nf P un yta c q) = 1 → (20 ≤ pg_o P (ln_pc (rn_nf P un yta c q)) ∧ ln_sp (rn_nf P un yta c q) < pg_al P) ∧ ln_st (c q) = 1 := by
        intro q hq z
        unfold rn_nf at z ⊢
        rw [if_pos hq] at z ⊢
        refine ⟨ln_nfend 129 _ (by omega) (by omega) z, ?_⟩
        apply Classical.byContradiction
        intro y
        rw [ln_nfstop y] at z
        exact y z
      have pl := pin l hl z1
      have pn := (Gn l hl).2.1 z1
      have shr : ∀ q, q < pg_L P → ln_st (rn_nf P un yta c q) = 1 → ln_pc (rn_nf P un yta c q) = ln_pc (rn_nf P un yta c l) := by
        intro q hq z
        have pq := pin q hq z
        have e1 : rn_nf P un yta c q = ln_nf P un yta q 129 (c q) := if_pos hq
        have e2 : rn_nf P un yta c l = ln_nf P un yta l 129 (c l) := if_pos hl
        rw [e1] at z ⊢
        rw [e2] at z1 ⊢
        exact sh_two hok' hse (2 * pg_al P) _ _ (by omega) (hG q hq) (hG l hl) pq.2 pl.2 ((hsh q hq pq.2).trans (hsh l hl pl.2).symm) z z1
      refine yr_first hL a1 (e := l) (by omega) z2 (fun w => by omega) (fun _ => ⟨z1, br_t (nI_pos' (by omega)) ⟨vp_in_nI (by omega) (by omega), nm_r (e' := nI (ln_pc (rn_nf P un yta c l))) (by rw [nI_clamp (by omega)]; exact (a1 l hl).2.1) ?_⟩⟩)
      have f1 := (hy _ pn).1
      refine yr_sync hok' htk hy pn pl.1.1 (fun q hq z => ⟨shr q hq z, (pin q hq z).1.2⟩) (fun q hq => by have := (Gn q hq).2.2.1; omega) a1 a2 a3 (fun st pc sp tr b1 b2 b3 => ?_)
      have Gs : xi_G P (sy_c P un yta (rn_nf P un yta c)) := fun q hq => by
        unfold sy_c
        by_cases z : ln_st (rn_nf P un yta c q) = 1
        · rw [if_pos ⟨hq, z⟩]; exact ln_gd1 htk hin (Gn q hq) z (pin q hq z).1.2
        · rw [if_neg (fun w => z w.2)]; exact Gn q hq
      dsimp only
      rw [yw_4, show yco (nI (4 * ln_pc (rn_nf P un yta c l))).toNatClampNeg = nI (pg_o P (ln_pc (rn_nf P un yta c l))) by rw [nI_clamp (by omega)]; exact f1]
      have o24 := (hin _ pn).1
      refine ⟨vp_in_nI (by omega) (by omega), pk_eq (pg_o P (ln_pc (rn_nf P un yta c l))) 20 (fun z => ?_) (fun z => nm_r (nI_1 r) ?_)⟩
      · have e := f2.1 z
        have e1 : F.1 = sy_c P un yta (rn_nf P un yta c) := by rw [e]
        have e2 : F.2.1 = sy_u P (rn_nf P un yta c) un (ln_pc (rn_nf P un yta c l)) := by rw [e]
        have e3 : F.2.2 = sy_b P B (ln_pc (rn_nf P un yta c l)) := by rw [e]
        rw [← e1] at b1 b2 b3 Gs
        rw [← e2, ← e3]
        exact yf_fin hok' hse hy hjn Gs b1 b2 b3 (fun ma M ph hp => h st pc sp re me tr ma b1 M ph hp)
      · refine ih (r + 1) _ _ _ st pc sp re me tr (by omega) (f2.2 z) Gs ⟨ln_pc (rn_nf P un yta c l) + 1, fun q hq y => ?_⟩ b1 b2 b3
        unfold sy_c at y ⊢
        by_cases w : ln_st (rn_nf P un yta c q) = 1
        · rw [if_pos ⟨hq, w⟩] at y ⊢
          have e := shr q hq w
          have nb : ¬ pr_br P (ln_pc (rn_nf P un yta c l)) := by unfold pr_br; omega
          rw [ln_pc1 _ (ln_bd0 _ (by rw [e]; omega)), tu_nx e nb]
          unfold tu_t
          rw [if_neg (by omega), if_neg (by omega)]
        · rw [if_neg (fun x => w x.2)] at y
          exact absurd y w
    · have e := fin.1 (fun l hl z => run ⟨l, hl, z⟩)
      have e1 : F.1 = rn_nf P un yta c := by rw [e]
      have e2 : F.2.1 = un := by rw [e]
      have e3 : F.2.2 = B := by rw [e]
      rw [← e1] at a1 a2 a3 Gn run
      subst e2 e3
      refine yr_first hL a1 (e := pg_L P) (Nat.le_refl _) (fun l hl z => run ⟨l, hl, z⟩) (fun _ => br_f (by decide) ?_) (fun w => by omega)
      exact yf_fin hok' hse hy hjn Gn a1 a2 a3 (fun ma M ph hp => h st pc sp re me tr ma a1 M ph hp)
theorem yn_run {post : Int32 → SY → Prop} {c : Nat → ln_V} (hok : pg_ok P) (hse : pg_se P) (hy : py_ok P yco) (hjn : py_jn P yjn) (ha : rl_a P c yst ypc yre yme) (hsp : ∀ l, l < pg_L P → ln_sp (c l) = 0) (hG : xi_G P c) (hsh : ∃ s, ∀ l, l < pg_L P → ln_st (c l) = 1 → ln_pc (c l) = s) (hF : rn_fin P yta 130 c yun yB F)
    (h : ∀ st pc sp re me tr ma, rl_a P F.1 st pc re me → iv_M P F.1 (fun l => ln_sp (F.1 l)) ma yma → ∀ ph, ((∀ l, l < pg_L P → ln_st (F.1 l) ≠ 1) ∧ ph = 3 ∨ (∃ l, l < pg_L P ∧ ln_st (F.1 l) = 1) ∧ ph = 2) → post ph (nI (pg_L P), yC, nI (pg_w P), nI (pg_al P), ph, nI (pg_n P), yF, F.2.2, yco, yjn, yse, ypd, st, pc, sp, re, F.2.1, me, yta, ma, tr)) :
    wpY_run post (nI (pg_L P), yC, nI (pg_w P), nI (pg_al P), 2, nI (pg_n P), yF, yB, yco, yjn, yse, ypd, yst, ypc, ysp, yre, yun, yme, yta, yma, ytr) := by
  have hL := hok.2.1
  unfold wpY_run
  refine br_t rfl ?_
  refine loop_0 (fun n i (s : Nat → Int32) => wY_run_12 post (nI (pg_L P)) yC (nI (pg_w P)) (nI (pg_al P)) 2 (nI (pg_n P)) yF yB n (nI i) yco yjn yse ypd yst ypc s yre yun yme yta yma ytr) (fun i s => ∀ l, l < i → s l = 0) 8 ysp (fun l hl => by omega) ?_ ?_
  · intro n s hs
    refine br_t (by decide) ⟨131, yn_loop hok hse hy hjn h 130 0 c yun yB yst ypc s yre yme ytr (by omega) hF hG hsh ha (fun l hl => ?_) (fun l hl i hi => ?_)⟩
    · rw [hs l (by omega), hsp l hl]; rfl
    · rw [hsp l hl] at hi; omega
  · intro n i s hi hs ih
    refine br_f (nI_ge (b := 8) hi (by omega)) ⟨vp_in_nI hi (by omega), nm_e (nm_r (nI_1 i) (ih _ (fun l hl => ?_)))⟩
    rw [nI_clamp (by omega)]
    by_cases e : l = i
    · rw [e, pk_us]
    · rw [pk_un e]; exact hs l (by omega)
end
end
section
/-! own rows: resets and launches of both -/
def un_0 (u : Nat → Int32) : Nat → Int32 := fun j => if j < 4 then 0 else u j
theorem un_l {u s : Nat → Int32} {i : Nat} (hi : i < 4) (h : ∀ j, s j = if j < i then 0 else u j) : ∀ j, upd s i 0 j = if j < i + 1 then 0 else u j := by
  intro j
  by_cases e : j = i
  · rw [e, pk_us, if_pos (by omega)]
  · rw [pk_un e, h j]
    by_cases z : j < i
    · rw [if_pos z, if_pos (by omega)]
    · rw [if_neg z, if_neg (by omega)]
theorem ze_l {s : Nat → Int32} {i : Nat} (h : ∀ j, j < i → s j = 0) : ∀ j, j < i + 1 → upd s i 0 j = 0 := by
  intro j hj
  by_cases e : j = i
  · rw [e, pk_us]
  · rw [pk_un e]; exact h j (by omega)
section
variable {xL xC xW xA xP xN xF xR xB xD : Int32} {xo xa xb xc : Nat → Int32} {xsu xpd xrg : Nat → Int64} {xjn xst xpc xsp xre xme xma xun xta xkp xkm xkj : Nat → Int32}
theorem xz_reset {post : SX → Prop} (h : ∀ st pc sp re ma, (∀ j, j < 8 → st j = 0) → (∀ j, j < 8 → pc j = 0) → (∀ j, j < 64 → re j = 0) → (∀ j, j < 256 → ma j = 0) → post (xL, xC, xW, xA, xP, xN, xF, 0, 0, 0, xo, xa, xb, xc, xsu, xpd, xrg, xjn, st, pc, sp, re, xme, ma, un_0 xun, xta, xkp, xkm, xkj)) :
    wpX_resetWarp post (xL, xC, xW, xA, xP, xN, xF, xR, xB, xD, xo, xa, xb, xc, xsu, xpd, xrg, xjn, xst, xpc, xsp, xre, xme, xma, xun, xta, xkp, xkm, xkj) := by
  refine loop_0 (fun n i (s : (Nat → Int32) × (Nat → Int32) × (Nat → Int32)) => wX_resetWarp_2 post xL xC xW xA xP xN xF xR xB xD n (nI i) xo xa xb xc xsu xpd xrg xjn s.1 s.2.1 s.2.2 xre xme xma xun xta xkp xkm xkj) (fun i s => (∀ j, j < i → s.1 j = 0) ∧ (∀ j, j < i → s.2.1 j = 0)) 8 (xst, xpc, xsp) ⟨fun j hj => by omega, fun j hj => by omega⟩ ?_ ?_
  · intro n s ⟨h1, h2⟩
    refine br_t (by decide) ?_
    refine loop_0 (fun n i (r : Nat → Int32) => wX_resetWarp_37 post xL xC xW xA xP xN xF xR xB xD n (nI i) xo xa xb xc xsu xpd xrg xjn s.1 s.2.1 s.2.2 r xme xma xun xta xkp xkm xkj) (fun i r => ∀ j, j < i → r j = 0) 64 xre (fun j hj => by omega) ?_ ?_
    · intro n r h3
      refine br_t (by decide) ?_
      refine loop_0 (fun n i (m : Nat → Int32) => wX_resetWarp_58 post xL xC xW xA xP xN xF xR xB xD n (nI i) xo xa xb xc xsu xpd xrg xjn s.1 s.2.1 s.2.2 r xme m xun xta xkp xkm xkj) (fun i m => ∀ j, j < i → m j = 0) 256 xma (fun j hj => by omega) ?_ ?_
      · intro n m h4
        refine br_t (by decide) ?_
        refine loop_0 (fun n i (u : Nat → Int32) => wX_resetWarp_80 post xL xC xW xA xP xN xF xR xB xD n (nI i) xo xa xb xc xsu xpd xrg xjn s.1 s.2.1 s.2.2 r xme m u xta xkp xkm xkj) (fun i u => ∀ j, u j = if j < i then 0 else xun j) 4 xun (fun j => (if_neg (Nat.not_lt_zero _)).symm) ?_ ?_
        · intro n u h5
          have e : u = un_0 xun := funext h5
          rw [e]
          exact br_t (by decide) (h s.1 s.2.1 s.2.2 r m h1 h2 h3 h4)
        · intro n i u hi h5 ih
          refine br_f (nI_ge (b := 4) hi (by omega)) ⟨vp_in_nI hi (by omega), nm_e (nm_r (nI_1 i) (ih _ ?_))⟩
          rw [nI_clamp (by omega)]
          exact un_l hi h5
      · intro n i m hi h4 ih
        refine br_f (nI_ge (b := 256) hi (by omega)) ⟨vp_in_nI hi (by omega), nm_e (nm_r (nI_1 i) (ih _ ?_))⟩
        rw [nI_clamp (by omega)]
        exact ze_l h4
    · intro n i r hi h3 ih
      refine br_f (nI_ge (b := 64) hi (by omega)) ⟨vp_in_nI hi (by omega), nm_e (nm_r (nI_1 i) (ih _ ?_))⟩
      rw [nI_clamp (by omega)]
      exact ze_l h3
  · intro n i s hi ⟨h1, h2⟩ ih
    obtain ⟨st, pc, sp⟩ := s
    dsimp only at h1 h2 ih ⊢
    have hv : vp_in (nI i) 8 := vp_in_nI hi (by omega)
    refine br_f (nI_ge (b := 8) hi (by omega)) ⟨hv, nm_e ⟨hv, nm_e ⟨hv, nm_e (nm_r (nI_1 i) ?_)⟩⟩⟩
    rw [nI_clamp (by omega)]
    exact ih (upd st i 0, upd pc i 0, upd sp i 0) ⟨ze_l h1, ze_l h2⟩
theorem xz_launch {post : Int32 → SX → Prop} {L : Nat} (hL : L ≤ 8) {v : Int32} (hph : ¬ xP = 0) (h0 : v &&& (((1 : Int32) <<< (nI L &&& 31)) - 1) = 0 → post (-10) (nI L, xC, xW, xA, xP, xN, xF, xR, xB, xD, xo, xa, xb, xc, xsu, xpd, xrg, xjn, xst, xpc, xsp, xre, xme, xma, xun, xta, xkp, xkm, xkj))
    (h : ¬ v &&& (((1 : Int32) <<< (nI L &&& 31)) - 1) = 0 → ∀ st pc sp re ma, (∀ j, j < L → st j = if bt (v &&& (((1 : Int32) <<< (nI L &&& 31)) - 1)) j = true then 1 else 0) → (∀ j, j < 8 → pc j = 0) → (∀ j, j < 64 → re j = 0) → (∀ j, j < 256 → ma j = 0) → post (v &&& (((1 : Int32) <<< (nI L &&& 31)) - 1)) (nI L, xC, xW, xA, 2, xN, xF, v &&& (((1 : Int32) <<< (nI L &&& 31)) - 1), 0, 0, xo, xa, xb, xc, xsu, xpd, xrg, xjn, st, pc, sp, re, xme, ma, un_0 xun, xta, xkp, xkm, xkj)) :
    wpX_launch post (nI L, xC, xW, xA, xP, xN, xF, xR, xB, xD, xo, xa, xb, xc, xsu, xpd, xrg, xjn, xst, xpc, xsp, xre, xme, xma, xun, xta, xkp, xkm, xkj) v := by
  unfold wpX_launch
  refine br_f hph (nm_e ?_)
  generalize v &&& (((1 : Int32) <<< (nI L &&& 31)) - 1) = m at h0 h
  refine br_c h0 (fun nz => ?_)
  refine xz_reset (fun st pc sp re ma h1 h2 h3 h4 => ?_)
  refine loop_0 (fun n i (s : Nat → Int32) => wX_launch_33 post m (nI L) xC xW xA xP xN xF 0 0 0 n (nI i) xo xa xb xc xsu xpd xrg xjn s pc sp re xme ma (un_0 xun) xta xkp xkm xkj) (fun i s => ∀ j, j < L → s j = if j < i ∧ bt m j = true then 1 else 0) L st (fun j hj => by rw [if_neg (fun z => absurd z.1 (Nat.not_lt_zero _))]; exact h1 j (by omega)) ?_ ?_
  · intro n s hs
    refine br_t (nI_le (Nat.le_refl _) (by omega)) (h nz s pc sp re ma (fun j hj => ?_) h2 h3 h4)
    rw [hs j hj]
    by_cases b : bt m j = true
    · rw [if_pos ⟨hj, b⟩, if_pos b]
    · rw [if_neg (fun z => b z.2), if_neg b]
  · intro n i s hi hs ih
    refine br_f (nI_ge hi (by omega)) (br_c (fun z => nm_r (nI_1 i) (ih s (fun j hj => ?_))) (fun z => ⟨vp_in_nI (by omega) (by omega), nm_e (nm_r (nI_1 i) (ih _ (fun j hj => ?_)))⟩))
    · have b := (bi_zt m (by omega)).mp z
      rw [hs j hj]
      by_cases w : j < i ∧ bt m j = true
      · rw [if_pos w, if_pos ⟨by omega, w.2⟩]
      · rw [if_neg w, if_neg (fun y => w ⟨by have : j ≠ i := fun e => b (e ▸ y.2); omega, y.2⟩)]
    · have b : bt m i = true := by
        apply Classical.byContradiction
        intro y
        exact z ((bi_zt m (by omega)).mpr y)
      rw [nI_clamp (by omega)]
      by_cases e : j = i
      · rw [e, pk_us, if_pos ⟨by omega, b⟩]
      · rw [pk_un e, hs j hj]
        by_cases w : j < i ∧ bt m j = true
        · rw [if_pos w, if_pos ⟨by omega, w.2⟩]
        · rw [if_neg w, if_neg (fun y => w ⟨by omega, y.2⟩)]
end
section
variable {yL yC yW yA yP yN yF yB : Int32} {yco yjn yse ypd yst ypc ysp yre yun yme yta yma ytr : Nat → Int32}
theorem yz_reset {post : SY → Prop} (h : ∀ st pc re ma, (∀ j, j < 8 → st j = 0) → (∀ j, j < 8 → pc j = 0) → (∀ j, j < 64 → re j = 0) → (∀ j, j < 256 → ma j = 0) → post (yL, yC, yW, yA, yP, yN, yF, 0, yco, yjn, yse, ypd, st, pc, ysp, re, un_0 yun, yme, yta, ma, ytr)) :
    wpY_reset post (yL, yC, yW, yA, yP, yN, yF, yB, yco, yjn, yse, ypd, yst, ypc, ysp, yre, yun, yme, yta, yma, ytr) := by
  refine loop_0 (fun n i (s : (Nat → Int32) × (Nat → Int32)) => wY_reset_2 post yL yC yW yA yP yN yF yB n (nI i) yco yjn yse ypd s.1 s.2 ysp yre yun yme yta yma ytr) (fun i s => (∀ j, j < i → s.1 j = 0) ∧ (∀ j, j < i → s.2 j = 0)) 8 (yst, ypc) ⟨fun j hj => by omega, fun j hj => by omega⟩ ?_ ?_
  · intro n s ⟨h1, h2⟩
    refine br_t (by decide) ?_
    refine loop_0 (fun n i (r : Nat → Int32) => wY_reset_30 post yL yC yW yA yP yN yF yB n (nI i) yco yjn yse ypd s.1 s.2 ysp r yun yme yta yma ytr) (fun i r => ∀ j, j < i → r j = 0) 64 yre (fun j hj => by omega) ?_ ?_
    · intro n r h3
      refine br_t (by decide) ?_
      refine loop_0 (fun n i (u : Nat → Int32) => wY_reset_51 post yL yC yW yA yP yN yF yB n (nI i) yco yjn yse ypd s.1 s.2 ysp r u yme yta yma ytr) (fun i u => ∀ j, u j = if j < i then 0 else yun j) 4 yun (fun j => (if_neg (Nat.not_lt_zero _)).symm) ?_ ?_
      · intro n u h5
        have e : u = un_0 yun := funext h5
        rw [e]
        refine br_t (by decide) ?_
        refine loop_0 (fun n i (m : Nat → Int32) => wY_reset_71 post yL yC yW yA yP yN yF yB n (nI i) yco yjn yse ypd s.1 s.2 ysp r (un_0 yun) yme yta m ytr) (fun i m => ∀ j, j < i → m j = 0) 256 yma (fun j hj => by omega) ?_ ?_
        · intro n m h4
          exact br_t (by decide) (h s.1 s.2 r m h1 h2 h3 h4)
        · intro n i m hi h4 ih
          refine br_f (nI_ge (b := 256) hi (by omega)) ⟨vp_in_nI hi (by omega), nm_e (nm_r (nI_1 i) (ih _ ?_))⟩
          rw [nI_clamp (by omega)]
          exact ze_l h4
      · intro n i u hi h5 ih
        refine br_f (nI_ge (b := 4) hi (by omega)) ⟨vp_in_nI hi (by omega), nm_e (nm_r (nI_1 i) (ih _ ?_))⟩
        rw [nI_clamp (by omega)]
        exact un_l hi h5
    · intro n i r hi h3 ih
      refine br_f (nI_ge (b := 64) hi (by omega)) ⟨vp_in_nI hi (by omega), nm_e (nm_r (nI_1 i) (ih _ ?_))⟩
      rw [nI_clamp (by omega)]
      exact ze_l h3
  · intro n i s hi ⟨h1, h2⟩ ih
    obtain ⟨st, pc⟩ := s
    dsimp only at h1 h2 ih ⊢
    have hv : vp_in (nI i) 8 := vp_in_nI hi (by omega)
    refine br_f (nI_ge (b := 8) hi (by omega)) ⟨hv, nm_e ⟨hv, nm_e (nm_r (nI_1 i) ?_)⟩⟩
    rw [nI_clamp (by omega)]
    exact ih (upd st i 0, upd pc i 0) ⟨ze_l h1, ze_l h2⟩
theorem yz_launch {post : Int32 → SY → Prop} {L : Nat} (hL : L ≤ 8) {v : Int32} (hph : ¬ yP = 0) (h0 : v &&& (((1 : Int32) <<< (nI L &&& 31)) - 1) = 0 → post (-10) (nI L, yC, yW, yA, yP, yN, yF, yB, yco, yjn, yse, ypd, yst, ypc, ysp, yre, yun, yme, yta, yma, ytr))
    (h : ¬ v &&& (((1 : Int32) <<< (nI L &&& 31)) - 1) = 0 → ∀ st pc re ma, (∀ j, j < L → st j = if bt (v &&& (((1 : Int32) <<< (nI L &&& 31)) - 1)) j = true then 1 else 0) → (∀ j, j < 8 → pc j = 0) → (∀ j, j < 64 → re j = 0) → (∀ j, j < 256 → ma j = 0) → post (v &&& (((1 : Int32) <<< (nI L &&& 31)) - 1)) (nI L, yC, yW, yA, 2, yN, yF, 0, yco, yjn, yse, ypd, st, pc, ysp, re, un_0 yun, yme, yta, ma, ytr)) :
    wpY_launch post (nI L, yC, yW, yA, yP, yN, yF, yB, yco, yjn, yse, ypd, yst, ypc, ysp, yre, yun, yme, yta, yma, ytr) v := by
  unfold wpY_launch
  refine br_f hph (nm_e ?_)
  generalize v &&& (((1 : Int32) <<< (nI L &&& 31)) - 1) = m at h0 h
  refine br_c h0 (fun nz => ?_)
  refine yz_reset (fun st pc re ma h1 h2 h3 h4 => ?_)
  refine loop_0 (fun n i (s : Nat → Int32) => wY_launch_33 post m (nI L) yC yW yA yP yN yF 0 n (nI i) yco yjn yse ypd s pc ysp re (un_0 yun) yme yta ma ytr) (fun i s => ∀ j, j < L → s j = if j < i ∧ bt m j = true then 1 else 0) L st (fun j hj => by rw [if_neg (fun z => absurd z.1 (Nat.not_lt_zero _))]; exact h1 j (by omega)) ?_ ?_
  · intro n s hs
    refine br_t (nI_le (Nat.le_refl _) (by omega)) (h nz s pc re ma (fun j hj => ?_) h2 h3 h4)
    rw [hs j hj]
    by_cases b : bt m j = true
    · rw [if_pos ⟨hj, b⟩, if_pos b]
    · rw [if_neg (fun z => b z.2), if_neg b]
  · intro n i s hi hs ih
    refine br_f (nI_ge hi (by omega)) (br_c (fun z => nm_r (nI_1 i) (ih s (fun j hj => ?_))) (fun z => ⟨vp_in_nI (by omega) (by omega), nm_e (nm_r (nI_1 i) (ih _ (fun j hj => ?_)))⟩))
    · have b := (bi_zt m (by omega)).mp z
      rw [hs j hj]
      by_cases w : j < i ∧ bt m j = true
      · rw [if_pos w, if_pos ⟨by omega, w.2⟩]
      · rw [if_neg w, if_neg (fun y => w ⟨by have : j ≠ i := fun e => b (e ▸ y.2); omega, y.2⟩)]
    · have b : bt m i = true := by
        apply Classical.byContradiction
        intro y
        exact z ((bi_zt m (by omega)).mpr y)
      rw [nI_clamp (by omega)]
      by_cases e : j = i
      · rw [e, pk_us, if_pos ⟨by omega, b⟩]
      · rw [pk_un e, hs j hj]
        by_cases w : j < i ∧ bt m j = true
        · rw [if_pos w, if_pos ⟨by omega, w.2⟩]
        · rw [if_neg w, if_neg (fun y => w ⟨by omega, y.2⟩)]
end
end
section
/-! own rows: emit of both -/
def kd_a (o : Nat) : Nat := if o = 0 ∨ o = 15 ∨ o = 20 then 0 else if o < 18 then 1 else 2
def kd_b (o : Nat) : Nat := if o = 2 ∨ o = 21 ∨ (5 ≤ o ∧ o ≤ 14) then 1 else if o = 4 ∨ o = 23 ∨ o = 24 then 2 else 0
def kd_c (o : Nat) : Nat := if 5 ≤ o ∧ o ≤ 10 then 1 else if o = 24 then 2 else if o = 1 ∨ (11 ≤ o ∧ o ≤ 19) ∨ o = 22 ∨ o = 23 then 3 else 0
def fi_t (k : Nat) (a : Int32) : Prop := (k = 1 → ¬ a < 0 ∧ ¬ 8 ≤ a) ∧ (k = 2 → ¬ a < 0 ∧ ¬ 4 ≤ a)
def em_v (k : Nat) (v : Int32) : Int32 := if k = 0 then 0 else v
theorem kd_k {post : Int32 → Prop} {k k' : Nat} (h : post (nI k)) (e : k = k') : post (nI k') := e ▸ h
theorem kd_le (o : Nat) : kd_a o ≤ 3 ∧ kd_b o ≤ 3 ∧ kd_c o ≤ 3 := by
  unfold kd_a kd_b kd_c
  refine ⟨?_, ?_, ?_⟩ <;> (repeat' split) <;> omega
section
variable {xL xC xW xA xP xN xF xR xB xD : Int32} {xo xa xb xc : Nat → Int32} {xsu xpd xrg : Nat → Int64} {xjn xst xpc xsp xre xme xma xun xta xkp xkm xkj : Nat → Int32}
theorem xe_ka {post : Int32 → Prop} {o : Nat} (ho : o ≤ 24) (h : post (nI (kd_a o))) : wpX_kindOfA post (xL, xC, xW, xA, xP, xN, xF, xR, xB, xD, xo, xa, xb, xc, xsu, xpd, xrg, xjn, xst, xpc, xsp, xre, xme, xma, xun, xta, xkp, xkm, xkj) (nI o) := by
  unfold wpX_kindOfA
  refine pk_eq o 0 (fun z => kd_k (k' := 0) h ?_) (fun n0 => pk_eq o 15 (fun z => kd_k (k' := 0) h ?_) (fun n15 => pk_eq o 20 (fun z => kd_k (k' := 0) h ?_) (fun n20 => pk_lt o 18 (fun z => kd_k (k' := 1) h ?_) (fun z => kd_k (k' := 2) h ?_))))
  all_goals (unfold kd_a; (repeat' split) <;> omega)
theorem xe_kb {post : Int32 → Prop} {o : Nat} (ho : o ≤ 24) (h : post (nI (kd_b o))) : wpX_kindOfB post (xL, xC, xW, xA, xP, xN, xF, xR, xB, xD, xo, xa, xb, xc, xsu, xpd, xrg, xjn, xst, xpc, xsp, xre, xme, xma, xun, xta, xkp, xkm, xkj) (nI o) := by
  have c24 : (o < 5 ∨ 14 < o) → o ≠ 2 → o ≠ 21 → wX_kindOfB_24 post (nI o) xL xC xW xA xP xN xF xR xB xD xo xa xb xc xsu xpd xrg xjn xst xpc xsp xre xme xma xun xta xkp xkm xkj := by
    intro h1 h2 h3
    unfold wX_kindOfB_24
    refine pk_eq o 4 (fun z => kd_k (k' := 2) h ?_) (fun n4 => pk_eq o 23 (fun z => kd_k (k' := 2) h ?_) (fun n23 => pk_eq o 24 (fun z => kd_k (k' := 2) h ?_) (fun n24 => kd_k (k' := 0) h ?_)))
    all_goals (unfold kd_b; (repeat' split) <;> omega)
  unfold wpX_kindOfB
  refine pk_eq o 2 (fun z => kd_k (k' := 1) h ?_) (fun n2 => pk_eq o 21 (fun z => kd_k (k' := 1) h ?_) (fun n21 => pk_lt o 5 (fun z => c24 (Or.inl z) n2 n21) (fun z => pk_lt 14 o (fun w => c24 (Or.inr w) n2 n21) (fun w => kd_k (k' := 1) h ?_))))
  all_goals (unfold kd_b; (repeat' split) <;> omega)
theorem xe_kc {post : Int32 → Prop} {o : Nat} (ho : o ≤ 24) (h : post (nI (kd_c o))) : wpX_kindOfC post (xL, xC, xW, xA, xP, xN, xF, xR, xB, xD, xo, xa, xb, xc, xsu, xpd, xrg, xjn, xst, xpc, xsp, xre, xme, xma, xun, xta, xkp, xkm, xkj) (nI o) := by
  have c38 : (o < 11 ∨ 19 < o) → (o < 5 ∨ 10 < o) → o ≠ 24 → o ≠ 1 → wX_kindOfC_38 post (nI o) xL xC xW xA xP xN xF xR xB xD xo xa xb xc xsu xpd xrg xjn xst xpc xsp xre xme xma xun xta xkp xkm xkj := by
    intro h1 h2 h3 h4
    unfold wX_kindOfC_38
    refine pk_eq o 22 (fun z => kd_k (k' := 3) h ?_) (fun n22 => pk_eq o 23 (fun z => kd_k (k' := 3) h ?_) (fun n23 => kd_k (k' := 0) h ?_))
    all_goals (unfold kd_c; (repeat' split) <;> omega)
  have c13 : (o < 5 ∨ 10 < o) → wX_kindOfC_13 post (nI o) xL xC xW xA xP xN xF xR xB xD xo xa xb xc xsu xpd xrg xjn xst xpc xsp xre xme xma xun xta xkp xkm xkj := by
    intro h1
    unfold wX_kindOfC_13
    refine pk_eq o 24 (fun z => kd_k (k' := 2) h ?_) (fun n24 => pk_eq o 1 (fun z => kd_k (k' := 3) h ?_) (fun n1 => pk_lt o 11 (fun z => c38 (Or.inl z) h1 n24 n1) (fun z => pk_le o 19 (fun w => kd_k (k' := 3) h ?_) (fun w => c38 (Or.inr w) h1 n24 n1))))
    all_goals (unfold kd_c; (repeat' split) <;> omega)
  unfold wpX_kindOfC
  refine pk_lt o 5 (fun z => c13 (Or.inl z)) (fun z => pk_lt 10 o (fun w => c13 (Or.inr w)) (fun w => kd_k (k' := 1) h ?_))
  unfold kd_c; (repeat' split) <;> omega
theorem xe_fits {post : Int32 → Prop} {k : Nat} (hk : k ≤ 3) {a : Int32} (h1 : fi_t k a → post 1) (h0 : ¬ fi_t k a → post 0) : wpX_fits post (xL, xC, xW, xA, xP, xN, xF, xR, xB, xD, xo, xa, xb, xc, xsu, xpd, xrg, xjn, xst, xpc, xsp, xre, xme, xma, xun, xta, xkp, xkm, xkj) (nI k) a := by
  unfold wpX_fits
  refine pk_eq k 1 (fun z => br_c (fun w => h0 (fun f => (f.1 z).1 w)) (fun w => br_c (fun y => h0 (fun f => (f.1 z).2 y)) (fun y => h1 ⟨fun _ => ⟨w, y⟩, fun q => by omega⟩))) (fun z => pk_eq k 2 (fun z2 => br_c (fun w => h0 (fun f => (f.2 z2).1 w)) (fun w => br_c (fun y => h0 (fun f => (f.2 z2).2 y)) (fun y => h1 ⟨fun q => by omega, fun _ => ⟨w, y⟩⟩))) (fun z2 => h1 ⟨fun q => absurd q z, fun q => absurd q z2⟩))
theorem xe_op {v : Int32} (h0 : ¬ v < 0) (h : v ≤ 24) : ∃ o, o ≤ 24 ∧ v = nI o := nI_of2 (M := 24) (n := 24) (by decide) h0 h
theorem xe_emit {post : Int32 → SX → Prop} {n cap : Nat} (hcap : cap ≤ 32) (hn : n ≤ 32) {v1 v2 v3 v4 : Int32}
    (h2 : ¬ n < cap → post (-2) (xL, nI cap, xW, xA, 0, nI n, xF, xR, xB, xD, xo, xa, xb, xc, xsu, xpd, xrg, xjn, xst, xpc, xsp, xre, xme, xma, xun, xta, xkp, xkm, xkj)) (h3 : n < cap → (v1 < 0 ∨ ¬ v1 ≤ 24) → post (-3) (xL, nI cap, xW, xA, 0, nI n, xF, xR, xB, xD, xo, xa, xb, xc, xsu, xpd, xrg, xjn, xst, xpc, xsp, xre, xme, xma, xun, xta, xkp, xkm, xkj))
    (h4 : ∀ o, o ≤ 24 → v1 = nI o → n < cap → ¬ (fi_t (kd_a o) v2 ∧ fi_t (kd_b o) v3 ∧ fi_t (kd_c o) v4) → post (-4) (xL, nI cap, xW, xA, 0, nI n, xF, xR, xB, xD, xo, xa, xb, xc, xsu, xpd, xrg, xjn, xst, xpc, xsp, xre, xme, xma, xun, xta, xkp, xkm, xkj))
    (h5 : ∀ o, o ≤ 24 → v1 = nI o → n < cap → (fi_t (kd_a o) v2 ∧ fi_t (kd_b o) v3 ∧ fi_t (kd_c o) v4) → post (nI n) (xL, nI cap, xW, xA, 0, nI (n + 1), xF, xR, xB, xD, upd xo n (nI o), upd xa n (em_v (kd_a o) v2), upd xb n (em_v (kd_b o) v3), upd xc n (em_v (kd_c o) v4), xsu, xpd, xrg, xjn, xst, xpc, xsp, xre, xme, xma, xun, xta, xkp, xkm, xkj)) :
    wpX_emit post (xL, nI cap, xW, xA, 0, nI n, xF, xR, xB, xD, xo, xa, xb, xc, xsu, xpd, xrg, xjn, xst, xpc, xsp, xre, xme, xma, xun, xta, xkp, xkm, xkj) v1 v2 v3 v4 := by
  unfold wpX_emit
  refine br_t rfl (pk_lt n cap (fun hc => ?_) (fun hc => h2 (by omega)))
  refine br_c (fun z => h3 hc (Or.inl z)) (fun z => br_c (fun w => ?_) (fun w => h3 hc (Or.inr w)))
  obtain ⟨o, ho, e⟩ := xe_op z w
  subst e
  have hv : vp_in (nI n) 32 := vp_in_nI (by omega) (by omega)
  have cl : (nI n).toNatClampNeg = n := nI_clamp (by omega)
  obtain ⟨l1, l2, l3⟩ := kd_le o
  refine xe_ka ho (xe_kb ho (xe_kc ho (xe_fits l1 (fun f1 => br_f (by decide) (xe_fits l2 (fun f2 => br_f (by decide) (xe_fits l3 (fun f3 => br_f (by decide) ⟨hv, nm_e ?_⟩) (fun nf => br_t rfl (h4 o ho rfl hc (fun f => nf f.2.2))))) (fun nf => br_t rfl (h4 o ho rfl hc (fun f => nf f.2.1))))) (fun nf => br_t rfl (h4 o ho rfl hc (fun f => nf f.1))))))
  have h5' := h5 o ho rfl hc ⟨f1, f2, f3⟩
  rw [cl]
  have c156 : wX_emit_156 post (nI n) (em_v (kd_c o) v4) (nI n) xL (nI cap) xW xA 0 (nI n) xF xR xB xD (upd xo n (nI o)) (upd xa n (em_v (kd_a o) v2)) (upd xb n (em_v (kd_b o) v3)) xc xsu xpd xrg xjn xst xpc xsp xre xme xma xun xta xkp xkm xkj := by
    refine ⟨hv, nm_e (nm_r (nI_1 n) ?_)⟩
    rw [cl]
    exact h5'
  have c138 : wX_emit_138 post v4 (nI (kd_c o)) (nI n) (em_v (kd_b o) v3) (nI n) xL (nI cap) xW xA 0 (nI n) xF xR xB xD (upd xo n (nI o)) (upd xa n (em_v (kd_a o) v2)) xb xc xsu xpd xrg xjn xst xpc xsp xre xme xma xun xta xkp xkm xkj := by
    refine ⟨hv, nm_e ?_⟩
    rw [cl]
    refine pk_eq (kd_c o) 0 (fun q => ?_) (fun q => ?_)
    · unfold em_v at c156 ⊢
      rw [if_pos q] at c156
      exact c156
    · unfold em_v at c156 ⊢
      rw [if_neg q] at c156
      exact c156
  have c121 : wX_emit_121 post v3 v4 (nI (kd_b o)) (nI (kd_c o)) (nI n) (em_v (kd_a o) v2) (nI n) xL (nI cap) xW xA 0 (nI n) xF xR xB xD (upd xo n (nI o)) xa xb xc xsu xpd xrg xjn xst xpc xsp xre xme xma xun xta xkp xkm xkj := by
    refine ⟨hv, nm_e ?_⟩
    rw [cl]
    refine pk_eq (kd_b o) 0 (fun q => ?_) (fun q => ?_)
    · rw [show em_v (kd_b o) v3 = 0 from if_pos q] at c138
      exact c138
    · rw [show em_v (kd_b o) v3 = v3 from if_neg q] at c138
      exact c138
  refine pk_eq (kd_a o) 0 (fun q => ?_) (fun q => ?_)
  · rw [show em_v (kd_a o) v2 = 0 from if_pos q] at c121
    exact c121
  · rw [show em_v (kd_a o) v2 = v2 from if_neg q] at c121
    exact c121
end
section
variable {yL yC yW yA yP yN yF yB : Int32} {yco yjn yse ypd yst ypc ysp yre yun yme yta yma ytr : Nat → Int32}
theorem ye_k1 {post : Int32 → Prop} {o : Nat} (ho : o ≤ 24) (h : post (nI (kd_a o))) : wpY_kind post (yL, yC, yW, yA, yP, yN, yF, yB, yco, yjn, yse, ypd, yst, ypc, ysp, yre, yun, yme, yta, yma, ytr) (nI o) 1 := by
  unfold wpY_kind
  refine br_t rfl (pk_eq o 0 (fun z => kd_k (k' := 0) h ?_) (fun n0 => pk_eq o 15 (fun z => kd_k (k' := 0) h ?_) (fun n15 => pk_eq o 20 (fun z => kd_k (k' := 0) h ?_) (fun n20 => ?_))))
  case refine_4 =>
    unfold wY_kind_23
    refine br_t rfl (pk_eq o 18 (fun z => kd_k (k' := 2) h ?_) (fun n18 => pk_eq o 19 (fun z => kd_k (k' := 2) h ?_) (fun n19 => pk_lt o 21 (fun z => kd_k (k' := 1) h ?_) (fun z => kd_k (k' := 2) h ?_))))
    all_goals (unfold kd_a; (repeat' split) <;> omega)
  all_goals (unfold kd_a; (repeat' split) <;> omega)
theorem ye_k2 {post : Int32 → Prop} {o : Nat} (ho : o ≤ 24) (h : post (nI (kd_b o))) : wpY_kind post (yL, yC, yW, yA, yP, yN, yF, yB, yco, yjn, yse, ypd, yst, ypc, ysp, yre, yun, yme, yta, yma, ytr) (nI o) 2 := by
  have c97 : (o < 5 ∨ 14 < o) → o ≠ 4 → o ≠ 23 → o ≠ 24 → o ≠ 2 → wY_kind_97 post (nI o) yL yC yW yA yP yN yF yB yco yjn yse ypd yst ypc ysp yre yun yme yta yma ytr := by
    intro h1 h2 h3 h4 h5
    unfold wY_kind_97
    refine pk_eq o 21 (fun z => kd_k (k' := 1) h ?_) (fun z => kd_k (k' := 0) h ?_)
    all_goals (unfold kd_b; (repeat' split) <;> omega)
  have c76 : o ≠ 4 → o ≠ 23 → o ≠ 24 → wY_kind_76 post (nI o) 2 yL yC yW yA yP yN yF yB yco yjn yse ypd yst ypc ysp yre yun yme yta yma ytr := by
    intro h2 h3 h4
    unfold wY_kind_76
    refine br_t rfl (pk_eq o 2 (fun z => kd_k (k' := 1) h ?_) (fun n2 => pk_lt o 5 (fun z => c97 (Or.inl z) h2 h3 h4 n2) (fun z => pk_le o 14 (fun w => kd_k (k' := 1) h ?_) (fun w => c97 (Or.inr w) h2 h3 h4 n2))))
    all_goals (unfold kd_b; (repeat' split) <;> omega)
  unfold wpY_kind
  refine br_f (by decide) ?_
  unfold wY_kind_23
  refine br_f (by decide) (br_t rfl (pk_eq o 4 (fun z => kd_k (k' := 2) h ?_) (fun n4 => pk_eq o 23 (fun z => kd_k (k' := 2) h ?_) (fun n23 => pk_eq o 24 (fun z => kd_k (k' := 2) h ?_) (fun n24 => c76 n4 n23 n24)))))
  all_goals (unfold kd_b; (repeat' split) <;> omega)
theorem ye_k3 {post : Int32 → Prop} {o : Nat} (ho : o ≤ 24) (h : post (nI (kd_c o))) : wpY_kind post (yL, yC, yW, yA, yP, yN, yF, yB, yco, yjn, yse, ypd, yst, ypc, ysp, yre, yun, yme, yta, yma, ytr) (nI o) 3 := by
  have c147 : (o < 11 ∨ 19 < o) → (o < 5 ∨ 10 < o) → o ≠ 24 → o ≠ 1 → wY_kind_147 post (nI o) yL yC yW yA yP yN yF yB yco yjn yse ypd yst ypc ysp yre yun yme yta yma ytr := by
    intro h1 h2 h3 h4
    unfold wY_kind_147
    refine pk_eq o 22 (fun z => kd_k (k' := 3) h ?_) (fun n22 => pk_eq o 23 (fun z => kd_k (k' := 3) h ?_) (fun n23 => kd_k (k' := 0) h ?_))
    all_goals (unfold kd_c; (repeat' split) <;> omega)
  have c122 : (o < 5 ∨ 10 < o) → wY_kind_122 post (nI o) yL yC yW yA yP yN yF yB yco yjn yse ypd yst ypc ysp yre yun yme yta yma ytr := by
    intro h1
    unfold wY_kind_122
    refine pk_eq o 24 (fun z => kd_k (k' := 2) h ?_) (fun n24 => pk_eq o 1 (fun z => kd_k (k' := 3) h ?_) (fun n1 => pk_lt o 11 (fun z => c147 (Or.inl z) h1 n24 n1) (fun z => pk_le o 19 (fun w => kd_k (k' := 3) h ?_) (fun w => c147 (Or.inr w) h1 n24 n1))))
    all_goals (unfold kd_c; (repeat' split) <;> omega)
  unfold wpY_kind
  refine br_f (by decide) ?_
  unfold wY_kind_23
  refine br_f (by decide) (br_f (by decide) ?_)
  unfold wY_kind_76
  refine br_f (by decide) (pk_lt o 5 (fun z => c122 (Or.inl z)) (fun z => pk_lt 10 o (fun w => c122 (Or.inr w)) (fun w => kd_k (k' := 1) h ?_)))
  unfold kd_c; (repeat' split) <;> omega
theorem ye_in {post : Int32 → Prop} {a b : Int32} (h1 : ¬ a < 0 → ¬ b ≤ a → post 1) (h0 : (a < 0 ∨ b ≤ a) → post 0) : wpY_in post (yL, yC, yW, yA, yP, yN, yF, yB, yco, yjn, yse, ypd, yst, ypc, ysp, yre, yun, yme, yta, yma, ytr) a b := by
  unfold wpY_in
  exact br_c (fun z => h0 (Or.inl z)) (fun z => br_c (fun w => h0 (Or.inr w)) (fun w => h1 z w))
theorem ye_fits {post : Int32 → Prop} {k : Nat} (hk : k ≤ 3) {a : Int32} (h1 : fi_t k a → post 1) (h0 : ¬ fi_t k a → post 0) : wpY_fits post (yL, yC, yW, yA, yP, yN, yF, yB, yco, yjn, yse, ypd, yst, ypc, ysp, yre, yun, yme, yta, yma, ytr) (nI k) a := by
  unfold wpY_fits
  refine pk_eq k 1 (fun z => ?_) (fun z => pk_eq k 2 (fun z2 => ?_) (fun z2 => h1 ⟨fun q => absurd q z, fun q => absurd q z2⟩))
  · refine ye_in (fun w y => ⟨yw_b (Or.inr rfl), h1 ⟨fun _ => ⟨w, y⟩, fun q => by omega⟩⟩) (fun w => ⟨yw_b (Or.inl rfl), h0 (fun f => ?_)⟩)
    rcases w with w | w
    · exact (f.1 z).1 w
    · exact (f.1 z).2 w
  · refine ye_in (fun w y => ⟨yw_b (Or.inr rfl), h1 ⟨fun q => by omega, fun _ => ⟨w, y⟩⟩⟩) (fun w => ⟨yw_b (Or.inl rfl), h0 (fun f => ?_)⟩)
    rcases w with w | w
    · exact (f.2 z2).1 w
    · exact (f.2 z2).2 w
theorem ye_emit {post : Int32 → SY → Prop} {n cap : Nat} (hcap : cap ≤ 32) (hn : n ≤ 32) {v1 v2 v3 v4 : Int32}
    (h2 : ¬ n < cap → post (-2) (yL, nI cap, yW, yA, 0, nI n, yF, yB, yco, yjn, yse, ypd, yst, ypc, ysp, yre, yun, yme, yta, yma, ytr)) (h3 : n < cap → (v1 < 0 ∨ ¬ v1 ≤ 24) → post (-3) (yL, nI cap, yW, yA, 0, nI n, yF, yB, yco, yjn, yse, ypd, yst, ypc, ysp, yre, yun, yme, yta, yma, ytr))
    (h4 : ∀ o, o ≤ 24 → v1 = nI o → n < cap → ¬ (fi_t (kd_a o) v2 ∧ fi_t (kd_b o) v3 ∧ fi_t (kd_c o) v4) → post (-4) (yL, nI cap, yW, yA, 0, nI n, yF, yB, yco, yjn, yse, ypd, yst, ypc, ysp, yre, yun, yme, yta, yma, ytr))
    (h5 : ∀ o, o ≤ 24 → v1 = nI o → n < cap → (fi_t (kd_a o) v2 ∧ fi_t (kd_b o) v3 ∧ fi_t (kd_c o) v4) → post (nI n) (yL, nI cap, yW, yA, 0, nI (n + 1), yF, yB, upd (upd (upd (upd yco (4 * n) (nI o)) (4 * n + 1) (em_v (kd_a o) v2)) (4 * n + 2) (em_v (kd_b o) v3)) (4 * n + 3) (em_v (kd_c o) v4), yjn, yse, ypd, yst, ypc, ysp, yre, yun, yme, yta, yma, ytr)) :
    wpY_emit post (yL, nI cap, yW, yA, 0, nI n, yF, yB, yco, yjn, yse, ypd, yst, ypc, ysp, yre, yun, yme, yta, yma, ytr) v1 v2 v3 v4 := by
  have w1 : nI (4 * n) + 1 = nI (4 * n + 1) := yw_4a n 1
  have w2 : nI (4 * n) + 2 = nI (4 * n + 2) := yw_4a n 2
  have w3 : nI (4 * n) + 3 = nI (4 * n + 3) := yw_4a n 3
  unfold wpY_emit
  refine br_t rfl (pk_lt n cap (fun hc => ?_) (fun hc => h2 (by omega)))
  refine br_c (fun z => h3 hc (Or.inl z)) (fun z => br_c (fun w => ?_) (fun w => h3 hc (Or.inr w)))
  obtain ⟨o, ho, e⟩ := xe_op z w
  subst e
  have cl : ∀ k, k < 4 → (nI (4 * n + k)).toNatClampNeg = 4 * n + k := fun k hk => nI_clamp (by omega)
  have cl0 : (nI (4 * n)).toNatClampNeg = 4 * n := nI_clamp (by omega)
  obtain ⟨l1, l2, l3⟩ := kd_le o
  refine ye_k1 ho (ye_k2 ho (ye_k3 ho (ye_fits l1 (fun f1 => br_f (by decide) (ye_fits l2 (fun f2 => br_f (by decide) (ye_fits l3 (fun f3 => br_f (by decide) ?_) (fun nf => br_t rfl (h4 o ho rfl hc (fun f => nf f.2.2))))) (fun nf => br_t rfl (h4 o ho rfl hc (fun f => nf f.2.1))))) (fun nf => br_t rfl (h4 o ho rfl hc (fun f => nf f.1))))))
  have h5' := h5 o ho rfl hc ⟨f1, f2, f3⟩
  have c175 : wY_emit_175 post (em_v (kd_c o) v4) (nI (4 * n + 3)) yL (nI cap) yW yA 0 (nI n) yF yB (upd (upd (upd yco (4 * n) (nI o)) (4 * n + 1) (em_v (kd_a o) v2)) (4 * n + 2) (em_v (kd_b o) v3)) yjn yse ypd yst ypc ysp yre yun yme yta yma ytr := by
    refine ⟨vp_in_nI (by omega) (by omega), nm_e (nm_r (nI_1 n) ?_)⟩
    rw [cl 3 (by omega), nI_pred]
    exact h5'
  have c151 : wY_emit_151 post v4 (nI (kd_c o)) (em_v (kd_b o) v3) (nI (4 * n + 2)) yL (nI cap) yW yA 0 (nI n) yF yB (upd (upd yco (4 * n) (nI o)) (4 * n + 1) (em_v (kd_a o) v2)) yjn yse ypd yst ypc ysp yre yun yme yta yma ytr := by
    refine ⟨vp_in_nI (by omega) (by omega), nm_e ?_⟩
    rw [cl 2 (by omega), yw_4, w3]
    refine pk_eq (kd_c o) 0 (fun q => ?_) (fun q => ?_)
    · rw [show em_v (kd_c o) v4 = 0 from if_pos q] at c175
      exact c175
    · rw [show em_v (kd_c o) v4 = v4 from if_neg q] at c175
      exact c175
  have c128 : wY_emit_128 post v3 v4 (nI (kd_b o)) (nI (kd_c o)) (em_v (kd_a o) v2) (nI (4 * n + 1)) yL (nI cap) yW yA 0 (nI n) yF yB (upd yco (4 * n) (nI o)) yjn yse ypd yst ypc ysp yre yun yme yta yma ytr := by
    refine ⟨vp_in_nI (by omega) (by omega), nm_e ?_⟩
    rw [cl 1 (by omega), yw_4, w2]
    refine pk_eq (kd_b o) 0 (fun q => ?_) (fun q => ?_)
    · rw [show em_v (kd_b o) v3 = 0 from if_pos q] at c151
      exact c151
    · rw [show em_v (kd_b o) v3 = v3 from if_neg q] at c151
      exact c151
  rw [yw_4, w1, cl0]
  refine ⟨vp_in_nI (by omega) (by omega), nm_e (pk_eq (kd_a o) 0 (fun q => ?_) (fun q => ?_))⟩
  · rw [show em_v (kd_a o) v2 = 0 from if_pos q] at c128
    exact c128
  · rw [show em_v (kd_a o) v2 = v2 from if_neg q] at c128
    exact c128
end
end
section
/-! own rows: the relation -/
def R2 (P : pg_P) (cap : Nat) (c : Nat → ln_V) (xP xR : Int32) (xo xa xb xc : Nat → Int32) (xrg : Nat → Int64) (xjn xst xpc xre xme xma yco yjn yst ypc yre yme yma : Nat → Int32) : Prop :=
  pg_ok P ∧ pg_n P ≤ cap ∧ cap ≤ 32 ∧ px_ok P xo xa xb xc ∧ py_ok P yco ∧ (xP = 0 ∨ xP = 1 ∨ xP = 2 ∨ xP = 3) ∧ (¬ xP = 0 → pg_se P ∧ px_jn P xjn ∧ py_jn P yjn ∧ px_rg P xrg) ∧
  rl_a P c xst xpc xre xme ∧ rl_a P c yst ypc yre yme ∧ (∀ l, l < pg_L P → ln_sp (c l) = 0 ∧ ln_pc (c l) ≤ pg_n P) ∧ (∀ l p, l < pg_L P → p < 32 → yma (32 * l + p) = xma (32 * l + p)) ∧
  (xP = 2 → rb_r P c xR ∧ ∃ s, s < pg_n P ∧ ∀ l, l < pg_L P → ln_st (c l) = 1 → ln_pc (c l) = s)
/-- the relation: one program, one set of lanes, equal answers to all questions; the sets, join points and regions agree outside EDIT -/
def i_Rel (k : Nat) (u : SX) (v : SY) : Prop := match u with
  | (xL, xC, xW, xA, xP, xN, xF, xR, xB, xD, xo, xa, xb, xc, xsu, xpd, xrg, xjn, xst, xpc, xsp, xre, xme, xma, xun, xta, xkp, xkm, xkj) => match v with
    | (yL, yC, yW, yA, yP, yN, yF, yB, yco, yjn, yse, ypd, yst, ypc, ysp, yre, yun, yme, yta, yma, ytr) => ∃ (P : pg_P) (cap : Nat) (c : Nat → ln_V), (xL = nI (pg_L P) ∧ yL = nI (pg_L P) ∧ xC = nI cap ∧ yC = nI cap ∧ xW = nI (pg_w P) ∧ yW = nI (pg_w P) ∧ xA = nI (pg_al P) ∧ yA = nI (pg_al P) ∧ xN = nI (pg_n P) ∧ yN = nI (pg_n P) ∧ yP = xP ∧ yF = xF ∧ yB = xB ∧ yun = xun ∧ yta = xta) ∧ R2 P cap c xP xR xo xa xb xc xrg xjn xst xpc xre xme xma yco yjn yst ypc yre yme yma
theorem rl_el {k : Nat} {u : SX} {v : SY} {Q : SX → SY → Prop} (I : i_Rel k u v)
    (h : ∀ (P : pg_P) (cap : Nat) (c : Nat → ln_V) (xP xF xR xB xD : Int32) (xo xa xb xc : Nat → Int32) (xsu xpd xrg : Nat → Int64) (xjn xst xpc xsp xre xme xma xun xta xkp xkm xkj yco yjn yse ypd yst ypc ysp yre yme yma ytr : Nat → Int32), R2 P cap c xP xR xo xa xb xc xrg xjn xst xpc xre xme xma yco yjn yst ypc yre yme yma → Q (nI (pg_L P), nI cap, nI (pg_w P), nI (pg_al P), xP, nI (pg_n P), xF, xR, xB, xD, xo, xa, xb, xc, xsu, xpd, xrg, xjn, xst, xpc, xsp, xre, xme, xma, xun, xta, xkp, xkm, xkj) (nI (pg_L P), nI cap, nI (pg_w P), nI (pg_al P), xP, nI (pg_n P), xF, xB, yco, yjn, yse, ypd, yst, ypc, ysp, yre, xun, yme, xta, yma, ytr)) : Q u v := by
  obtain ⟨xL, xC, xW, xA, xP, xN, xF, xR, xB, xD, xo, xa, xb, xc, xsu, xpd, xrg, xjn, xst, xpc, xsp, xre, xme, xma, xun, xta, xkp, xkm, xkj⟩ := u
  obtain ⟨yL, yC, yW, yA, yP, yN, yF, yB, yco, yjn, yse, ypd, yst, ypc, ysp, yre, yun, yme, yta, yma, ytr⟩ := v
  obtain ⟨P, cap, c, ⟨e1, e2, e3, e4, e5, e6, e7, e8, e9, e10, e11, e12, e13, e14, e15⟩, r⟩ := I
  subst e1 e2 e3 e4 e5 e6 e7 e8 e9 e10 e11 e12 e13 e14 e15
  exact h P cap c yP yF xR yB xD xo xa xb xc xsu xpd xrg xjn xst xpc xsp xre xme xma yun yta xkp xkm xkj yco yjn yse ypd yst ypc ysp yre yme yma ytr r
section
variable {k : Nat} {P : pg_P} {cap : Nat} {c : Nat → ln_V} {xL xC xW xA xP xN xF xR xB xD : Int32} {xo xa xb xc : Nat → Int32} {xsu xpd xrg : Nat → Int64} {xjn xst xpc xsp xre xme xma xun xta xkp xkm xkj : Nat → Int32} {yL yC yW yA yP yN yF yB : Int32} {yco yjn yse ypd yst ypc ysp yre yun yme yta yma ytr : Nat → Int32}
theorem rl_in (r : R2 P cap c xP xR xo xa xb xc xrg xjn xst xpc xre xme xma yco yjn yst ypc yre yme yma) : i_Rel k (nI (pg_L P), nI cap, nI (pg_w P), nI (pg_al P), xP, nI (pg_n P), xF, xR, xB, xD, xo, xa, xb, xc, xsu, xpd, xrg, xjn, xst, xpc, xsp, xre, xme, xma, xun, xta, xkp, xkm, xkj) (nI (pg_L P), nI cap, nI (pg_w P), nI (pg_al P), xP, nI (pg_n P), xF, xB, yco, yjn, yse, ypd, yst, ypc, ysp, yre, xun, yme, xta, yma, ytr) := ⟨P, cap, c, ⟨rfl, rfl, rfl, rfl, rfl, rfl, rfl, rfl, rfl, rfl, rfl, rfl, rfl, rfl, rfl⟩, r⟩
/-! the small helpers, by cases -/
theorem xl_out {post : Int32 → Prop} {L : Nat} {v : Int32} (hv : v < 0 ∨ nI L ≤ v) (h : post 0) : wpX_isLane post (nI L, xC, xW, xA, xP, xN, xF, xR, xB, xD, xo, xa, xb, xc, xsu, xpd, xrg, xjn, xst, xpc, xsp, xre, xme, xma, xun, xta, xkp, xkm, xkj) v := by
  unfold wpX_isLane
  exact br_c (fun _ => h) (fun z => br_t (hv.resolve_left z) h)
theorem xl_in {post : Int32 → Prop} {L l : Nat} (hL : L ≤ 8) (hl : l < L) (h : post 1) : wpX_isLane post (nI L, xC, xW, xA, xP, xN, xF, xR, xB, xD, xo, xa, xb, xc, xsu, xpd, xrg, xjn, xst, xpc, xsp, xre, xme, xma, xun, xta, xkp, xkm, xkj) (nI l) := by
  unfold wpX_isLane
  exact br_f (nI_pos (by omega)) (br_f (nI_ge hl (by omega)) h)
theorem xi_out {post : Int32 → Prop} {n : Nat} {v : Int32} (hv : v < 0 ∨ nI n ≤ v) (h : post 0) : wpX_isIndex post (xL, xC, xW, xA, xP, nI n, xF, xR, xB, xD, xo, xa, xb, xc, xsu, xpd, xrg, xjn, xst, xpc, xsp, xre, xme, xma, xun, xta, xkp, xkm, xkj) v := by
  unfold wpX_isIndex
  exact br_c (fun _ => h) (fun z => br_t (hv.resolve_left z) h)
theorem xi_in {post : Int32 → Prop} {n l : Nat} (hn : n ≤ 32) (hl : l < n) (h : post 1) : wpX_isIndex post (xL, xC, xW, xA, xP, nI n, xF, xR, xB, xD, xo, xa, xb, xc, xsu, xpd, xrg, xjn, xst, xpc, xsp, xre, xme, xma, xun, xta, xkp, xkm, xkj) (nI l) := by
  unfold wpX_isIndex
  exact br_f (nI_pos (by omega)) (br_f (nI_ge hl (by omega)) h)
theorem yi_out {post : Int32 → Prop} {b v : Int32} (hv : v < 0 ∨ b ≤ v) (h : post 0) : wpY_in post (yL, yC, yW, yA, yP, yN, yF, yB, yco, yjn, yse, ypd, yst, ypc, ysp, yre, yun, yme, yta, yma, ytr) v b := by
  unfold wpY_in
  exact br_c (fun _ => h) (fun z => br_t (hv.resolve_left z) h)
theorem yi_in {post : Int32 → Prop} {n l : Nat} (hn : n ≤ 32) (hl : l < n) (h : post 1) : wpY_in post (yL, yC, yW, yA, yP, yN, yF, yB, yco, yjn, yse, ypd, yst, ypc, ysp, yre, yun, yme, yta, yma, ytr) (nI l) (nI n) := by
  unfold wpY_in
  exact br_f (nI_pos (by omega)) (br_f (nI_ge hl (by omega)) h)
end
theorem ix_c (v : Int32) {n : Nat} (hn : n ≤ 32) : (v < 0 ∨ nI n ≤ v) ∨ ∃ j, j < n ∧ v = nI j := by
  rcases pk_ix v (n := n) (by omega) with h | h | h
  · exact Or.inl (Or.inl h)
  · exact Or.inl (Or.inr h)
  · exact Or.inr h
theorem i_up {k : Nat} {u : SX} {v : SY} (h : i_Rel k u v) : i_Rel (k + 5) u v := h
theorem i_vc_phase {k : Nat} {u : SX} {v : SY} (I : i_Rel k u v) (hk : k + 5 ≤ 2564) : wpX_phase (fun r => wpY_phase (fun r' => r' = r ∧ i_Rel (k + 5) u v) v) u := by
  refine rl_el (Q := fun u v => wpX_phase (fun r => wpY_phase (fun r' => r' = r ∧ i_Rel (k + 5) u v) v) u) I ?_
  intro P cap c xP xF xR xB xD xo xa xb xc xsu xpd xrg xjn xst xpc xsp xre xme xma xun xta xkp xkm xkj yco yjn yse ypd yst ypc ysp yre yme yma ytr r
  exact And.intro rfl (rl_in r)
theorem i_vc_size {k : Nat} {u : SX} {v : SY} (I : i_Rel k u v) (hk : k + 5 ≤ 2564) : wpX_size (fun r => wpY_size (fun r' => r' = r ∧ i_Rel (k + 5) u v) v) u := by
  refine rl_el (Q := fun u v => wpX_size (fun r => wpY_size (fun r' => r' = r ∧ i_Rel (k + 5) u v) v) u) I ?_
  intro P cap c xP xF xR xB xD xo xa xb xc xsu xpd xrg xjn xst xpc xsp xre xme xma xun xta xkp xkm xkj yco yjn yse ypd yst ypc ysp yre yme yma ytr r
  exact And.intro rfl (rl_in r)
theorem i_vc_faultAt {k : Nat} {u : SX} {v : SY} (I : i_Rel k u v) (hk : k + 5 ≤ 2564) : wpX_faultAt (fun r => wpY_faultAt (fun r' => r' = r ∧ i_Rel (k + 5) u v) v) u := by
  refine rl_el (Q := fun u v => wpX_faultAt (fun r => wpY_faultAt (fun r' => r' = r ∧ i_Rel (k + 5) u v) v) u) I ?_
  intro P cap c xP xF xR xB xD xo xa xb xc xsu xpd xrg xjn xst xpc xsp xre xme xma xun xta xkp xkm xkj yco yjn yse ypd yst ypc ysp yre yme yma ytr r
  exact And.intro rfl (rl_in r)
theorem i_vc_barriers {k : Nat} {u : SX} {v : SY} (I : i_Rel k u v) (hk : k + 5 ≤ 2564) : wpX_barriers (fun r => wpY_barriers (fun r' => r' = r ∧ i_Rel (k + 5) u v) v) u := by
  refine rl_el (Q := fun u v => wpX_barriers (fun r => wpY_barriers (fun r' => r' = r ∧ i_Rel (k + 5) u v) v) u) I ?_
  intro P cap c xP xF xR xB xD xo xa xb xc xsu xpd xrg xjn xst xpc xsp xre xme xma xun xta xkp xkm xkj yco yjn yse ypd yst ypc ysp yre yme yma ytr r
  exact And.intro rfl (rl_in r)
theorem i_vc_uniform {k : Nat} {u : SX} {v : SY} (I : i_Rel k u v) (hk : k + 5 ≤ 2564) (v1 : Int32) : wpX_uniform (fun r => wpY_uniform (fun r' => r' = r ∧ i_Rel (k + 5) u v) v v1) u v1 := by
  refine rl_el (Q := fun u v => wpX_uniform (fun r => wpY_uniform (fun r' => r' = r ∧ i_Rel (k + 5) u v) v v1) u v1) I ?_
  intro P cap c xP xF xR xB xD xo xa xb xc xsu xpd xrg xjn xst xpc xsp xre xme xma xun xta xkp xkm xkj yco yjn yse ypd yst ypc ysp yre yme yma ytr r
  rcases ix_c v1 (n := 4) (by omega) with o | ⟨j, hj, e⟩
  · have ans : wpY_uniform (fun r' => r' = 0 ∧ i_Rel (k + 5) (nI (pg_L P), nI cap, nI (pg_w P), nI (pg_al P), xP, nI (pg_n P), xF, xR, xB, xD, xo, xa, xb, xc, xsu, xpd, xrg, xjn, xst, xpc, xsp, xre, xme, xma, xun, xta, xkp, xkm, xkj) (nI (pg_L P), nI cap, nI (pg_w P), nI (pg_al P), xP, nI (pg_n P), xF, xB, yco, yjn, yse, ypd, yst, ypc, ysp, yre, xun, yme, xta, yma, ytr)) (nI (pg_L P), nI cap, nI (pg_w P), nI (pg_al P), xP, nI (pg_n P), xF, xB, yco, yjn, yse, ypd, yst, ypc, ysp, yre, xun, yme, xta, yma, ytr) v1 := by
      unfold wpY_uniform
      exact yi_out o (br_t rfl ⟨rfl, rl_in r⟩)
    unfold wpX_uniform
    refine br_c (fun _ => ans) (fun z => br_f (fun w => ?_) ans)
    exact Int32.not_le.mpr w (o.resolve_left z)
  · subst e
    unfold wpX_uniform
    refine br_f (nI_pos (by omega)) (br_t (nI_lt (b := 4) hj (by omega)) ⟨vp_in_nI hj (by omega), ?_⟩)
    unfold wpY_uniform
    exact yi_in (n := 4) (by omega) hj (br_f (by decide) ⟨vp_in_nI hj (by omega), rfl, rl_in r⟩)
theorem i_vc_tableWord {k : Nat} {u : SX} {v : SY} (I : i_Rel k u v) (hk : k + 5 ≤ 2564) (v1 : Int32) : wpX_tableWord (fun r => wpY_tableWord (fun r' => r' = r ∧ i_Rel (k + 5) u v) v v1) u v1 := by
  refine rl_el (Q := fun u v => wpX_tableWord (fun r => wpY_tableWord (fun r' => r' = r ∧ i_Rel (k + 5) u v) v v1) u v1) I ?_
  intro P cap c xP xF xR xB xD xo xa xb xc xsu xpd xrg xjn xst xpc xsp xre xme xma xun xta xkp xkm xkj yco yjn yse ypd yst ypc ysp yre yme yma ytr r
  rcases ix_c v1 (n := 16) (by omega) with o | ⟨j, hj, e⟩
  · have ans : wpY_tableWord (fun r' => r' = 0 ∧ i_Rel (k + 5) (nI (pg_L P), nI cap, nI (pg_w P), nI (pg_al P), xP, nI (pg_n P), xF, xR, xB, xD, xo, xa, xb, xc, xsu, xpd, xrg, xjn, xst, xpc, xsp, xre, xme, xma, xun, xta, xkp, xkm, xkj) (nI (pg_L P), nI cap, nI (pg_w P), nI (pg_al P), xP, nI (pg_n P), xF, xB, yco, yjn, yse, ypd, yst, ypc, ysp, yre, xun, yme, xta, yma, ytr)) (nI (pg_L P), nI cap, nI (pg_w P), nI (pg_al P), xP, nI (pg_n P), xF, xB, yco, yjn, yse, ypd, yst, ypc, ysp, yre, xun, yme, xta, yma, ytr) v1 := by
      unfold wpY_tableWord
      exact yi_out o (br_t rfl ⟨rfl, rl_in r⟩)
    unfold wpX_tableWord
    refine br_c (fun _ => ans) (fun z => br_f (fun w => ?_) ans)
    exact Int32.not_le.mpr w (o.resolve_left z)
  · subst e
    unfold wpX_tableWord
    refine br_f (nI_pos (by omega)) (br_t (nI_lt (b := 16) hj (by omega)) ⟨vp_in_nI hj (by omega), ?_⟩)
    unfold wpY_tableWord
    exact yi_in (n := 16) (by omega) hj (br_f (by decide) ⟨vp_in_nI hj (by omega), rfl, rl_in r⟩)
theorem i_vc_laneStatus {k : Nat} {u : SX} {v : SY} (I : i_Rel k u v) (hk : k + 5 ≤ 2564) (v1 : Int32) : wpX_laneStatus (fun r => wpY_laneStatus (fun r' => r' = r ∧ i_Rel (k + 5) u v) v v1) u v1 := by
  refine rl_el (Q := fun u v => wpX_laneStatus (fun r => wpY_laneStatus (fun r' => r' = r ∧ i_Rel (k + 5) u v) v v1) u v1) I ?_
  intro P cap c xP xF xR xB xD xo xa xb xc xsu xpd xrg xjn xst xpc xsp xre xme xma xun xta xkp xkm xkj yco yjn yse ypd yst ypc ysp yre yme yma ytr r
  have r' := r
  obtain ⟨⟨hL2, hL, hn, hw4, hw, ha16, hal, hin⟩, ncap, cap32, hx, hy, hph, hse, hax, hay, hc0, hma, h2⟩ := r'
  unfold wpX_laneStatus wpY_laneStatus
  rcases ix_c v1 (n := pg_L P) (by omega) with o | ⟨j, hj, e⟩
  · exact xl_out o (br_t rfl (yi_out o (br_t rfl ⟨rfl, rl_in r⟩)))
  · subst e
    refine xl_in hL hj (br_f (by decide) ⟨vp_in_nI (by omega) (by omega), yi_in (by omega) hj (br_f (by decide) ⟨vp_in_nI (by omega) (by omega), ?_, rl_in r⟩)⟩)
    rw [nI_clamp (by omega), (hax j hj).1, (hay j hj).1]
theorem i_vc_lanePc {k : Nat} {u : SX} {v : SY} (I : i_Rel k u v) (hk : k + 5 ≤ 2564) (v1 : Int32) : wpX_lanePc (fun r => wpY_lanePc (fun r' => r' = r ∧ i_Rel (k + 5) u v) v v1) u v1 := by
  refine rl_el (Q := fun u v => wpX_lanePc (fun r => wpY_lanePc (fun r' => r' = r ∧ i_Rel (k + 5) u v) v v1) u v1) I ?_
  intro P cap c xP xF xR xB xD xo xa xb xc xsu xpd xrg xjn xst xpc xsp xre xme xma xun xta xkp xkm xkj yco yjn yse ypd yst ypc ysp yre yme yma ytr r
  have r' := r
  obtain ⟨⟨hL2, hL, hn, hw4, hw, ha16, hal, hin⟩, ncap, cap32, hx, hy, hph, hse, hax, hay, hc0, hma, h2⟩ := r'
  unfold wpX_lanePc wpY_lanePc
  rcases ix_c v1 (n := pg_L P) (by omega) with o | ⟨j, hj, e⟩
  · exact xl_out o (br_t rfl (yi_out o (br_t rfl ⟨rfl, rl_in r⟩)))
  · subst e
    refine xl_in hL hj (br_f (by decide) ⟨vp_in_nI (by omega) (by omega), yi_in (by omega) hj (br_f (by decide) ⟨vp_in_nI (by omega) (by omega), ?_, rl_in r⟩)⟩)
    rw [nI_clamp (by omega), (hax j hj).2.1, (hay j hj).2.1]
theorem i_vc_laneReg {k : Nat} {u : SX} {v : SY} (I : i_Rel k u v) (hk : k + 5 ≤ 2564) (v1 : Int32) (v2 : Int32) : wpX_laneReg (fun r => wpY_laneReg (fun r' => r' = r ∧ i_Rel (k + 5) u v) v v1 v2) u v1 v2 := by
  refine rl_el (Q := fun u v => wpX_laneReg (fun r => wpY_laneReg (fun r' => r' = r ∧ i_Rel (k + 5) u v) v v1 v2) u v1 v2) I ?_
  intro P cap c xP xF xR xB xD xo xa xb xc xsu xpd xrg xjn xst xpc xsp xre xme xma xun xta xkp xkm xkj yco yjn yse ypd yst ypc ysp yre yme yma ytr r
  have r' := r
  obtain ⟨⟨hL2, hL, hn, hw4, hw, ha16, hal, hin⟩, ncap, cap32, hx, hy, hph, hse, hax, hay, hc0, hma, h2⟩ := r'
  unfold wpX_laneReg wpY_laneReg
  rcases ix_c v1 (n := pg_L P) (by omega) with o | ⟨j, hj, e⟩
  · exact xl_out o (br_t rfl (yi_out o (br_t rfl ⟨rfl, rl_in r⟩)))
  · subst e
    refine xl_in hL hj (br_f (by decide) ?_)
    rcases ix_c v2 (n := 8) (by omega) with o | ⟨q, hq, e⟩
    · have ans : wpY_in (fun r_1 => (((r_1 = 0 → ((0 : Int32) = 0 ∧ i_Rel (k + 5) (nI (pg_L P), nI cap, nI (pg_w P), nI (pg_al P), xP, nI (pg_n P), xF, xR, xB, xD, xo, xa, xb, xc, xsu, xpd, xrg, xjn, xst, xpc, xsp, xre, xme, xma, xun, xta, xkp, xkm, xkj) (nI (pg_L P), nI cap, nI (pg_w P), nI (pg_al P), xP, nI (pg_n P), xF, xB, yco, yjn, yse, ypd, yst, ypc, ysp, yre, xun, yme, xta, yma, ytr))) ∧ (¬ r_1 = 0 → (wpY_in (fun r_24 => (((r_24 = 0 → ((0 : Int32) = 0 ∧ i_Rel (k + 5) (nI (pg_L P), nI cap, nI (pg_w P), nI (pg_al P), xP, nI (pg_n P), xF, xR, xB, xD, xo, xa, xb, xc, xsu, xpd, xrg, xjn, xst, xpc, xsp, xre, xme, xma, xun, xta, xkp, xkm, xkj) (nI (pg_L P), nI cap, nI (pg_w P), nI (pg_al P), xP, nI (pg_n P), xF, xB, yco, yjn, yse, ypd, yst, ypc, ysp, yre, xun, yme, xta, yma, ytr))) ∧ (¬ r_24 = 0 → (vp_in ((8 * (nI j)) + v2) 64 ∧ (yre ((8 * (nI j)) + v2).toNatClampNeg = 0 ∧ i_Rel (k + 5) (nI (pg_L P), nI cap, nI (pg_w P), nI (pg_al P), xP, nI (pg_n P), xF, xR, xB, xD, xo, xa, xb, xc, xsu, xpd, xrg, xjn, xst, xpc, xsp, xre, xme, xma, xun, xta, xkp, xkm, xkj) (nI (pg_L P), nI cap, nI (pg_w P), nI (pg_al P), xP, nI (pg_n P), xF, xB, yco, yjn, yse, ypd, yst, ypc, ysp, yre, xun, yme, xta, yma, ytr))))))) (nI (pg_L P), nI cap, nI (pg_w P), nI (pg_al P), xP, nI (pg_n P), xF, xB, yco, yjn, yse, ypd, yst, ypc, ysp, yre, xun, yme, xta, yma, ytr) v2 8))))) (nI (pg_L P), nI cap, nI (pg_w P), nI (pg_al P), xP, nI (pg_n P), xF, xB, yco, yjn, yse, ypd, yst, ypc, ysp, yre, xun, yme, xta, yma, ytr) (nI j) (nI (pg_L P)) :=
        yi_in (by omega) hj (br_f (by decide) (yi_out o (br_t rfl ⟨rfl, rl_in r⟩)))
      refine br_c (fun _ => ans) (fun z => br_f (fun w => ?_) ans)
      exact Int32.not_le.mpr w (o.resolve_left z)
    · subst e
      refine br_f (nI_pos (by omega)) (br_t (nI_lt (b := 8) hq (by omega)) ?_)
      rw [ix_8, iy_8]
      refine ⟨vp_in_nI (by omega) (by omega), yi_in (by omega) hj (br_f (by decide) (yi_in (n := 8) (by omega) hq (br_f (by decide) ⟨vp_in_nI (by omega) (by omega), ?_, rl_in r⟩)))⟩
      rw [nI_clamp (by omega), (hax j hj).2.2.1 q hq, (hay j hj).2.2.1 q hq]
theorem i_vc_laneMem {k : Nat} {u : SX} {v : SY} (I : i_Rel k u v) (hk : k + 5 ≤ 2564) (v1 : Int32) (v2 : Int32) : wpX_laneMem (fun r => wpY_laneMem (fun r' => r' = r ∧ i_Rel (k + 5) u v) v v1 v2) u v1 v2 := by
  refine rl_el (Q := fun u v => wpX_laneMem (fun r => wpY_laneMem (fun r' => r' = r ∧ i_Rel (k + 5) u v) v v1 v2) u v1 v2) I ?_
  intro P cap c xP xF xR xB xD xo xa xb xc xsu xpd xrg xjn xst xpc xsp xre xme xma xun xta xkp xkm xkj yco yjn yse ypd yst ypc ysp yre yme yma ytr r
  have r' := r
  obtain ⟨⟨hL2, hL, hn, hw4, hw, ha16, hal, hin⟩, ncap, cap32, hx, hy, hph, hse, hax, hay, hc0, hma, h2⟩ := r'
  unfold wpX_laneMem wpY_laneMem
  rcases ix_c v1 (n := pg_L P) (by omega) with o | ⟨j, hj, e⟩
  · exact xl_out o (br_t rfl (yi_out o (br_t rfl ⟨rfl, rl_in r⟩)))
  · subst e
    refine xl_in hL hj (br_f (by decide) ?_)
    rcases ix_c v2 (n := pg_w P) (by omega) with o | ⟨q, hq, e⟩
    · have ans : wpY_in (fun r_1 => (((r_1 = 0 → ((0 : Int32) = 0 ∧ i_Rel (k + 5) (nI (pg_L P), nI cap, nI (pg_w P), nI (pg_al P), xP, nI (pg_n P), xF, xR, xB, xD, xo, xa, xb, xc, xsu, xpd, xrg, xjn, xst, xpc, xsp, xre, xme, xma, xun, xta, xkp, xkm, xkj) (nI (pg_L P), nI cap, nI (pg_w P), nI (pg_al P), xP, nI (pg_n P), xF, xB, yco, yjn, yse, ypd, yst, ypc, ysp, yre, xun, yme, xta, yma, ytr))) ∧ (¬ r_1 = 0 → (wpY_in (fun r_24 => (((r_24 = 0 → ((0 : Int32) = 0 ∧ i_Rel (k + 5) (nI (pg_L P), nI cap, nI (pg_w P), nI (pg_al P), xP, nI (pg_n P), xF, xR, xB, xD, xo, xa, xb, xc, xsu, xpd, xrg, xjn, xst, xpc, xsp, xre, xme, xma, xun, xta, xkp, xkm, xkj) (nI (pg_L P), nI cap, nI (pg_w P), nI (pg_al P), xP, nI (pg_n P), xF, xB, yco, yjn, yse, ypd, yst, ypc, ysp, yre, xun, yme, xta, yma, ytr))) ∧ (¬ r_24 = 0 → (vp_in ((16 * (nI j)) + v2) 128 ∧ (yme ((16 * (nI j)) + v2).toNatClampNeg = 0 ∧ i_Rel (k + 5) (nI (pg_L P), nI cap, nI (pg_w P), nI (pg_al P), xP, nI (pg_n P), xF, xR, xB, xD, xo, xa, xb, xc, xsu, xpd, xrg, xjn, xst, xpc, xsp, xre, xme, xma, xun, xta, xkp, xkm, xkj) (nI (pg_L P), nI cap, nI (pg_w P), nI (pg_al P), xP, nI (pg_n P), xF, xB, yco, yjn, yse, ypd, yst, ypc, ysp, yre, xun, yme, xta, yma, ytr))))))) (nI (pg_L P), nI cap, nI (pg_w P), nI (pg_al P), xP, nI (pg_n P), xF, xB, yco, yjn, yse, ypd, yst, ypc, ysp, yre, xun, yme, xta, yma, ytr) v2 (nI (pg_w P))))))) (nI (pg_L P), nI cap, nI (pg_w P), nI (pg_al P), xP, nI (pg_n P), xF, xB, yco, yjn, yse, ypd, yst, ypc, ysp, yre, xun, yme, xta, yma, ytr) (nI j) (nI (pg_L P)) :=
        yi_in (by omega) hj (br_f (by decide) (yi_out o (br_t rfl ⟨rfl, rl_in r⟩)))
      refine br_c (fun _ => ans) (fun z => br_f (fun w => ?_) ans)
      exact Int32.not_le.mpr w (o.resolve_left z)
    · subst e
      refine br_f (nI_pos (by omega)) (br_t (nI_lt hq (by omega)) ?_)
      rw [ix_16, iy_16]
      refine ⟨vp_in_nI (by omega) (by omega), yi_in (by omega) hj (br_f (by decide) (yi_in (by omega) hq (br_f (by decide) ⟨vp_in_nI (by omega) (by omega), ?_, rl_in r⟩)))⟩
      rw [nI_clamp (by omega), (hax j hj).2.2.2 q (by omega), (hay j hj).2.2.2 q (by omega)]
theorem i_vc_mates {k : Nat} {u : SX} {v : SY} (I : i_Rel k u v) (hk : k + 5 ≤ 2564) (v1 : Int32) (v2 : Int32) : wpX_mates (fun r => wpY_mates (fun r' => r' = r ∧ i_Rel (k + 5) u v) v v1 v2) u v1 v2 := by
  refine rl_el (Q := fun u v => wpX_mates (fun r => wpY_mates (fun r' => r' = r ∧ i_Rel (k + 5) u v) v v1 v2) u v1 v2) I ?_
  intro P cap c xP xF xR xB xD xo xa xb xc xsu xpd xrg xjn xst xpc xsp xre xme xma xun xta xkp xkm xkj yco yjn yse ypd yst ypc ysp yre yme yma ytr r
  have r' := r
  obtain ⟨⟨hL2, hL, hn, hw4, hw, ha16, hal, hin⟩, ncap, cap32, hx, hy, hph, hse, hax, hay, hc0, hma, h2⟩ := r'
  unfold wpX_mates wpY_mates
  rcases ix_c v1 (n := pg_L P) (by omega) with o | ⟨j, hj, e⟩
  · exact xl_out o (br_t rfl (yi_out o (br_t rfl ⟨rfl, rl_in r⟩)))
  · subst e
    refine xl_in hL hj (br_f (by decide) ?_)
    rcases ix_c v2 (n := pg_n P) hn with o | ⟨q, hq, e⟩
    · exact xi_out o (br_t rfl (yi_in (by omega) hj (br_f (by decide) (yi_out o (br_t rfl ⟨rfl, rl_in r⟩)))))
    · subst e
      refine xi_in hn hq (br_f (by decide) ?_)
      rw [ix_32, iy_32]
      refine ⟨vp_in_nI (by omega) (by omega), yi_in (by omega) hj (br_f (by decide) (yi_in hn hq (br_f (by decide) ⟨vp_in_nI (by omega) (by omega), ?_, rl_in r⟩)))⟩
      rw [nI_clamp (by omega)]
      exact hma j q hj (by omega)
theorem i_vc_joinPoint {k : Nat} {u : SX} {v : SY} (I : i_Rel k u v) (hk : k + 5 ≤ 2564) (v1 : Int32) : wpX_joinPoint (fun r => wpY_joinPoint (fun r' => r' = r ∧ i_Rel (k + 5) u v) v v1) u v1 := by
  refine rl_el (Q := fun u v => wpX_joinPoint (fun r => wpY_joinPoint (fun r' => r' = r ∧ i_Rel (k + 5) u v) v v1) u v1) I ?_
  intro P cap c xP xF xR xB xD xo xa xb xc xsu xpd xrg xjn xst xpc xsp xre xme xma xun xta xkp xkm xkj yco yjn yse ypd yst ypc ysp yre yme yma ytr r
  have r' := r
  obtain ⟨⟨hL2, hL, hn, hw4, hw, ha16, hal, hin⟩, ncap, cap32, hx, hy, hph, hse, hax, hay, hc0, hma, h2⟩ := r'
  unfold wpX_joinPoint wpY_joinPoint
  refine br_c (fun z => br_t z ⟨rfl, rl_in r⟩) (fun z => ?_)
  obtain ⟨se, jx, jy, _⟩ := hse z
  rcases ix_c v1 (n := pg_n P) hn with o | ⟨j, hj, e⟩
  · exact xi_out o (br_t rfl (br_f z (yi_out o (br_t rfl ⟨rfl, rl_in r⟩))))
  · subst e
    refine xi_in hn hj (br_f (by decide) ⟨vp_in_nI (by omega) (by omega), br_f z (yi_in hn hj (br_f (by decide) ⟨vp_in_nI (by omega) (by omega), ?_, rl_in r⟩))⟩)
    rw [nI_clamp (by omega), jx j hj, jy j hj]
theorem i_vc_inRegion {k : Nat} {u : SX} {v : SY} (I : i_Rel k u v) (hk : k + 5 ≤ 2564) (v1 : Int32) (v2 : Int32) : wpX_inRegion (fun r => wpY_inRegion (fun r' v' => r' = r ∧ i_Rel (k + 5) u v') v v1 v2) u v1 v2 := by
  refine rl_el (Q := fun u v => wpX_inRegion (fun r => wpY_inRegion (fun r' v' => r' = r ∧ i_Rel (k + 5) u v') v v1 v2) u v1 v2) I ?_
  intro P cap c xP xF xR xB xD xo xa xb xc xsu xpd xrg xjn xst xpc xsp xre xme xma xun xta xkp xkm xkj yco yjn yse ypd yst ypc ysp yre yme yma ytr r
  have r' := r
  obtain ⟨⟨hL2, hL, hn, hw4, hw, ha16, hal, hin⟩, ncap, cap32, hx, hy, hph, hse, hax, hay, hc0, hma, h2⟩ := r'
  unfold wpX_inRegion
  by_cases z : xP = 0
  · refine br_t z ?_
    unfold wpY_inRegion
    exact br_t z ⟨rfl, rl_in r⟩
  · refine br_f z ?_
    obtain ⟨se, jx, jy, rg⟩ := hse z
    rcases ix_c v1 (n := pg_n P) hn with o | ⟨p, hp, e⟩
    · refine xi_out o (br_t rfl ?_)
      unfold wpY_inRegion
      exact br_f z (yi_out o (br_t rfl ⟨rfl, rl_in r⟩))
    · subst e
      refine xi_in hn hp (br_f (by decide) ?_)
      rcases ix_c v2 (n := pg_n P) hn with o | ⟨q, hq, e⟩
      · refine xi_out o (br_t rfl ?_)
        unfold wpY_inRegion
        exact br_f z (yi_in hn hp (br_f (by decide) (yi_out o (br_t rfl ⟨rfl, rl_in r⟩))))
      · subst e
        have yans : ∀ a : Int32, (∀ s : Int32, (s = 0 ∨ s = 1) → (¬ s = 0 ↔ gr_wk (pg_n P) (pg_E P) p (pg_j P p) q) → s = a) → wpY_inRegion (fun r' v' => r' = a ∧ i_Rel (k + 5) (nI (pg_L P), nI cap, nI (pg_w P), nI (pg_al P), xP, nI (pg_n P), xF, xR, xB, xD, xo, xa, xb, xc, xsu, xpd, xrg, xjn, xst, xpc, xsp, xre, xme, xma, xun, xta, xkp, xkm, xkj) v') (nI (pg_L P), nI cap, nI (pg_w P), nI (pg_al P), xP, nI (pg_n P), xF, xB, yco, yjn, yse, ypd, yst, ypc, ysp, yre, xun, yme, xta, yma, ytr) (nI p) (nI q) := by
          intro a ha
          unfold wpY_inRegion
          refine br_f z (yi_in hn hp (br_f (by decide) (yi_in hn hq (br_f (by decide) ⟨vp_in_nI (by omega) (by omega), ?_⟩))))
          rw [show yjn (nI p).toNatClampNeg = nI (pg_j P p) by rw [nI_clamp (by omega)]; exact jy p hp]
          refine yw_walk hy hn (fun p hp => (hin p hp).1) se.2.1 hp (yw_xn hn (se.2.2.2.1 p hp).1) (fun sn hw => ?_)
          have w := hw.2 q (by omega)
          have b := hw.1 q (by omega)
          refine ⟨vp_in_nI (by omega) (by omega), ?_⟩
          rw [nI_clamp (by omega)]
          exact ⟨yw_b b, ha _ b w, rl_in r⟩
        refine xi_in hn hq (br_f (by decide) ⟨vp_in_nI (by omega) (by omega), ?_⟩)
        rw [nI_clamp (by omega)]
        have bb := rg p hp q (by omega)
        refine br_c (fun w => yans 0 (fun s hs hsw => ?_)) (fun w => yans 1 (fun s hs hsw => ?_))
        · have f := (bl_z (xrg p) (by omega)).mp w
          apply Classical.byContradiction
          intro ns
          have := bb.mpr (hsw.mp ns)
          rw [f] at this
          exact absurd this (by decide)
        · rcases hs with hs | hs
          · exfalso
            apply w
            refine (bl_z (xrg p) (by omega)).mpr ?_
            cases y : bl (xrg p) q
            · rfl
            · exact absurd hs (hsw.mpr (bb.mp y))
          · exact hs
theorem i_vc_field {k : Nat} {u : SX} {v : SY} (I : i_Rel k u v) (hk : k + 5 ≤ 2564) (v1 : Int32) (v2 : Int32) : wpX_field (fun r => wpY_field (fun r' => r' = r ∧ i_Rel (k + 5) u v) v v1 v2) u v1 v2 := by
  refine rl_el (Q := fun u v => wpX_field (fun r => wpY_field (fun r' => r' = r ∧ i_Rel (k + 5) u v) v v1 v2) u v1 v2) I ?_
  intro P cap c xP xF xR xB xD xo xa xb xc xsu xpd xrg xjn xst xpc xsp xre xme xma xun xta xkp xkm xkj yco yjn yse ypd yst ypc ysp yre yme yma ytr r
  have r' := r
  obtain ⟨⟨hL2, hL, hn, hw4, hw, ha16, hal, hin⟩, ncap, cap32, hx, hy, hph, hse, hax, hay, hc0, hma, h2⟩ := r'
  unfold wpX_field
  rcases ix_c v1 (n := pg_n P) hn with o | ⟨p, hp, e⟩
  · refine xi_out o (br_t rfl ?_)
    unfold wpY_field
    exact yi_out o (br_t rfl ⟨rfl, rl_in r⟩)
  · subst e
    refine xi_in hn hp (br_f (by decide) ?_)
    have hv : vp_in (nI p) 32 := vp_in_nI (by omega) (by omega)
    rcases ix_c v2 (n := 4) (by omega) with o | ⟨q, hq, e⟩
    · have ans : wpY_field (fun r' => r' = 0 ∧ i_Rel (k + 5) (nI (pg_L P), nI cap, nI (pg_w P), nI (pg_al P), xP, nI (pg_n P), xF, xR, xB, xD, xo, xa, xb, xc, xsu, xpd, xrg, xjn, xst, xpc, xsp, xre, xme, xma, xun, xta, xkp, xkm, xkj) (nI (pg_L P), nI cap, nI (pg_w P), nI (pg_al P), xP, nI (pg_n P), xF, xB, yco, yjn, yse, ypd, yst, ypc, ysp, yre, xun, yme, xta, yma, ytr)) (nI (pg_L P), nI cap, nI (pg_w P), nI (pg_al P), xP, nI (pg_n P), xF, xB, yco, yjn, yse, ypd, yst, ypc, ysp, yre, xun, yme, xta, yma, ytr) (nI p) v2 := by
        unfold wpY_field
        exact yi_in hn hp (br_f (by decide) (yi_out o (br_t rfl ⟨rfl, rl_in r⟩)))
      refine br_c (fun _ => ans) (fun z => br_t ?_ ans)
      have h4 := o.resolve_left z
      rw [Int32.lt_iff_toInt_lt]
      rw [Int32.le_iff_toInt_le] at h4
      rw [show (nI 4).toInt = 4 by decide] at h4
      rw [show (3 : Int32).toInt = 3 by decide]
      omega
    · subst e
      obtain ⟨f1, f2, f3, f4⟩ := hx p hp
      obtain ⟨g1, g2, g3, g4⟩ := hy p hp
      have yans : ∀ a : Int32, yco (4 * p + q) = a → wpY_field (fun r' => r' = a ∧ i_Rel (k + 5) (nI (pg_L P), nI cap, nI (pg_w P), nI (pg_al P), xP, nI (pg_n P), xF, xR, xB, xD, xo, xa, xb, xc, xsu, xpd, xrg, xjn, xst, xpc, xsp, xre, xme, xma, xun, xta, xkp, xkm, xkj) (nI (pg_L P), nI cap, nI (pg_w P), nI (pg_al P), xP, nI (pg_n P), xF, xB, yco, yjn, yse, ypd, yst, ypc, ysp, yre, xun, yme, xta, yma, ytr)) (nI (pg_L P), nI cap, nI (pg_w P), nI (pg_al P), xP, nI (pg_n P), xF, xB, yco, yjn, yse, ypd, yst, ypc, ysp, yre, xun, yme, xta, yma, ytr) (nI p) (nI q) := by
        intro a ha
        unfold wpY_field
        rw [yw_4, nI_add]
        refine yi_in hn hp (br_f (by decide) (yi_in (n := 4) (by omega) hq (br_f (by decide) ⟨vp_in_nI (by omega) (by omega), ?_, rl_in r⟩)))
        rw [nI_clamp (by omega)]
        exact ha
      rw [nI_clamp (by omega), f1, f2, f3, f4]
      refine br_f (nI_pos (by omega)) (br_f (nI_nlt (a := 3) (by omega) (by omega)) (pk_eq q 0 (fun z => ⟨hv, yans _ ?_⟩) (fun n0 => pk_eq q 1 (fun z => ⟨hv, yans _ ?_⟩) (fun n1 => pk_eq q 2 (fun z => ⟨hv, yans _ ?_⟩) (fun n2 => pk_eq q 3 (fun z => ⟨hv, yans _ ?_⟩) (fun n3 => by omega))))))
      · rw [z]; exact g1
      · rw [z]; exact g2
      · rw [z]; exact g3
      · rw [z]; exact g4
end
section
/-! own rows: the calls that change the state -/
def cv_v (v lo hi : Int32) : Int32 := if lo ≤ v then (if v ≤ hi then v else hi) else lo
theorem cv_n (v : Int32) {a b : Nat} (hab : a ≤ b) (hb : b < 1000) : ∃ j, a ≤ j ∧ j ≤ b ∧ cv_v v (nI a) (nI b) = nI j := by
  unfold cv_v
  by_cases h1 : nI a ≤ v
  · rw [if_pos h1]
    by_cases h2 : v ≤ nI b
    · rw [if_pos h2]
      have h0 : ¬ v < 0 := by
        intro z
        have := Int32.lt_of_le_of_lt h1 z
        exact nI_pos (by omega) this
      obtain ⟨j, hj, e⟩ := nI_of h0
      rw [e] at h1 h2
      exact ⟨j, (nI_leI (by omega) hj).mp h1, (nI_leI hj (by omega)).mp h2, e⟩
    · rw [if_neg h2]; exact ⟨b, hab, Nat.le_refl _, rfl⟩
  · rw [if_neg h1]; exact ⟨a, Nat.le_refl _, hab, rfl⟩
section
variable {xL xC xW xA xP xN xF xR xB xD : Int32} {xo xa xb xc : Nat → Int32} {xsu xpd xrg : Nat → Int64} {xjn xst xpc xsp xre xme xma xun xta xkp xkm xkj : Nat → Int32} {yL yC yW yA yP yN yF yB : Int32} {yco yjn yse ypd yst ypc ysp yre yun yme yta yma ytr : Nat → Int32}
theorem xc_cl {post : Int32 → Prop} {v lo hi : Int32} (h : post (cv_v v lo hi)) : wpX_clamp post (xL, xC, xW, xA, xP, xN, xF, xR, xB, xD, xo, xa, xb, xc, xsu, xpd, xrg, xjn, xst, xpc, xsp, xre, xme, xma, xun, xta, xkp, xkm, xkj) v lo hi := by
  unfold wpX_clamp
  unfold cv_v at h
  refine br_c (fun z => ?_) (fun z => ?_)
  · rw [if_pos z] at h
    refine br_c (fun w => ?_) (fun w => ?_)
    · rw [if_pos w] at h; exact h
    · rw [if_neg w] at h; exact h
  · rw [if_neg z] at h; exact h
theorem yc_cl {post : Int32 → Prop} {v lo hi : Int32} (h : post (cv_v v lo hi)) : wpY_clamp post (yL, yC, yW, yA, yP, yN, yF, yB, yco, yjn, yse, ypd, yst, ypc, ysp, yre, yun, yme, yta, yma, ytr) v lo hi := by
  unfold wpY_clamp
  unfold cv_v at h
  refine br_c (fun z => ?_) (fun z => ?_)
  · rw [if_pos z] at h
    refine br_c (fun w => ?_) (fun w => ?_)
    · rw [if_pos w] at h; exact h
    · rw [if_neg w] at h; exact h
  · rw [if_neg z] at h; exact h
end
def ln_0 : ln_V := (0, 0, 0, fun _ => 0, fun _ => 0, fun _ => 0)
theorem i_vc0 (k0 : Int32) (k1 : Int32) (k2 : Int32) (k3 : Int32) : wpX_init (fun u => wpY_init (fun v => i_Rel 4 u v) k0 k1 k2 k3) k0 k1 k2 k3 := by
  unfold wpX_init
  refine xc_cl (xc_cl (xc_cl (xc_cl ?_)))
  unfold wpY_init
  refine yc_cl (yc_cl (yc_cl (yc_cl ?_)))
  obtain ⟨L, l1, l2, e1⟩ := cv_n k0 (a := 2) (b := 8) (by omega) (by omega)
  obtain ⟨cap, c1, c2, e2⟩ := cv_n k1 (a := 8) (b := 32) (by omega) (by omega)
  obtain ⟨w, w1, w2, e3⟩ := cv_n k2 (a := 4) (b := 16) (by omega) (by omega)
  obtain ⟨al, a1, a2, e4⟩ := cv_n k3 (a := 16) (b := 128) (by omega) (by omega)
  have e1' : cv_v k0 2 8 = nI L := e1
  have e2' : cv_v k1 8 32 = nI cap := e2
  have e3' : cv_v k2 4 16 = nI w := e3
  have e4' : cv_v k3 16 128 = nI al := e4
  rw [e1', e2', e3', e4']
  exact rl_in (P := (0, L, w, al, fun _ => 0, fun _ => 0, fun _ => 0, fun _ => 0, fun _ => 0)) (cap := cap) (c := fun _ => ln_0)
    ⟨⟨l1, l2, Nat.zero_le _, w1, w2, a1, a2, fun p hp => absurd hp (Nat.not_lt_zero _)⟩, Nat.zero_le _, c2, fun p hp => absurd hp (Nat.not_lt_zero _), fun p hp => absurd hp (Nat.not_lt_zero _), Or.inl rfl, fun z => absurd rfl z, fun l _ => ⟨rfl, rfl, fun _ _ => rfl, fun _ _ => rfl⟩, fun l _ => ⟨rfl, rfl, fun _ _ => rfl, fun _ _ => rfl⟩, fun l _ => ⟨rfl, Nat.zero_le _⟩, fun _ _ _ _ => rfl, fun z => absurd z (by decide)⟩
/-! emit -/
def pg_add (P : pg_P) (o a b : Nat) (cc : Int32) : pg_P := (pg_n P + 1, pg_L P, pg_w P, pg_al P, ln_up (pg_o P) (pg_n P) o, ln_up (pg_a P) (pg_n P) a, ln_up (pg_b P) (pg_n P) b, upd (pg_c P) (pg_n P) cc, pg_j P)
theorem fi_1 {k : Nat} {v : Int32} (h : fi_t k v) (hk : k ≤ 2) : ∃ a, a < 8 ∧ (k = 2 → a < 4) ∧ em_v k v = nI a ∧ (k ≠ 0 → v = nI a) := by
  unfold em_v
  by_cases k0 : k = 0
  · rw [if_pos k0]; exact ⟨0, by omega, by omega, rfl, fun z => absurd k0 z⟩
  · rw [if_neg k0]
    by_cases k1 : k = 1
    · have f := h.1 k1
      obtain ⟨j, hj, e⟩ := nI_of f.1
      have h8 := f.2
      rw [e] at h8
      have := mt (nI_leI (a := 8) (b := j) (by omega) hj).mpr h8
      exact ⟨j, by omega, by omega, e, fun _ => e⟩
    · have k2 : k = 2 := by omega
      have f := h.2 k2
      obtain ⟨j, hj, e⟩ := nI_of f.1
      have h4 := f.2
      rw [e] at h4
      have := mt (nI_leI (a := 4) (b := j) (by omega) hj).mpr h4
      exact ⟨j, by omega, by omega, e, fun _ => e⟩
theorem i_vc_emit {k : Nat} {u : SX} {v : SY} (I : i_Rel k u v) (hk : k + 5 ≤ 2564) (v1 : Int32) (v2 : Int32) (v3 : Int32) (v4 : Int32) : wpX_emit (fun r u' => wpY_emit (fun r' v' => r' = r ∧ i_Rel (k + 5) u' v') v v1 v2 v3 v4) u v1 v2 v3 v4 := by
  refine rl_el (Q := fun u v => wpX_emit (fun r u' => wpY_emit (fun r' v' => r' = r ∧ i_Rel (k + 5) u' v') v v1 v2 v3 v4) u v1 v2 v3 v4) I ?_
  intro P cap c xP xF xR xB xD xo xa xb xc xsu xpd xrg xjn xst xpc xsp xre xme xma xun xta xkp xkm xkj yco yjn yse ypd yst ypc ysp yre yme yma ytr r
  have r' := r
  obtain ⟨⟨hL2, hL, hn, hw4, hw, ha16, hal, hin⟩, ncap, cap32, hx, hy, hph, hse, hax, hay, hc0, hma, h2⟩ := r'
  by_cases z : xP = 0
  · subst z
    refine xe_emit cap32 hn (fun a => ?_) (fun a b => ?_) (fun o a b d e => ?_) (fun o a b d e => ?_)
    · exact ye_emit cap32 hn (fun _ => ⟨rfl, rl_in r⟩) (fun w => absurd w a) (fun _ _ _ w => absurd w a) (fun _ _ _ w => absurd w a)
    · refine ye_emit cap32 hn (fun w => absurd a w) (fun _ _ => ⟨rfl, rl_in r⟩) (fun o o1 o2 => ?_) (fun o o1 o2 => ?_)
      · exfalso
        rw [o2] at b
        rcases b with b | b
        · exact nI_pos (by omega) b
        · exact b (nI_le (b := 24) o1 (by omega))
      · exfalso
        rw [o2] at b
        rcases b with b | b
        · exact nI_pos (by omega) b
        · exact b (nI_le (b := 24) o1 (by omega))
    · refine ye_emit cap32 hn (fun w => absurd d w) (fun _ w => ?_) (fun _ _ _ _ _ => ⟨rfl, rl_in r⟩) (fun o' o1 o2 _ f => ?_)
      · exfalso
        rw [b] at w
        rcases w with w | w
        · exact nI_pos (by omega) w
        · exact w (nI_le (b := 24) a (by omega))
      · exfalso
        have : o' = o := (nI_eq (by omega) (by omega)).mp (o2.symm.trans b)
        rw [this] at f
        exact e f
    · refine ye_emit cap32 hn (fun w => absurd d w) (fun _ w => ?_) (fun o' o1 o2 _ f => ?_) (fun o' o1 o2 _ f => ⟨rfl, ?_⟩)
      · exfalso
        rw [b] at w
        rcases w with w | w
        · exact nI_pos (by omega) w
        · exact w (nI_le (b := 24) a (by omega))
      · exfalso
        have : o' = o := (nI_eq (by omega) (by omega)).mp (o2.symm.trans b)
        rw [this] at f
        exact f e
      · have eo : o' = o := (nI_eq (by omega) (by omega)).mp (o2.symm.trans b)
        subst eo
        have ka2 : kd_a o' ≤ 2 := by unfold kd_a; (repeat' split) <;> omega
        have kb2 : kd_b o' ≤ 2 := by unfold kd_b; (repeat' split) <;> omega
        obtain ⟨na, na8, na4, ea, _⟩ := fi_1 e.1 ka2
        obtain ⟨nb, nb8, nb4, eb, _⟩ := fi_1 e.2.1 kb2
        rw [ea, eb]
        have on : ∀ q, q ≠ pg_n P → pg_o (pg_add P o' na nb (em_v (kd_c o') v4)) q = pg_o P q ∧ pg_a (pg_add P o' na nb (em_v (kd_c o') v4)) q = pg_a P q ∧ pg_b (pg_add P o' na nb (em_v (kd_c o') v4)) q = pg_b P q ∧ pg_c (pg_add P o' na nb (em_v (kd_c o') v4)) q = pg_c P q := fun q hq => ⟨if_neg hq, if_neg hq, if_neg hq, if_neg hq⟩
        have oe : pg_o (pg_add P o' na nb (em_v (kd_c o') v4)) (pg_n P) = o' ∧ pg_a (pg_add P o' na nb (em_v (kd_c o') v4)) (pg_n P) = na ∧ pg_b (pg_add P o' na nb (em_v (kd_c o') v4)) (pg_n P) = nb ∧ pg_c (pg_add P o' na nb (em_v (kd_c o') v4)) (pg_n P) = em_v (kd_c o') v4 := ⟨if_pos rfl, if_pos rfl, if_pos rfl, if_pos rfl⟩
        refine rl_in (P := pg_add P o' na nb (em_v (kd_c o') v4)) (c := c) ⟨⟨hL2, hL, ?_, hw4, hw, ha16, hal, ?_⟩, ?_, cap32, ?_, ?_, Or.inl rfl, fun w => absurd rfl w, hax, hay, fun l hl => ⟨(hc0 l hl).1, Nat.le_succ_of_le (hc0 l hl).2⟩, hma, fun w => absurd w (by decide)⟩
        · show pg_n P + 1 ≤ 32
          omega
        · intro q hq
          have hq' : q < pg_n P + 1 := hq
          by_cases eq : q = pg_n P
          · rw [eq]
            unfold pg_in
            rw [oe.1, oe.2.1, oe.2.2.1, oe.2.2.2]
            refine ⟨a, na8, nb8, fun w => na4 ?_, fun w => nb4 ?_, fun w1 w2 => ?_, fun w => ?_⟩
            · unfold kd_a; (repeat' split) <;> omega
            · unfold kd_b; (repeat' split) <;> omega
            · have kc : kd_c o' = 1 := by unfold kd_c; rw [if_pos ⟨w1, w2⟩]
              obtain ⟨nc, nc8, _, ec, _⟩ := fi_1 e.2.2 (by omega)
              exact ⟨nc, nc8, ec⟩
            · have kc : kd_c o' = 2 := by unfold kd_c; (repeat' split) <;> omega
              obtain ⟨nc, nc8, nc4, ec, _⟩ := fi_1 e.2.2 (by omega)
              exact ⟨nc, nc4 kc, ec⟩
          · have := hin q (by omega)
            unfold pg_in at this ⊢
            rw [(on q eq).1, (on q eq).2.1, (on q eq).2.2.1, (on q eq).2.2.2]
            exact this
        · show pg_n P + 1 ≤ cap
          omega
        · intro q hq
          have hq' : q < pg_n P + 1 := hq
          by_cases eq : q = pg_n P
          · rw [eq, oe.1, oe.2.1, oe.2.2.1, oe.2.2.2, pk_us, pk_us, pk_us, pk_us]
            exact ⟨rfl, rfl, rfl, rfl⟩
          · rw [(on q eq).1, (on q eq).2.1, (on q eq).2.2.1, (on q eq).2.2.2, pk_un eq, pk_un eq, pk_un eq, pk_un eq]
            exact hx q (by omega)
        · intro q hq
          have hq' : q < pg_n P + 1 := hq
          by_cases eq : q = pg_n P
          · rw [eq, oe.1, oe.2.1, oe.2.2.1, oe.2.2.2]
            refine ⟨?_, ?_, ?_, ?_⟩
            · rw [pk_un (by omega), pk_un (by omega), pk_un (by omega), pk_us]
            · rw [pk_un (by omega), pk_un (by omega), pk_us]
            · rw [pk_un (by omega), pk_us]
            · rw [pk_us]
          · rw [(on q eq).1, (on q eq).2.1, (on q eq).2.2.1, (on q eq).2.2.2]
            have y := hy q (by omega)
            refine ⟨?_, ?_, ?_, ?_⟩
            · rw [pk_un (by omega), pk_un (by omega), pk_un (by omega), pk_un (by omega)]; exact y.1
            · rw [pk_un (by omega), pk_un (by omega), pk_un (by omega), pk_un (by omega)]; exact y.2.1
            · rw [pk_un (by omega), pk_un (by omega), pk_un (by omega), pk_un (by omega)]; exact y.2.2.1
            · rw [pk_un (by omega), pk_un (by omega), pk_un (by omega), pk_un (by omega)]; exact y.2.2.2
  · unfold wpX_emit
    refine br_f z ?_
    unfold wpY_emit
    exact br_f z ⟨rfl, rl_in r⟩
/-! clear, reopen, launch: all lanes anew -/
def ln_z (st : Int32) (v : ln_V) : ln_V := (st, 0, 0, fun _ => 0, ln_mm v, fun _ => 0)
theorem rl_z {P : pg_P} {c : Nat → ln_V} {g : Nat → Int32} {st pc re me st0 pc0 re0 : Nat → Int32} (hL : pg_L P ≤ 8) (ha : rl_a P c st0 pc0 re0 me) (h1 : ∀ j, j < pg_L P → st j = g j) (h2 : ∀ j, j < 8 → pc j = 0) (h3 : ∀ j, j < 64 → re j = 0) : rl_a P (fun l => ln_z (g l) (c l)) st pc re me := by
  intro l hl
  exact ⟨h1 l hl, h2 l (by omega), fun q hq => h3 _ (by omega), (ha l hl).2.2.2⟩
theorem i_vc_clear {k : Nat} {u : SX} {v : SY} (I : i_Rel k u v) (hk : k + 5 ≤ 2564) : wpX_clear (fun u' => wpY_clear (fun v' => i_Rel (k + 5) u' v') v) u := by
  refine rl_el (Q := fun u v => wpX_clear (fun u' => wpY_clear (fun v' => i_Rel (k + 5) u' v') v) u) I ?_
  intro P cap c xP xF xR xB xD xo xa xb xc xsu xpd xrg xjn xst xpc xsp xre xme xma xun xta xkp xkm xkj yco yjn yse ypd yst ypc ysp yre yme yma ytr r
  obtain ⟨⟨hL2, hL, hn, hw4, hw, ha16, hal, hin⟩, ncap, cap32, hx, hy, hph, hse, hax, hay, hc0, hma, h2⟩ := r
  unfold wpX_clear
  refine xz_reset (fun st pc sp re ma q1 q2 q3 q4 => ?_)
  dsimp only
  unfold wpY_clear
  refine yz_reset (fun st' pc' re' ma' p1 p2 p3 p4 => ?_)
  exact rl_in (P := (0, pg_L P, pg_w P, pg_al P, pg_o P, pg_a P, pg_b P, pg_c P, pg_j P)) (c := fun l => ln_z 0 (c l)) ⟨⟨hL2, hL, Nat.zero_le _, hw4, hw, ha16, hal, fun p hp => absurd hp (Nat.not_lt_zero _)⟩, Nat.zero_le _, cap32, fun p hp => absurd hp (Nat.not_lt_zero _), fun p hp => absurd hp (Nat.not_lt_zero _), Or.inl rfl, fun z => absurd rfl z, rl_z (P := P) (g := fun _ => 0) hL hax (fun j hj => q1 j (by omega)) q2 q3, rl_z (P := P) (g := fun _ => 0) hL hay (fun j hj => p1 j (by omega)) p2 p3, fun l _ => ⟨rfl, Nat.zero_le _⟩, fun l p (hl : l < pg_L P) hp => by rw [q4 _ (by omega), p4 _ (by omega)], fun z => absurd z (by decide)⟩
theorem i_vc_reopen {k : Nat} {u : SX} {v : SY} (I : i_Rel k u v) (hk : k + 5 ≤ 2564) : wpX_reopen (fun r u' => wpY_reopen (fun r' v' => r' = r ∧ i_Rel (k + 5) u' v') v) u := by
  refine rl_el (Q := fun u v => wpX_reopen (fun r u' => wpY_reopen (fun r' v' => r' = r ∧ i_Rel (k + 5) u' v') v) u) I ?_
  intro P cap c xP xF xR xB xD xo xa xb xc xsu xpd xrg xjn xst xpc xsp xre xme xma xun xta xkp xkm xkj yco yjn yse ypd yst ypc ysp yre yme yma ytr r
  have r' := r
  obtain ⟨⟨hL2, hL, hn, hw4, hw, ha16, hal, hin⟩, ncap, cap32, hx, hy, hph, hse, hax, hay, hc0, hma, h2⟩ := r'
  unfold wpX_reopen
  by_cases z : xP = 0
  · refine br_t z ?_
    unfold wpY_reopen
    exact br_t z ⟨rfl, rl_in r⟩
  · refine br_f z ?_
    refine xz_reset (fun st pc sp re ma q1 q2 q3 q4 => ?_)
    dsimp only
    unfold wpY_reopen
    refine br_f z ?_
    refine yz_reset (fun st' pc' re' ma' p1 p2 p3 p4 => ⟨rfl, ?_⟩)
    exact rl_in (P := P) (c := fun l => ln_z 0 (c l)) ⟨⟨hL2, hL, hn, hw4, hw, ha16, hal, hin⟩, ncap, cap32, hx, hy, Or.inl rfl, fun z => absurd rfl z, rl_z (g := fun _ => 0) hL hax (fun j hj => q1 j (by omega)) q2 q3, rl_z (g := fun _ => 0) hL hay (fun j hj => p1 j (by omega)) p2 p3, fun l _ => ⟨rfl, Nat.zero_le _⟩, fun l p hl hp => by rw [q4 _ (by omega), p4 _ (by omega)], fun z => absurd z (by decide)⟩
theorem i_vc_launch {k : Nat} {u : SX} {v : SY} (I : i_Rel k u v) (hk : k + 5 ≤ 2564) (v1 : Int32) : wpX_launch (fun r u' => wpY_launch (fun r' v' => r' = r ∧ i_Rel (k + 5) u' v') v v1) u v1 := by
  refine rl_el (Q := fun u v => wpX_launch (fun r u' => wpY_launch (fun r' v' => r' = r ∧ i_Rel (k + 5) u' v') v v1) u v1) I ?_
  intro P cap c xP xF xR xB xD xo xa xb xc xsu xpd xrg xjn xst xpc xsp xre xme xma xun xta xkp xkm xkj yco yjn yse ypd yst ypc ysp yre yme yma ytr r
  have r' := r
  obtain ⟨⟨hL2, hL, hn, hw4, hw, ha16, hal, hin⟩, ncap, cap32, hx, hy, hph, hse, hax, hay, hc0, hma, h2⟩ := r'
  by_cases z : xP = 0
  · unfold wpX_launch
    refine br_t z ?_
    unfold wpY_launch
    exact br_t z ⟨rfl, rl_in r⟩
  · have se := hse z
    refine xz_launch hL z (fun m0 => ?_) (fun m0 st pc sp re ma q1 q2 q3 q4 => ?_)
    · exact yz_launch hL z (fun _ => ⟨rfl, rl_in r⟩) (fun w => absurd m0 w)
    · refine yz_launch hL z (fun w => absurd w m0) (fun _ st' pc' re' ma' p1 p2 p3 p4 => ⟨rfl, ?_⟩)
      refine rl_in (P := P) (c := fun l => ln_z (if bt (v1 &&& (((1 : Int32) <<< (nI (pg_L P) &&& 31)) - 1)) l = true then 1 else 0) (c l)) ⟨⟨hL2, hL, hn, hw4, hw, ha16, hal, hin⟩, ncap, cap32, hx, hy, Or.inr (Or.inr (Or.inl rfl)), fun _ => se, rl_z (g := fun l => if bt (v1 &&& (((1 : Int32) <<< (nI (pg_L P) &&& 31)) - 1)) l = true then 1 else 0) hL hax q1 q2 q3, rl_z (g := fun l => if bt (v1 &&& (((1 : Int32) <<< (nI (pg_L P) &&& 31)) - 1)) l = true then 1 else 0) hL hay p1 p2 p3, fun l _ => ⟨rfl, Nat.zero_le _⟩, fun l p hl hp => by rw [q4 _ (by omega), p4 _ (by omega)], fun _ => ⟨fun l hl => ?_, 0, se.1.1, fun l _ _ => rfl⟩⟩
      have bits : bt (v1 &&& (((1 : Int32) <<< (nI (pg_L P) &&& 31)) - 1)) l = true → l < pg_L P := by
        intro b
        rw [b_and, bi_all (pg_L P) (by omega) l hl] at b
        simp only [Bool.and_eq_true, decide_eq_true_eq] at b
        exact b.2
      constructor
      · intro b
        refine ⟨bits b, ?_⟩
        show (if _ then (1 : Int32) else 0) = 1
        rw [if_pos b]
      · intro b
        have s : (if bt (v1 &&& (((1 : Int32) <<< (nI (pg_L P) &&& 31)) - 1)) l = true then (1 : Int32) else 0) = 1 := b.2
        apply Classical.byContradiction
        intro w
        rw [if_neg w] at s
        exact absurd s (by decide)
/-! seal -/
theorem i_vc_seal {k : Nat} {u : SX} {v : SY} (I : i_Rel k u v) (hk : k + 5 ≤ 2564) : wpX_seal (fun r u' => wpY_seal (fun r' v' => r' = r ∧ i_Rel (k + 5) u' v') v) u := by
  refine rl_el (Q := fun u v => wpX_seal (fun r u' => wpY_seal (fun r' v' => r' = r ∧ i_Rel (k + 5) u' v') v) u) I ?_
  intro P cap c xP xF xR xB xD xo xa xb xc xsu xpd xrg xjn xst xpc xsp xre xme xma xun xta xkp xkm xkj yco yjn yse ypd yst ypc ysp yre yme yma ytr r
  have r' := r
  obtain ⟨hok, ncap, cap32, hx, hy, hph, hse, hax, hay, hc0, hma, h2⟩ := r'
  have hok' := hok
  obtain ⟨hL2, hL, hn, hw4, hw, ha16, hal, hin⟩ := hok'
  have ho : ∀ p, p < pg_n P → pg_o P p ≤ 24 := fun p hp => (hin p hp).1
  by_cases z : xP = 0
  · subst z
    rcases Nat.eq_zero_or_pos (pg_n P) with n0 | n1
    · exact xq_0 n0 (yq_0 n0 ⟨rfl, rl_in r⟩)
    by_cases bad : ∃ p, p < pg_n P ∧ bd_t P p
    · obtain ⟨e, he, hm⟩ := pk_least _ bad
      exact xq_1 hx hn ho he.1 he.2 (fun p hp w => hm p hp ⟨by omega, w⟩) (yq_1 hy hn ho he.1 he.2 (fun p hp w => hm p hp ⟨by omega, w⟩) ⟨rfl, rl_in r⟩)
    have nb : ∀ p, p < pg_n P → ¬ bd_t P p := fun p hp w => bad ⟨p, hp, w⟩
    have htk := px_tok hn nb
    by_cases dead : ∃ p, p < pg_n P ∧ ¬ rx_R P p
    · obtain ⟨e, he, hm⟩ := pk_least _ dead
      have hno : ∀ p, p < e → rx_R P p := fun p hp => Classical.byContradiction fun w => hm p hp ⟨by omega, w⟩
      exact xq_2 hx hn ho nb he.1 he.2 hno (fun su => yq_2 hy hn ho nb he.1 he.2 hno (fun se => ⟨rfl, rl_in r⟩))
    have hR : ∀ p, p < pg_n P → rx_R P p := fun p hp => Classical.byContradiction fun w => dead ⟨p, hp, w⟩
    obtain ⟨J, hJ⟩ := pg_exJ htk hR
    by_cases part : ∃ p, p < pg_n P ∧ bd_s (pg_sj P J) p
    · obtain ⟨e, he, hm⟩ := pk_least _ part
      have hno : ∀ p, p < e → ¬ bd_s (pg_sj P J) p := fun p hp w => hm p hp ⟨by omega, w⟩
      exact xq_3 (P := pg_sj P J) hx n1 hn ho nb hR hJ (e := e) (Nat.le_of_lt he.1) hno (fun w => absurd w (Nat.ne_of_lt he.1)) (fun _ => ⟨he.2, fun su pd jn rg => yq_3 (P := pg_sj P J) hy n1 hn ho nb hR hJ (e := e) (Nat.le_of_lt he.1) hno (fun w => absurd w (Nat.ne_of_lt he.1)) (fun _ => ⟨he.2, fun se pd jn => ⟨rfl, rl_in (P := P) (c := c) ⟨hok, ncap, cap32, hx, hy, Or.inl rfl, fun w => absurd rfl w, hax, hay, hc0, hma, fun w => absurd w (by decide)⟩⟩⟩)⟩)
    · have hno : ∀ p, p < pg_n P → ¬ bd_s (pg_sj P J) p := fun p hp w => part ⟨p, hp, w⟩
      refine xq_3 (P := pg_sj P J) hx n1 hn ho nb hR hJ (e := pg_n P) (Nat.le_refl _) hno (fun _ su pd jn rg x1 x2 => ?_) (fun w => absurd w (Nat.lt_irrefl _))
      refine yq_3 (P := pg_sj P J) hy n1 hn ho nb hR hJ (e := pg_n P) (Nat.le_refl _) hno (fun _ se pd jn y1 => ⟨rfl, ?_⟩) (fun w => absurd w (Nat.lt_irrefl _))
      refine rl_in (P := pg_sj P J) (c := c) ⟨hok, ncap, cap32, hx, hy, Or.inr (Or.inl rfl), fun _ => ⟨⟨n1, htk, hR, hJ, fun p q hp hq h1 h2 h3 => ?_⟩, x1, y1, x2⟩, hax, hay, hc0, hma, fun w => absurd w (by decide)⟩
      exact hno q hq ⟨h2, p, hp, h1, h3⟩
  · unfold wpX_seal
    refine br_f z ?_
    unfold wpY_seal
    exact br_f z ⟨rfl, rl_in r⟩
/-! run -/
def ln_r0 (v : ln_V) : ln_V := (v.1, v.2.1, 0, v.2.2.2.1, v.2.2.2.2.1, fun _ => 0)
theorem iv_Meq {P : pg_P} {F : Nat → ln_V} {s : Nat → Nat} {m1 m2 n1 n2 : Nat → Int32} (h1 : iv_M P F s m1 n1) (h2 : iv_M P F s m2 n2) (e : ∀ l p, l < pg_L P → p < 32 → n2 (32 * l + p) = n1 (32 * l + p)) : ∀ l p, l < pg_L P → p < 32 → m2 (32 * l + p) = m1 (32 * l + p) := by
  intro l p hl hp
  have a := h1 l p hl hp
  have b := h2 l p hl hp
  by_cases z : mt_in (F l) (s l) p
  · apply b_ext
    intro i hi
    have x := a.1 z i hi
    have y := b.1 z i hi
    cases w : bt (m1 (32 * l + p)) i
    · cases q : bt (m2 (32 * l + p)) i
      · rfl
      · rw [x.mpr (y.mp q)] at w; exact absurd w (by decide)
    · exact y.mpr (x.mp w)
  · rw [a.2 z, b.2 z]; exact e l p hl hp
theorem i_vc_run {k : Nat} {u : SX} {v : SY} (I : i_Rel k u v) (hk : k + 5 ≤ 2564) : wpX_run (fun r u' => wpY_run (fun r' v' => r' = r ∧ i_Rel (k + 5) u' v') v) u := by
  refine rl_el (Q := fun u v => wpX_run (fun r u' => wpY_run (fun r' v' => r' = r ∧ i_Rel (k + 5) u' v') v) u) I ?_
  intro P cap c xP xF xR xB xD xo xa xb xc xsu xpd xrg xjn xst xpc xsp xre xme xma xun xta xkp xkm xkj yco yjn yse ypd yst ypc ysp yre yme yma ytr r
  have r' := r
  obtain ⟨hok, ncap, cap32, hx, hy, hph, hse, hax, hay, hc0, hma, h2⟩ := r'
  by_cases z : xP = 2
  · subst z
    obtain ⟨se, jx, jy, rg⟩ := hse (by decide)
    obtain ⟨hrb, s, hsn, hs⟩ := h2 rfl
    have hG : xi_G P c := fun l hl => ⟨(hc0 l hl).2, fun w => by rw [hs l hl w]; exact hsn, by rw [(hc0 l hl).1]; exact Nat.zero_le _, fun i hi => by rw [(hc0 l hl).1] at hi; omega⟩
    obtain ⟨F, hF⟩ := rn_exF P xta 130 c xun xB
    have hL := hok.2.1
    refine xn_run hok se hx jx hax hrb (fun l hl => (hc0 l hl).1) hG hsn hs hF (fun R st pc sp re me ma kp km kj f1 f2 f3 f4 f5 ph hp => ?_)
    refine yn_run hok se hy jy hay (fun l hl => (hc0 l hl).1) hG ⟨s, hs⟩ hF (fun st' pc' sp' re' me' tr' ma' g1 g2 ph' hp' => ?_)
    have eph : ph' = ph := by
      rcases hp with ⟨a1, a2⟩ | ⟨a1, a2⟩ <;> rcases hp' with ⟨b1, b2⟩ | ⟨⟨l, hl, b1⟩, b2⟩
      · rw [a2, b2]
      · exfalso
        have := (f2 l (by omega)).mpr ⟨hl, b1⟩
        rw [a1, b_0] at this
        exact absurd this (by decide)
      · exfalso
        obtain ⟨i, hi, hb⟩ := bi_ne a1
        have := (f2 i hi).mp hb
        exact b1 i this.1 this.2
      · rw [a2, b2]
    subst eph
    refine ⟨rfl, ?_⟩
    obtain ⟨s', hs1, hs2⟩ := f5
    refine rl_in (P := P) (c := fun l => ln_r0 (F.1 l)) ⟨hok, ncap, cap32, hx, hy, ?_, fun _ => ⟨se, jx, jy, rg⟩, f1, g1, fun l hl => ⟨rfl, (f4 l hl).1⟩, iv_Meq f3 g2 hma, fun _ => ⟨f2, s', hs1, hs2⟩⟩
    rcases hp with a | a
    · exact Or.inr (Or.inr (Or.inr a.2))
    · exact Or.inr (Or.inr (Or.inl a.2))
  · unfold wpX_run
    refine br_f z ?_
    unfold wpY_run
    exact br_f z ⟨rfl, rl_in r⟩
/-! pokes -/
theorem i_vc_pokeMem {k : Nat} {u : SX} {v : SY} (I : i_Rel k u v) (hk : k + 5 ≤ 2564) (v1 : Int32) (v2 : Int32) (v3 : Int32) : wpX_pokeMem (fun r u' => wpY_pokeMem (fun r' v' => r' = r ∧ i_Rel (k + 5) u' v') v v1 v2 v3) u v1 v2 v3 := by
  refine rl_el (Q := fun u v => wpX_pokeMem (fun r u' => wpY_pokeMem (fun r' v' => r' = r ∧ i_Rel (k + 5) u' v') v v1 v2 v3) u v1 v2 v3) I ?_
  intro P cap c xP xF xR xB xD xo xa xb xc xsu xpd xrg xjn xst xpc xsp xre xme xma xun xta xkp xkm xkj yco yjn yse ypd yst ypc ysp yre yme yma ytr r
  have r' := r
  obtain ⟨⟨hL2, hL, hn, hw4, hw, ha16, hal, hin⟩, ncap, cap32, hx, hy, hph, hse, hax, hay, hc0, hma, h2⟩ := r'
  unfold wpX_pokeMem
  rcases ix_c v1 (n := pg_L P) (by omega) with o | ⟨l, hl, e⟩
  · refine xl_out o (br_t rfl ?_)
    unfold wpY_pokeMem
    exact yi_out o (br_t rfl ⟨rfl, rl_in r⟩)
  · subst e
    refine xl_in hL hl (br_f (by decide) ?_)
    rcases ix_c v2 (n := pg_w P) (by omega) with o | ⟨q, hq, e⟩
    · have ans : wpY_pokeMem (fun r' v' => r' = -9 ∧ i_Rel (k + 5) (nI (pg_L P), nI cap, nI (pg_w P), nI (pg_al P), xP, nI (pg_n P), xF, xR, xB, xD, xo, xa, xb, xc, xsu, xpd, xrg, xjn, xst, xpc, xsp, xre, xme, xma, xun, xta, xkp, xkm, xkj) v') (nI (pg_L P), nI cap, nI (pg_w P), nI (pg_al P), xP, nI (pg_n P), xF, xB, yco, yjn, yse, ypd, yst, ypc, ysp, yre, xun, yme, xta, yma, ytr) (nI l) v2 v3 := by
        unfold wpY_pokeMem
        exact yi_in (by omega) hl (br_f (by decide) (yi_out o (br_t rfl ⟨rfl, rl_in r⟩)))
      refine br_c (fun _ => ans) (fun z => br_f (fun w => ?_) ans)
      exact Int32.not_le.mpr w (o.resolve_left z)
    · subst e
      refine br_f (nI_pos (by omega)) (br_t (nI_lt hq (by omega)) ?_)
      rw [ix_16, nI_clamp (by omega)]
      refine ⟨vp_in_nI (by omega) (by omega), nm_e ?_⟩
      unfold wpY_pokeMem
      refine yi_in (by omega) hl (br_f (by decide) (yi_in (by omega) hq (br_f (by decide) ?_)))
      rw [iy_16, nI_clamp (by omega)]
      refine ⟨vp_in_nI (by omega) (by omega), nm_e ⟨rfl, ?_⟩⟩
      have keep : ∀ i, ln_st (cs_set c l ((c l).1, (c l).2.1, (c l).2.2.1, (c l).2.2.2.1, upd (ln_mm (c l)) q v3, (c l).2.2.2.2.2) i) = ln_st (c i) ∧ ln_pc (cs_set c l ((c l).1, (c l).2.1, (c l).2.2.1, (c l).2.2.2.1, upd (ln_mm (c l)) q v3, (c l).2.2.2.2.2) i) = ln_pc (c i) ∧ ln_sp (cs_set c l ((c l).1, (c l).2.1, (c l).2.2.1, (c l).2.2.2.1, upd (ln_mm (c l)) q v3, (c l).2.2.2.2.2) i) = ln_sp (c i) := by
        intro i
        by_cases e : i = l
        · rw [e, cs_at]; exact ⟨rfl, rfl, rfl⟩
        · rw [cs_ne e]; exact ⟨rfl, rfl, rfl⟩
      refine rl_in (P := P) ⟨⟨hL2, hL, hn, hw4, hw, ha16, hal, hin⟩, ncap, cap32, hx, hy, hph, hse, rl_me (i := l) hax (by omega) v3, rl_me (i := l) hay (by omega) v3, fun i hi => ?_, hma, fun w => ?_⟩
      · rw [(keep i).2.1, (keep i).2.2]; exact hc0 i hi
      · obtain ⟨b1, s, b2, b3⟩ := h2 w
        refine ⟨rb_keep b1 rfl, s, b2, fun i hi y => ?_⟩
        rw [(keep i).1] at y
        rw [(keep i).2.1]
        exact b3 i hi y
theorem i_vc_pokeTable {k : Nat} {u : SX} {v : SY} (I : i_Rel k u v) (hk : k + 5 ≤ 2564) (v1 : Int32) (v2 : Int32) : wpX_pokeTable (fun r u' => wpY_pokeTable (fun r' v' => r' = r ∧ i_Rel (k + 5) u' v') v v1 v2) u v1 v2 := by
  refine rl_el (Q := fun u v => wpX_pokeTable (fun r u' => wpY_pokeTable (fun r' v' => r' = r ∧ i_Rel (k + 5) u' v') v v1 v2) u v1 v2) I ?_
  intro P cap c xP xF xR xB xD xo xa xb xc xsu xpd xrg xjn xst xpc xsp xre xme xma xun xta xkp xkm xkj yco yjn yse ypd yst ypc ysp yre yme yma ytr r
  unfold wpX_pokeTable
  rcases ix_c v1 (n := 16) (by omega) with o | ⟨q, hq, e⟩
  · have ans : wpY_pokeTable (fun r' v' => r' = -9 ∧ i_Rel (k + 5) (nI (pg_L P), nI cap, nI (pg_w P), nI (pg_al P), xP, nI (pg_n P), xF, xR, xB, xD, xo, xa, xb, xc, xsu, xpd, xrg, xjn, xst, xpc, xsp, xre, xme, xma, xun, xta, xkp, xkm, xkj) v') (nI (pg_L P), nI cap, nI (pg_w P), nI (pg_al P), xP, nI (pg_n P), xF, xB, yco, yjn, yse, ypd, yst, ypc, ysp, yre, xun, yme, xta, yma, ytr) v1 v2 := by
      unfold wpY_pokeTable
      exact yi_out o (br_t rfl ⟨rfl, rl_in r⟩)
    refine br_c (fun _ => ans) (fun z => br_f (fun w => ?_) ans)
    exact Int32.not_le.mpr w (o.resolve_left z)
  · subst e
    refine br_f (nI_pos (by omega)) (br_t (nI_lt (b := 16) hq (by omega)) ⟨vp_in_nI hq (by omega), nm_e ?_⟩)
    unfold wpY_pokeTable
    exact yi_in (n := 16) (by omega) hq (br_f (by decide) ⟨vp_in_nI hq (by omega), nm_e ⟨rfl, rl_in r⟩⟩)
end
