section
/-! pure rows to paste: stores, nI and lN arithmetic, masks, shifts, narrowing, branches by naturals (pk_le, pk_lt, pk_eq), loops (lp1 .. lp16: the measure of the state; rp1 ..: recursion), negatives. Take what you need -/
theorem pk_us {f : Nat → Int32} {k : Nat} {x : Int32} : upd f k x k = x := if_pos rfl
theorem pk_un {f : Nat → Int32} {k j : Nat} {x : Int32} (h : j ≠ k) : upd f k x j = f j := if_neg h
theorem pk_uLs {f : Nat → Int64} {k : Nat} {x : Int64} : vp_updL f k x k = x := if_pos rfl
theorem pk_uLn {f : Nat → Int64} {k j : Nat} {x : Int64} (h : j ≠ k) : vp_updL f k x j = f j := if_neg h
theorem pk_sub {a b : Nat} (h : b ≤ a) : nI a - nI b = nI (a - b) := by
  obtain ⟨c, rfl⟩ : ∃ c, a = c + b := ⟨a - b, by omega⟩
  rw [← nI_add, Int32.add_sub_cancel, Nat.add_sub_cancel]
theorem pk_m1 (n : Nat) : nI (n + 1) + (-1) = nI n := by
  rw [← nI_1, Int32.add_assoc, show (1 : Int32) + (-1) = 0 from rfl, Int32.add_zero]
theorem pk_mul (a b : Nat) : nI a * nI b = nI (a * b) := (Int32.ofNat_mul a b).symm
theorem pk_div {a d : Nat} (ha : a < 2 ^ 31) (h0 : 0 < d) (hd : d < 2 ^ 31) : nI a / nI d = nI (a / d) := by
  apply Int32.toInt_inj.mp
  rw [lg_idiv_nonneg (by rw [nI_toInt ha]; omega) (by rw [nI_toInt hd]; omega), nI_toInt ha, nI_toInt hd, nI_toInt (Nat.lt_of_le_of_lt (Nat.div_le_self a d) ha)]
  first | rfl | exact (Int.natCast_ediv _ _).symm
theorem pk_rem {a d : Nat} (ha : a < 2 ^ 31) (h0 : 0 < d) (hd : d < 2 ^ 31) : nI a - nI a / nI d * nI d = nI (a % d) := by
  rw [pk_div ha h0 hd, pk_mul, pk_sub (Nat.div_mul_le_self a d)]
  exact congrArg nI (by have := Nat.div_add_mod' a d; omega)
theorem pk_sub_toInt {a b : Nat} (ha : a < 2 ^ 30) (hb : b < 2 ^ 30) : (nI a - nI b).toInt = (a : Int) - b := by
  rw [Int32.toInt_sub, nI_toInt (by omega), nI_toInt (by omega)]
  exact Int.bmod_eq_of_le (by omega) (by omega)
theorem pk_sneg {a b : Nat} (hb : b < 2 ^ 30) (h : a < b) : nI a - nI b < 0 := by
  rw [Int32.lt_iff_toInt_lt, pk_sub_toInt (by omega) hb, show (0 : Int32).toInt = 0 from by decide]
  omega
theorem pk_ix (x : Int32) {n : Nat} (hn : n < 2 ^ 31) : x < 0 ∨ nI n ≤ x ∨ ∃ j : Nat, j < n ∧ x = nI j := by
  by_cases h : x < 0
  · exact Or.inl h
  · obtain ⟨j, hj, rfl⟩ := nI_of h
    by_cases h2 : j < n
    · exact Or.inr (Or.inr ⟨j, h2, rfl⟩)
    · exact Or.inr (Or.inl (nI_le (by omega) hj))
theorem pk_le {x y : Int32} {A B : Prop} (a b : Nat) (f : a ≤ b → A) (g : b < a → B) (hx : x = nI a := by rfl) (hy : y = nI b := by rfl) (ha : a < 2 ^ 31 := by omega) (hb : b < 2 ^ 31 := by omega) : (x ≤ y → A) ∧ (¬ x ≤ y → B) := by
  subst hx hy
  rw [nI_leI ha hb]
  exact ⟨f, fun z => g (by omega)⟩
theorem pk_lt {x y : Int32} {A B : Prop} (a b : Nat) (f : a < b → A) (g : b ≤ a → B) (hx : x = nI a := by rfl) (hy : y = nI b := by rfl) (ha : a < 2 ^ 31 := by omega) (hb : b < 2 ^ 31 := by omega) : (x < y → A) ∧ (¬ x < y → B) := by
  subst hx hy
  rw [nI_ltI ha hb]
  exact ⟨f, fun z => g (by omega)⟩
theorem pk_eq {x y : Int32} {A B : Prop} (a b : Nat) (f : a = b → A) (g : a ≠ b → B) (hx : x = nI a := by rfl) (hy : y = nI b := by rfl) (ha : a < 2 ^ 31 := by omega) (hb : b < 2 ^ 31 := by omega) : (x = y → A) ∧ (¬ x = y → B) := by
  subst hx hy
  rw [nI_eq ha hb]
  exact ⟨f, g⟩
theorem pk_in {x : Int32} (n N : Nat) (h : n < N) (hx : x = nI n := by rfl) (hN : N < 2 ^ 31 := by omega) : vp_in x N := by
  subst hx
  exact vp_in_nI h hN
theorem pk_cl {x : Int32} (n : Nat) (hx : x = nI n := by rfl) (h : n < 2 ^ 31 := by omega) : x.toNatClampNeg = n := by
  subst hx
  exact nI_clamp h
theorem pk_tn {n : Nat} (h : n < 2 ^ 32) : (nI n).toBitVec.toNat = n := Nat.mod_eq_of_lt h
theorem pk_and (x : Int32) {m : Int32} (k : Nat) (hm : m.toBitVec.toNat = 2 ^ k - 1) : x &&& m = nI (x.toBitVec.toNat % 2 ^ k) := by
  apply Int32.toBitVec_inj.mp
  apply BitVec.eq_of_toNat_eq
  rw [Int32.toBitVec_and, BitVec.toNat_and, hm, Nat.and_two_pow_sub_one_eq_mod]
  show _ = (BitVec.ofNat 32 _).toNat
  rw [BitVec.toNat_ofNat]
  exact (Nat.mod_eq_of_lt (Nat.lt_of_le_of_lt (Nat.mod_le _ _) x.toBitVec.isLt)).symm
theorem pk_andN {n : Nat} (h : n < 2 ^ 32) {m : Int32} (k : Nat) (hm : m.toBitVec.toNat = 2 ^ k - 1) : nI n &&& m = nI (n % 2 ^ k) := by
  rw [pk_and _ k hm, pk_tn h]
theorem pk_andE (x : Int32) {m : Int32} (k : Nat) (hm : m.toBitVec.toNat = 2 ^ k - 1) : ∃ j : Nat, j < 2 ^ k ∧ x &&& m = nI j := ⟨_, Nat.mod_lt _ (Nat.two_pow_pos k), pk_and x k hm⟩
theorem pk_andIn (x : Int32) {m : Int32} (k : Nat) (hm : m.toBitVec.toNat = 2 ^ k - 1) (hk : k ≤ 30) : vp_in (x &&& m) (2 ^ k) := by
  obtain ⟨j, hj, e⟩ := pk_andE x k hm
  rw [e]
  exact vp_in_nI hj (Nat.lt_of_le_of_lt (Nat.pow_le_pow_right (by decide) hk) (by decide))
theorem pk_shl (a s : Int32) (k : Nat) (hs : (s.toBitVec.smod 32).toNat = k) : (a <<< s).toBitVec.toNat = a.toBitVec.toNat * 2 ^ k % 2 ^ 32 := by
  show (a.toBitVec <<< (s.toBitVec.smod 32).toNat).toNat = _
  rw [hs, BitVec.toNat_shiftLeft, Nat.shiftLeft_eq]
theorem pk_shlN {n : Nat} (s : Int32) (k : Nat) (hs : (s.toBitVec.smod 32).toNat = k) (h : n * 2 ^ k < 2 ^ 32) : nI n <<< s = nI (n * 2 ^ k) := by
  apply Int32.toBitVec_inj.mp
  apply BitVec.eq_of_toNat_eq
  have hn : n < 2 ^ 32 := Nat.lt_of_le_of_lt (Nat.le_mul_of_pos_right n (Nat.two_pow_pos k)) h
  rw [pk_shl _ _ k hs, pk_tn hn, pk_tn h, Nat.mod_eq_of_lt h]
theorem pk_shr (a s : Int32) (k : Nat) (hs : (s.toBitVec.smod 32).toNat = k) : (a >>> s).toInt = a.toInt >>> k := by
  show (a.toBitVec.sshiftRight (s.toBitVec.smod 32).toNat).toInt = _
  rw [hs, BitVec.toInt_sshiftRight]
  rfl
theorem pk_shrN {n : Nat} (h : n < 2 ^ 31) (s : Int32) (k : Nat) (hs : (s.toBitVec.smod 32).toNat = k) : nI n >>> s = nI (n / 2 ^ k) := by
  apply Int32.toInt_inj.mp
  have h2 : n / 2 ^ k ≤ n := Nat.div_le_self _ _
  rw [pk_shr _ _ k hs, nI_toInt h, nI_toInt (by omega), Int.shiftRight_eq_div_pow]
  rfl
theorem pk_ushr (x s : Int32) (k : Nat) (hs : ((s.toUInt32 &&& Int32.toUInt32 31).toBitVec % 32).toNat = k) : (x.toUInt32 >>> (s.toUInt32 &&& Int32.toUInt32 31)).toInt32.toBitVec.toNat = x.toBitVec.toNat / 2 ^ k := by
  have e : (x.toUInt32 >>> (s.toUInt32 &&& Int32.toUInt32 31)).toInt32.toBitVec = x.toBitVec >>> k := by
    rw [← hs]
    exact UInt32.toBitVec_shiftRight _ _
  rw [e, BitVec.toNat_ushiftRight, Nat.shiftRight_eq_div_pow]
theorem pk_ushrN {n : Nat} (hn : n < 2 ^ 32) (s : Int32) (k : Nat) (hs : ((s.toUInt32 &&& Int32.toUInt32 31).toBitVec % 32).toNat = k) : ((nI n).toUInt32 >>> (s.toUInt32 &&& Int32.toUInt32 31)).toInt32 = nI (n / 2 ^ k) := by
  apply Int32.toBitVec_inj.mp
  apply BitVec.eq_of_toNat_eq
  rw [pk_ushr _ s k hs, pk_tn hn, pk_tn (Nat.lt_of_le_of_lt (Nat.div_le_self _ _) hn)]
theorem pk_nb (z : Int32) : narrow .byte (.int z.toInt8.toInt32) = .int z.toInt8.toInt32 := congrArg Value.int (by simp)
theorem pk_ns (z : Int32) : narrow .short (.int z.toInt16.toInt32) = .int z.toInt16.toInt32 := congrArg Value.int (by simp)
theorem pk_fb (r : Int32) : fits .byte (.int r.toInt8.toInt32) = true := by
  have ⟨a, b⟩ := lg_i2b_range r
  have h1 : (-128 : Int32).toInt = -128 := by decide
  have h2 : (127 : Int32).toInt = 127 := by decide
  simp only [fits, Bool.and_eq_true, decide_eq_true_eq, Int32.le_iff_toInt_le, h1, h2]
  omega
theorem pk_fs (r : Int32) : fits .short (.int r.toInt16.toInt32) = true := by
  have ⟨a, b⟩ := lg_i2s_range r
  have h1 : (-32768 : Int32).toInt = -32768 := by decide
  have h2 : (32767 : Int32).toInt = 32767 := by decide
  simp only [fits, Bool.and_eq_true, decide_eq_true_eq, Int32.le_iff_toInt_le, h1, h2]
  omega
theorem pk_charN {q : Nat} (hq : q < 65536) : narrow .char (.int (nI q)) = .int (nI q) ∧ fits .char (.int (nI q)) = true := by
  constructor
  · have e : (nI q).toUInt32.toUInt16.toUInt32.toInt32 = nI q := by
      apply Int32.toBitVec_inj.mp
      apply BitVec.eq_of_toNat_eq
      show (nI q).toUInt32.toUInt16.toUInt32.toNat = q % 2 ^ 32
      rw [UInt16.toNat_toUInt32, UInt32.toNat_toUInt16, show (nI q).toUInt32.toNat = q % 2 ^ 32 from rfl]
      omega
    exact congrArg Value.int e
  · have a : (0 : Int32) ≤ nI q := nI_pos' (by omega)
    have b : nI q ≤ 65535 := nI_le (b := 65535) (by omega) (by decide)
    show (decide ((0 : Int32) ≤ nI q) && decide (nI q ≤ 65535)) = true
    rw [decide_eq_true a, decide_eq_true b]
    rfl
theorem pk_char (x : Int32) : (x.toUInt32 % 65536).toInt32 = nI (x.toBitVec.toNat % 65536) := by
  apply Int32.toBitVec_inj.mp
  apply BitVec.eq_of_toNat_eq
  rw [pk_tn (by omega)]
  show (x.toUInt32 % 65536).toNat = _
  rw [UInt32.toNat_mod]
  rfl
theorem pk_nc (x : Int32) : narrow .char (.int (x.toUInt32 % 65536).toInt32) = .int (x.toUInt32 % 65536).toInt32 := by
  rw [pk_char]
  exact (pk_charN (Nat.mod_lt _ (by decide))).1
theorem pk_fc (x : Int32) : fits .char (.int (x.toUInt32 % 65536).toInt32) = true := by
  rw [pk_char]
  exact (pk_charN (Nat.mod_lt _ (by decide))).2
theorem pk_vb (z : Int32) : vp_nar .byte z.toInt8.toInt32 = z.toInt8.toInt32 := by rw [vp_nar_byte]; simp
theorem pk_vs (z : Int32) : vp_nar .short z.toInt16.toInt32 = z.toInt16.toInt32 := by rw [vp_nar_short]; simp
theorem pk_vc (z : Int32) : vp_nar .char (z.toUInt32 % 65536).toInt32 = (z.toUInt32 % 65536).toInt32 := Value.int.inj (pk_nc z)
theorem pk_lT {n : Nat} (h : n < 2 ^ 63) : (lN n).toInt = (n : Int) := lg_ofNat_toInt h
theorem pk_lLT {a b : Nat} (ha : a < 2 ^ 63) (hb : b < 2 ^ 63) : lN a < lN b ↔ a < b := by
  rw [Int64.lt_iff_toInt_lt, pk_lT ha, pk_lT hb]; omega
theorem pk_lLE {a b : Nat} (ha : a < 2 ^ 63) (hb : b < 2 ^ 63) : lN a ≤ lN b ↔ a ≤ b := by
  rw [Int64.le_iff_toInt_le, pk_lT ha, pk_lT hb]; omega
theorem pk_lEQ {a b : Nat} (ha : a < 2 ^ 63) (hb : b < 2 ^ 63) : lN a = lN b ↔ a = b := by
  rw [← Int64.toInt_inj, pk_lT ha, pk_lT hb]; omega
theorem pk_lOf {x : Int64} (h : ¬ x < 0) : ∃ k : Nat, k < 2 ^ 63 ∧ x = lN k := by
  rw [Int64.lt_iff_toInt_lt] at h
  have h0 : (0 : Int64).toInt = 0 := by decide
  have hx := Int64.toInt_lt x
  refine ⟨x.toInt.toNat, by omega, Int64.toInt_inj.mp ?_⟩
  rw [pk_lT (by omega)]
  omega
theorem pk_lDiv {a b : Nat} (ha : a < 2 ^ 63) (h0 : 0 < b) (hb : b < 2 ^ 63) : lN a / lN b = lN (a / b) := by
  apply Int64.toInt_inj.mp
  rw [lg_ldiv_nonneg (by rw [pk_lT ha]; omega) (by rw [pk_lT hb]; omega), pk_lT ha, pk_lT hb, pk_lT (Nat.lt_of_le_of_lt (Nat.div_le_self a b) ha)]
  rfl
theorem pk_lRem {a b : Nat} (ha : a < 2 ^ 63) (h0 : 0 < b) (hb : b < 2 ^ 63) : lN a - lN a / lN b * lN b = lN (a % b) := by
  rw [pk_lDiv ha h0 hb, lN_mul, lN_sub (Nat.div_mul_le_self a b)]
  exact congrArg lN (by have := Nat.div_add_mod' a b; omega)
theorem pk_loop {σ : Type} (W : Nat → Nat → σ → Prop) (I : Nat → σ → Prop) (e i0 : Nat) (s : σ) (hi : i0 ≤ e) (h0 : I i0 s) (hx : ∀ n s, I e s → W (n + 1) e s)
    (hs : ∀ n i s, i < e → I i s → (∀ s', I (i + 1) s' → W n (i + 1) s') → W (n + 1) i s) : ∃ n, W n i0 s :=
  ⟨e + 1, loop_i W I e hx hs (e + 1) i0 s hi (by omega) h0⟩
theorem pk_loopD {σ : Type} (W : Nat → Nat → σ → Prop) (I : Nat → σ → Prop) (hx : ∀ n s, I 0 s → W (n + 1) 0 s)
    (hs : ∀ n i s, I (i + 1) s → (∀ s', I i s' → W n i s') → W (n + 1) (i + 1) s) : ∀ (e : Nat) (s : σ), I e s → W (e + 1) e s := by
  intro e
  induction e with
  | zero => exact fun s h => hx 0 s h
  | succ e ih => exact fun s h => hs (e + 1) e s h (fun s' h' => ih s' h')
/-! rows on bits, shifts and unsigned numbers, to paste: each family out of a closed proof of our own, whole with what it rests on; each by itself clean at Lean in its own claim (generation 39, form 5). Take a family whole -/
/-! ===== Int32 by its bits: bt x i ===== -/
def bt (x : Int32) (i : Nat) : Bool := x.toBitVec.getLsbD i
theorem b_ext {x y : Int32} (h : ∀ i, i < 32 → bt x i = bt y i) : x = y := Int32.toBitVec_inj.mp (BitVec.eq_of_getLsbD_eq (fun i hi => h i hi))
theorem b_or (x y : Int32) (i : Nat) : bt (x ||| y) i = (bt x i || bt y i) := by unfold bt; rw [Int32.toBitVec_or, BitVec.getLsbD_or]
theorem b_and (x y : Int32) (i : Nat) : bt (x &&& y) i = (bt x i && bt y i) := by unfold bt; rw [Int32.toBitVec_and, BitVec.getLsbD_and]
theorem b_xor (x y : Int32) (i : Nat) : bt (x ^^^ y) i = (bt x i ^^ bt y i) := by unfold bt; rw [Int32.toBitVec_xor, BitVec.getLsbD_xor]
theorem b_big {x : Int32} {i : Nat} (h : 32 ≤ i) : bt x i = false := BitVec.getLsbD_of_ge _ _ h
theorem b_255 (i : Nat) : bt 255 i = decide (i < 8) := by
  rcases Nat.lt_or_ge i 32 with h | h
  · exact (by decide +kernel : ∀ i, i < 32 → bt 255 i = decide (i < 8)) i h
  · rw [b_big h, decide_eq_false (by omega)]
theorem b_65535 (i : Nat) : bt 65535 i = decide (i < 16) := by
  rcases Nat.lt_or_ge i 32 with h | h
  · exact (by decide +kernel : ∀ i, i < 32 → bt 65535 i = decide (i < 16)) i h
  · rw [b_big h, decide_eq_false (by omega)]
theorem b_m1 : ∀ i, i < 32 → bt (-1) i = true := by decide +kernel
theorem b_0 (i : Nat) : bt 0 i = false := BitVec.getLsbD_zero
theorem s_l : ∀ n, n < 32 → ((nI n &&& 31).toBitVec.smod 32).toNat = n := by decide +kernel
theorem s_u : ∀ n, n < 32 → (((nI n).toUInt32 &&& Int32.toUInt32 31).toBitVec % 32).toNat = n := by decide +kernel
theorem b_shl (n : Nat) (hn : n < 32) (x : Int32) {i : Nat} (hi : i < 32) : bt (x <<< (nI n &&& 31)) i = (decide (n ≤ i) && bt x (i - n)) := by
  unfold bt
  rw [Int32.toBitVec_shiftLeft]
  show (x.toBitVec <<< ((nI n &&& 31).toBitVec.smod 32).toNat).getLsbD i = _
  rw [s_l n hn, BitVec.getLsbD_shiftLeft]
  rcases Nat.lt_or_ge i n with h | h
  · simp [h, Nat.not_le.mpr h]
  · simp [hi, h, Nat.not_lt.mpr h]
theorem b_ushr (n : Nat) (hn : n < 32) (x : Int32) (i : Nat) : bt ((x.toUInt32 >>> ((nI n).toUInt32 &&& Int32.toUInt32 31)).toInt32) i = bt x (n + i) := by
  show (x.toUInt32 >>> ((nI n).toUInt32 &&& Int32.toUInt32 31)).toBitVec.getLsbD i = x.toUInt32.toBitVec.getLsbD (n + i)
  rw [UInt32.toBitVec_shiftRight]
  show (x.toUInt32.toBitVec >>> (((nI n).toUInt32 &&& Int32.toUInt32 31).toBitVec % 32).toNat).getLsbD i = _
  rw [s_u n hn, BitVec.getLsbD_ushiftRight]
theorem b_sshr (n : Nat) (hn : n < 32) (x : Int32) {i : Nat} (hi : i < 32) : bt (x >>> (nI n &&& 31)) i = if n + i < 32 then bt x (n + i) else bt x 31 := by
  unfold bt
  rw [Int32.toBitVec_shiftRight]
  show (x.toBitVec.sshiftRight ((nI n &&& 31).toBitVec.smod 32).toNat).getLsbD i = _
  rw [s_l n hn, BitVec.getLsbD_sshiftRight, BitVec.msb_eq_getLsbD_last]
  simp [hi]
theorem b_shl8 (x : Int32) {i : Nat} (hi : i < 32) : bt (x <<< ((8 : Int32) &&& 31)) i = (decide (8 ≤ i) && bt x (i - 8)) := b_shl 8 (by omega) x hi
theorem b_shl16 (x : Int32) {i : Nat} (hi : i < 32) : bt (x <<< ((16 : Int32) &&& 31)) i = (decide (16 ≤ i) && bt x (i - 16)) := b_shl 16 (by omega) x hi
theorem b_shl24 (x : Int32) {i : Nat} (hi : i < 32) : bt (x <<< ((24 : Int32) &&& 31)) i = (decide (24 ≤ i) && bt x (i - 24)) := b_shl 24 (by omega) x hi
theorem b_sshr8 (x : Int32) {i : Nat} (hi : i < 32) : bt (x >>> ((8 : Int32) &&& 31)) i = if 8 + i < 32 then bt x (8 + i) else bt x 31 := b_sshr 8 (by omega) x hi
end
section
/-! base: bits, blocks of four words, values out of planes, counts -/
/-! loop laws over k states -/
theorem pv_l1 {A1 : Type} (W : Nat → Nat → A1 → Prop) (I : Nat → A1 → Prop) (e : Nat) (a1 : A1) (h0 : I 0 a1) (hx : ∀ n a1, I e a1 → W (n + 1) e a1) (hs : ∀ n i a1, i < e → I i a1 → (∀ b1, I (i + 1) b1 → W n (i + 1) b1) → W (n + 1) i a1) : ∃ n, W n 0 a1 :=
  loop_0 (fun n i (s : A1) => W n i s) (fun i s => I i s) e a1 h0 (fun n s => hx n s) (fun n i s hi h K => hs n i s hi h (fun b1 h' => K b1 h'))
theorem pv_l2 {A1 A2 : Type} (W : Nat → Nat → A1 → A2 → Prop) (I : Nat → A1 → A2 → Prop) (e : Nat) (a1 : A1) (a2 : A2) (h0 : I 0 a1 a2) (hx : ∀ n a1 a2, I e a1 a2 → W (n + 1) e a1 a2) (hs : ∀ n i a1 a2, i < e → I i a1 a2 → (∀ b1 b2, I (i + 1) b1 b2 → W n (i + 1) b1 b2) → W (n + 1) i a1 a2) : ∃ n, W n 0 a1 a2 :=
  loop_0 (fun n i (s : A1 × A2) => W n i s.1 s.2) (fun i s => I i s.1 s.2) e (a1, a2) h0 (fun n s => hx n s.1 s.2) (fun n i s hi h K => hs n i s.1 s.2 hi h (fun b1 b2 h' => K (b1, b2) h'))
theorem pv_l3 {A1 A2 A3 : Type} (W : Nat → Nat → A1 → A2 → A3 → Prop) (I : Nat → A1 → A2 → A3 → Prop) (e : Nat) (a1 : A1) (a2 : A2) (a3 : A3) (h0 : I 0 a1 a2 a3) (hx : ∀ n a1 a2 a3, I e a1 a2 a3 → W (n + 1) e a1 a2 a3) (hs : ∀ n i a1 a2 a3, i < e → I i a1 a2 a3 → (∀ b1 b2 b3, I (i + 1) b1 b2 b3 → W n (i + 1) b1 b2 b3) → W (n + 1) i a1 a2 a3) : ∃ n, W n 0 a1 a2 a3 :=
  loop_0 (fun n i (s : A1 × A2 × A3) => W n i s.1 s.2.1 s.2.2) (fun i s => I i s.1 s.2.1 s.2.2) e (a1, a2, a3) h0 (fun n s => hx n s.1 s.2.1 s.2.2) (fun n i s hi h K => hs n i s.1 s.2.1 s.2.2 hi h (fun b1 b2 b3 h' => K (b1, b2, b3) h'))
theorem pv_l4 {A1 A2 A3 A4 : Type} (W : Nat → Nat → A1 → A2 → A3 → A4 → Prop) (I : Nat → A1 → A2 → A3 → A4 → Prop) (e : Nat) (a1 : A1) (a2 : A2) (a3 : A3) (a4 : A4) (h0 : I 0 a1 a2 a3 a4) (hx : ∀ n a1 a2 a3 a4, I e a1 a2 a3 a4 → W (n + 1) e a1 a2 a3 a4) (hs : ∀ n i a1 a2 a3 a4, i < e → I i a1 a2 a3 a4 → (∀ b1 b2 b3 b4, I (i + 1) b1 b2 b3 b4 → W n (i + 1) b1 b2 b3 b4) → W (n + 1) i a1 a2 a3 a4) : ∃ n, W n 0 a1 a2 a3 a4 :=
  loop_0 (fun n i (s : A1 × A2 × A3 × A4) => W n i s.1 s.2.1 s.2.2.1 s.2.2.2) (fun i s => I i s.1 s.2.1 s.2.2.1 s.2.2.2) e (a1, a2, a3, a4) h0 (fun n s => hx n s.1 s.2.1 s.2.2.1 s.2.2.2) (fun n i s hi h K => hs n i s.1 s.2.1 s.2.2.1 s.2.2.2 hi h (fun b1 b2 b3 b4 h' => K (b1, b2, b3, b4) h'))
theorem pv_l5 {A1 A2 A3 A4 A5 : Type} (W : Nat → Nat → A1 → A2 → A3 → A4 → A5 → Prop) (I : Nat → A1 → A2 → A3 → A4 → A5 → Prop) (e : Nat) (a1 : A1) (a2 : A2) (a3 : A3) (a4 : A4) (a5 : A5) (h0 : I 0 a1 a2 a3 a4 a5) (hx : ∀ n a1 a2 a3 a4 a5, I e a1 a2 a3 a4 a5 → W (n + 1) e a1 a2 a3 a4 a5) (hs : ∀ n i a1 a2 a3 a4 a5, i < e → I i a1 a2 a3 a4 a5 → (∀ b1 b2 b3 b4 b5, I (i + 1) b1 b2 b3 b4 b5 → W n (i + 1) b1 b2 b3 b4 b5) → W (n + 1) i a1 a2 a3 a4 a5) : ∃ n, W n 0 a1 a2 a3 a4 a5 :=
  loop_0 (fun n i (s : A1 × A2 × A3 × A4 × A5) => W n i s.1 s.2.1 s.2.2.1 s.2.2.2.1 s.2.2.2.2) (fun i s => I i s.1 s.2.1 s.2.2.1 s.2.2.2.1 s.2.2.2.2) e (a1, a2, a3, a4, a5) h0 (fun n s => hx n s.1 s.2.1 s.2.2.1 s.2.2.2.1 s.2.2.2.2) (fun n i s hi h K => hs n i s.1 s.2.1 s.2.2.1 s.2.2.2.1 s.2.2.2.2 hi h (fun b1 b2 b3 b4 b5 h' => K (b1, b2, b3, b4, b5) h'))
theorem pv_l6 {A1 A2 A3 A4 A5 A6 : Type} (W : Nat → Nat → A1 → A2 → A3 → A4 → A5 → A6 → Prop) (I : Nat → A1 → A2 → A3 → A4 → A5 → A6 → Prop) (e : Nat) (a1 : A1) (a2 : A2) (a3 : A3) (a4 : A4) (a5 : A5) (a6 : A6) (h0 : I 0 a1 a2 a3 a4 a5 a6) (hx : ∀ n a1 a2 a3 a4 a5 a6, I e a1 a2 a3 a4 a5 a6 → W (n + 1) e a1 a2 a3 a4 a5 a6) (hs : ∀ n i a1 a2 a3 a4 a5 a6, i < e → I i a1 a2 a3 a4 a5 a6 → (∀ b1 b2 b3 b4 b5 b6, I (i + 1) b1 b2 b3 b4 b5 b6 → W n (i + 1) b1 b2 b3 b4 b5 b6) → W (n + 1) i a1 a2 a3 a4 a5 a6) : ∃ n, W n 0 a1 a2 a3 a4 a5 a6 :=
  loop_0 (fun n i (s : A1 × A2 × A3 × A4 × A5 × A6) => W n i s.1 s.2.1 s.2.2.1 s.2.2.2.1 s.2.2.2.2.1 s.2.2.2.2.2) (fun i s => I i s.1 s.2.1 s.2.2.1 s.2.2.2.1 s.2.2.2.2.1 s.2.2.2.2.2) e (a1, a2, a3, a4, a5, a6) h0 (fun n s => hx n s.1 s.2.1 s.2.2.1 s.2.2.2.1 s.2.2.2.2.1 s.2.2.2.2.2) (fun n i s hi h K => hs n i s.1 s.2.1 s.2.2.1 s.2.2.2.1 s.2.2.2.2.1 s.2.2.2.2.2 hi h (fun b1 b2 b3 b4 b5 b6 h' => K (b1, b2, b3, b4, b5, b6) h'))
theorem pv_l7 {A1 A2 A3 A4 A5 A6 A7 : Type} (W : Nat → Nat → A1 → A2 → A3 → A4 → A5 → A6 → A7 → Prop) (I : Nat → A1 → A2 → A3 → A4 → A5 → A6 → A7 → Prop) (e : Nat) (a1 : A1) (a2 : A2) (a3 : A3) (a4 : A4) (a5 : A5) (a6 : A6) (a7 : A7) (h0 : I 0 a1 a2 a3 a4 a5 a6 a7) (hx : ∀ n a1 a2 a3 a4 a5 a6 a7, I e a1 a2 a3 a4 a5 a6 a7 → W (n + 1) e a1 a2 a3 a4 a5 a6 a7) (hs : ∀ n i a1 a2 a3 a4 a5 a6 a7, i < e → I i a1 a2 a3 a4 a5 a6 a7 → (∀ b1 b2 b3 b4 b5 b6 b7, I (i + 1) b1 b2 b3 b4 b5 b6 b7 → W n (i + 1) b1 b2 b3 b4 b5 b6 b7) → W (n + 1) i a1 a2 a3 a4 a5 a6 a7) : ∃ n, W n 0 a1 a2 a3 a4 a5 a6 a7 :=
  loop_0 (fun n i (s : A1 × A2 × A3 × A4 × A5 × A6 × A7) => W n i s.1 s.2.1 s.2.2.1 s.2.2.2.1 s.2.2.2.2.1 s.2.2.2.2.2.1 s.2.2.2.2.2.2) (fun i s => I i s.1 s.2.1 s.2.2.1 s.2.2.2.1 s.2.2.2.2.1 s.2.2.2.2.2.1 s.2.2.2.2.2.2) e (a1, a2, a3, a4, a5, a6, a7) h0 (fun n s => hx n s.1 s.2.1 s.2.2.1 s.2.2.2.1 s.2.2.2.2.1 s.2.2.2.2.2.1 s.2.2.2.2.2.2) (fun n i s hi h K => hs n i s.1 s.2.1 s.2.2.1 s.2.2.2.1 s.2.2.2.2.1 s.2.2.2.2.2.1 s.2.2.2.2.2.2 hi h (fun b1 b2 b3 b4 b5 b6 b7 h' => K (b1, b2, b3, b4, b5, b6, b7) h'))
theorem pv_l8 {A1 A2 A3 A4 A5 A6 A7 A8 : Type} (W : Nat → Nat → A1 → A2 → A3 → A4 → A5 → A6 → A7 → A8 → Prop) (I : Nat → A1 → A2 → A3 → A4 → A5 → A6 → A7 → A8 → Prop) (e : Nat) (a1 : A1) (a2 : A2) (a3 : A3) (a4 : A4) (a5 : A5) (a6 : A6) (a7 : A7) (a8 : A8) (h0 : I 0 a1 a2 a3 a4 a5 a6 a7 a8) (hx : ∀ n a1 a2 a3 a4 a5 a6 a7 a8, I e a1 a2 a3 a4 a5 a6 a7 a8 → W (n + 1) e a1 a2 a3 a4 a5 a6 a7 a8) (hs : ∀ n i a1 a2 a3 a4 a5 a6 a7 a8, i < e → I i a1 a2 a3 a4 a5 a6 a7 a8 → (∀ b1 b2 b3 b4 b5 b6 b7 b8, I (i + 1) b1 b2 b3 b4 b5 b6 b7 b8 → W n (i + 1) b1 b2 b3 b4 b5 b6 b7 b8) → W (n + 1) i a1 a2 a3 a4 a5 a6 a7 a8) : ∃ n, W n 0 a1 a2 a3 a4 a5 a6 a7 a8 :=
  loop_0 (fun n i (s : A1 × A2 × A3 × A4 × A5 × A6 × A7 × A8) => W n i s.1 s.2.1 s.2.2.1 s.2.2.2.1 s.2.2.2.2.1 s.2.2.2.2.2.1 s.2.2.2.2.2.2.1 s.2.2.2.2.2.2.2) (fun i s => I i s.1 s.2.1 s.2.2.1 s.2.2.2.1 s.2.2.2.2.1 s.2.2.2.2.2.1 s.2.2.2.2.2.2.1 s.2.2.2.2.2.2.2) e (a1, a2, a3, a4, a5, a6, a7, a8) h0 (fun n s => hx n s.1 s.2.1 s.2.2.1 s.2.2.2.1 s.2.2.2.2.1 s.2.2.2.2.2.1 s.2.2.2.2.2.2.1 s.2.2.2.2.2.2.2) (fun n i s hi h K => hs n i s.1 s.2.1 s.2.2.1 s.2.2.2.1 s.2.2.2.2.1 s.2.2.2.2.2.1 s.2.2.2.2.2.2.1 s.2.2.2.2.2.2.2 hi h (fun b1 b2 b3 b4 b5 b6 b7 b8 h' => K (b1, b2, b3, b4, b5, b6, b7, b8) h'))
theorem pv_l9 {A1 A2 A3 A4 A5 A6 A7 A8 A9 : Type} (W : Nat → Nat → A1 → A2 → A3 → A4 → A5 → A6 → A7 → A8 → A9 → Prop) (I : Nat → A1 → A2 → A3 → A4 → A5 → A6 → A7 → A8 → A9 → Prop) (e : Nat) (a1 : A1) (a2 : A2) (a3 : A3) (a4 : A4) (a5 : A5) (a6 : A6) (a7 : A7) (a8 : A8) (a9 : A9) (h0 : I 0 a1 a2 a3 a4 a5 a6 a7 a8 a9) (hx : ∀ n a1 a2 a3 a4 a5 a6 a7 a8 a9, I e a1 a2 a3 a4 a5 a6 a7 a8 a9 → W (n + 1) e a1 a2 a3 a4 a5 a6 a7 a8 a9) (hs : ∀ n i a1 a2 a3 a4 a5 a6 a7 a8 a9, i < e → I i a1 a2 a3 a4 a5 a6 a7 a8 a9 → (∀ b1 b2 b3 b4 b5 b6 b7 b8 b9, I (i + 1) b1 b2 b3 b4 b5 b6 b7 b8 b9 → W n (i + 1) b1 b2 b3 b4 b5 b6 b7 b8 b9) → W (n + 1) i a1 a2 a3 a4 a5 a6 a7 a8 a9) : ∃ n, W n 0 a1 a2 a3 a4 a5 a6 a7 a8 a9 :=
  loop_0 (fun n i (s : A1 × A2 × A3 × A4 × A5 × A6 × A7 × A8 × A9) => W n i s.1 s.2.1 s.2.2.1 s.2.2.2.1 s.2.2.2.2.1 s.2.2.2.2.2.1 s.2.2.2.2.2.2.1 s.2.2.2.2.2.2.2.1 s.2.2.2.2.2.2.2.2) (fun i s => I i s.1 s.2.1 s.2.2.1 s.2.2.2.1 s.2.2.2.2.1 s.2.2.2.2.2.1 s.2.2.2.2.2.2.1 s.2.2.2.2.2.2.2.1 s.2.2.2.2.2.2.2.2) e (a1, a2, a3, a4, a5, a6, a7, a8, a9) h0 (fun n s => hx n s.1 s.2.1 s.2.2.1 s.2.2.2.1 s.2.2.2.2.1 s.2.2.2.2.2.1 s.2.2.2.2.2.2.1 s.2.2.2.2.2.2.2.1 s.2.2.2.2.2.2.2.2) (fun n i s hi h K => hs n i s.1 s.2.1 s.2.2.1 s.2.2.2.1 s.2.2.2.2.1 s.2.2.2.2.2.1 s.2.2.2.2.2.2.1 s.2.2.2.2.2.2.2.1 s.2.2.2.2.2.2.2.2 hi h (fun b1 b2 b3 b4 b5 b6 b7 b8 b9 h' => K (b1, b2, b3, b4, b5, b6, b7, b8, b9) h'))
theorem pv_l10 {A1 A2 A3 A4 A5 A6 A7 A8 A9 A10 : Type} (W : Nat → Nat → A1 → A2 → A3 → A4 → A5 → A6 → A7 → A8 → A9 → A10 → Prop) (I : Nat → A1 → A2 → A3 → A4 → A5 → A6 → A7 → A8 → A9 → A10 → Prop) (e : Nat) (a1 : A1) (a2 : A2) (a3 : A3) (a4 : A4) (a5 : A5) (a6 : A6) (a7 : A7) (a8 : A8) (a9 : A9) (a10 : A10) (h0 : I 0 a1 a2 a3 a4 a5 a6 a7 a8 a9 a10) (hx : ∀ n a1 a2 a3 a4 a5 a6 a7 a8 a9 a10, I e a1 a2 a3 a4 a5 a6 a7 a8 a9 a10 → W (n + 1) e a1 a2 a3 a4 a5 a6 a7 a8 a9 a10) (hs : ∀ n i a1 a2 a3 a4 a5 a6 a7 a8 a9 a10, i < e → I i a1 a2 a3 a4 a5 a6 a7 a8 a9 a10 → (∀ b1 b2 b3 b4 b5 b6 b7 b8 b9 b10, I (i + 1) b1 b2 b3 b4 b5 b6 b7 b8 b9 b10 → W n (i + 1) b1 b2 b3 b4 b5 b6 b7 b8 b9 b10) → W (n + 1) i a1 a2 a3 a4 a5 a6 a7 a8 a9 a10) : ∃ n, W n 0 a1 a2 a3 a4 a5 a6 a7 a8 a9 a10 :=
  loop_0 (fun n i (s : A1 × A2 × A3 × A4 × A5 × A6 × A7 × A8 × A9 × A10) => W n i s.1 s.2.1 s.2.2.1 s.2.2.2.1 s.2.2.2.2.1 s.2.2.2.2.2.1 s.2.2.2.2.2.2.1 s.2.2.2.2.2.2.2.1 s.2.2.2.2.2.2.2.2.1 s.2.2.2.2.2.2.2.2.2) (fun i s => I i s.1 s.2.1 s.2.2.1 s.2.2.2.1 s.2.2.2.2.1 s.2.2.2.2.2.1 s.2.2.2.2.2.2.1 s.2.2.2.2.2.2.2.1 s.2.2.2.2.2.2.2.2.1 s.2.2.2.2.2.2.2.2.2) e (a1, a2, a3, a4, a5, a6, a7, a8, a9, a10) h0 (fun n s => hx n s.1 s.2.1 s.2.2.1 s.2.2.2.1 s.2.2.2.2.1 s.2.2.2.2.2.1 s.2.2.2.2.2.2.1 s.2.2.2.2.2.2.2.1 s.2.2.2.2.2.2.2.2.1 s.2.2.2.2.2.2.2.2.2) (fun n i s hi h K => hs n i s.1 s.2.1 s.2.2.1 s.2.2.2.1 s.2.2.2.2.1 s.2.2.2.2.2.1 s.2.2.2.2.2.2.1 s.2.2.2.2.2.2.2.1 s.2.2.2.2.2.2.2.2.1 s.2.2.2.2.2.2.2.2.2 hi h (fun b1 b2 b3 b4 b5 b6 b7 b8 b9 b10 h' => K (b1, b2, b3, b4, b5, b6, b7, b8, b9, b10) h'))
theorem pv_e0 {j : Nat} (hj : j < 32) (h0 : 0 < j) : bt 1 j = false := (by decide +kernel : ∀ j, j < 32 → 0 < j → bt 1 j = false) j hj h0
theorem pv_1 {w : Int32} {l : Nat} (hl : l < 32) : ((w.toUInt32 >>> ((nI l).toUInt32 &&& Int32.toUInt32 31)).toInt32 &&& 1) = if bt w l then 1 else 0 := by
  apply b_ext
  intro j hj
  rw [b_and, b_ushr l hl]
  rcases Nat.eq_zero_or_pos j with rfl | h0
  · rw [Nat.add_zero]
    cases bt w l
    · exact (by decide +kernel : (false && bt 1 0) = bt (if false = true then (1 : Int32) else 0) 0)
    · exact (by decide +kernel : (true && bt 1 0) = bt (if true = true then (1 : Int32) else 0) 0)
  · rw [pv_e0 hj h0, Bool.and_false]
    split
    · exact (pv_e0 hj h0).symm
    · exact (b_0 j).symm
theorem pv_s1 {w : Int32} {l : Nat} (hl : l < 32) : ((w >>> (nI l &&& 31)) &&& 1) = if bt w l then 1 else 0 := by
  apply b_ext
  intro j hj
  rw [b_and, b_sshr l hl w hj]
  rcases Nat.eq_zero_or_pos j with rfl | h0
  · rw [Nat.add_zero, if_pos hl]
    cases bt w l
    · exact (by decide +kernel : (false && bt 1 0) = bt (if false = true then (1 : Int32) else 0) 0)
    · exact (by decide +kernel : (true && bt 1 0) = bt (if true = true then (1 : Int32) else 0) 0)
  · rw [pv_e0 hj h0, Bool.and_false]
    split
    · exact (pv_e0 hj h0).symm
    · exact (b_0 j).symm
theorem pv_b1 {w : Int32} {l : Nat} {A B : Prop} (hl : l < 32) (f : bt w l = true → A) (g : bt w l = false → B) : ((((w.toUInt32 >>> ((nI l).toUInt32 &&& Int32.toUInt32 31)).toInt32) &&& 1) = 1 → A) ∧ (¬ (((w.toUInt32 >>> ((nI l).toUInt32 &&& Int32.toUInt32 31)).toInt32) &&& 1) = 1 → B) := by
  rw [pv_1 hl]
  cases h : bt w l
  · exact br_f (by decide) (g h)
  · exact br_t (by decide) (f h)
theorem pv_b0 {w : Int32} {l : Nat} {A B : Prop} (hl : l < 32) (f : bt w l = false → A) (g : bt w l = true → B) : ((((w.toUInt32 >>> ((nI l).toUInt32 &&& Int32.toUInt32 31)).toInt32) &&& 1) = 0 → A) ∧ (¬ (((w.toUInt32 >>> ((nI l).toUInt32 &&& Int32.toUInt32 31)).toInt32) &&& 1) = 0 → B) := by
  rw [pv_1 hl]
  cases h : bt w l
  · exact br_t (by decide) (f h)
  · exact br_f (by decide) (g h)
theorem pv_c1 {w : Int32} {l : Nat} {A B : Prop} (hl : l < 32) (f : bt w l = true → A) (g : bt w l = false → B) : (((w >>> (nI l &&& 31)) &&& 1) = 1 → A) ∧ (¬ ((w >>> (nI l &&& 31)) &&& 1) = 1 → B) := by
  rw [pv_s1 hl]
  cases h : bt w l
  · exact br_f (by decide) (g h)
  · exact br_t (by decide) (f h)
theorem pv_c0 {w : Int32} {l : Nat} {A B : Prop} (hl : l < 32) (f : bt w l = false → A) (g : bt w l = true → B) : (((w >>> (nI l &&& 31)) &&& 1) = 0 → A) ∧ (¬ ((w >>> (nI l &&& 31)) &&& 1) = 0 → B) := by
  rw [pv_s1 hl]
  cases h : bt w l
  · exact br_t (by decide) (f h)
  · exact br_f (by decide) (g h)
theorem pv_4 (a b : Nat) : 4 * nI a + nI b = nI (4 * a + b) := by
  show nI 4 * nI a + nI b = _
  rw [pk_mul, nI_add]
theorem pv_4' (a : Nat) : 4 * nI a = nI (4 * a) := by
  show nI 4 * nI a = _
  rw [pk_mul]
theorem pv_8 (a b : Nat) : 8 * nI a + nI b = nI (8 * a + b) := by
  show nI 8 * nI a + nI b = _
  rw [pk_mul, nI_add]
theorem pv_8' (a : Nat) : 8 * nI a = nI (8 * a) := by
  show nI 8 * nI a = _
  rw [pk_mul]
theorem pv_in4 {a b N : Nat} (h : 4 * a + b < N) (hN : N < 2 ^ 31) : vp_in (4 * nI a + nI b) N := by rw [pv_4]; exact vp_in_nI h hN
theorem pv_cl4 {a b : Nat} (h : 4 * a + b < 2 ^ 31) : (4 * nI a + nI b).toNatClampNeg = 4 * a + b := by rw [pv_4]; exact nI_clamp h
theorem pv_not (x : Int32) {i : Nat} (hi : i < 32) : bt (x ^^^ (-1)) i = !bt x i := by
  rw [b_xor, b_m1 i hi]
  cases bt x i <;> rfl
theorem pv_mg (o f m : Int32) {i : Nat} (hi : i < 32) : bt ((o &&& (m ^^^ (-1))) ||| (f &&& m)) i = if bt m i then bt f i else bt o i := by
  rw [b_or, b_and, b_and, pv_not m hi]
  cases bt m i <;> cases bt o i <;> cases bt f i <;> rfl
theorem pv_st (w m : Int32) {i : Nat} (hi : i < 32) : bt ((w &&& (m ^^^ (-1))) ||| m) i = if bt m i then true else bt w i := by
  rw [b_or, b_and, pv_not m hi]
  cases bt m i <;> cases bt w i <;> rfl
theorem pv_cr (w m : Int32) {i : Nat} (hi : i < 32) : bt (w &&& (m ^^^ (-1))) i = if bt m i then false else bt w i := by
  rw [b_and, pv_not m hi]
  cases bt m i <;> cases bt w i <;> rfl
/-! lanes: bit 8 * j + n stands for node n of the j-th agreement -/
theorem pv_127 : ∀ i, i < 4 → ∀ j, j < 4 → ∀ n, n < 8 → bt ((127 : Int32) <<< (8 * nI i &&& 31)) (8 * j + n) = (decide (j = i) && decide (n < 7)) := by decide +kernel
theorem pv_fl : ∀ m, m < 7 → ∀ j, j < 4 → ∀ n, n < 8 → bt ((16843009 : Int32) <<< (nI m &&& 31)) (8 * j + n) = decide (n = m) := by decide +kernel
theorem pv_kb : ∀ i, i < 4 → ∀ k, k < 7 → ∀ j, j < 4 → ∀ n, n < 8 → bt ((1 : Int32) <<< (8 * nI i + nI k &&& 31)) (8 * j + n) = (decide (j = i) && decide (n = k)) := by decide +kernel
theorem pv_od : ∀ j, j < 4 → ∀ n, n < 8 → bt (707406378 : Int32) (8 * j + n) = (decide (n < 7) && decide (n % 2 = 1)) := by decide +kernel
theorem pv_al : ∀ j, j < 4 → ∀ n, n < 8 → bt (2139062143 : Int32) (8 * j + n) = decide (n < 7) := by decide +kernel
theorem pv_b127 (i : Nat) : bt 127 i = decide (i < 7) := by
  rcases Nat.lt_or_ge i 32 with h | h
  · exact (by decide +kernel : ∀ i, i < 32 → bt 127 i = decide (i < 7)) i h
  · rw [b_big h, decide_eq_false (by omega)]
theorem pv_one : ∀ m, m < 32 → ∀ j, j < 32 → bt ((1 : Int32) <<< (nI m &&& 31)) j = decide (j = m) := by decide +kernel
/-- a word of seven bits laid at byte i -/
theorem pv_lay (w : Int32) {i j n : Nat} (hi : i < 4) (hj : j < 4) (hn : n < 8) : bt ((w &&& 127) <<< (8 * nI i &&& 31)) (8 * j + n) = (decide (j = i) && (decide (n < 7) && bt w n)) := by
  rw [pv_8', b_shl (8 * i) (by omega) _ (by omega), b_and, pv_b127]
  rcases Nat.lt_trichotomy j i with h | h | h
  · rw [decide_eq_false (by omega : ¬ 8 * i ≤ 8 * j + n), decide_eq_false (by omega : ¬ j = i)]; rfl
  · subst h
    rw [decide_eq_true (by omega : 8 * j ≤ 8 * j + n), decide_eq_true (rfl : j = j), show 8 * j + n - 8 * j = n by omega]
    cases bt w n <;> cases decide (n < 7) <;> rfl
  · rw [decide_eq_false (by omega : ¬ 8 * j + n - 8 * i < 7), decide_eq_false (by omega : ¬ j = i)]
    cases bt w (8 * j + n - 8 * i) <;> simp
theorem pv_shl8 (w : Int32) {i n : Nat} (hi : i < 4) (hn : n < 8) : bt (w <<< (8 * nI i &&& 31)) (8 * i + n) = bt w n := by
  rw [pv_8', b_shl (8 * i) (by omega) _ (by omega), decide_eq_true (by omega : 8 * i ≤ 8 * i + n), show 8 * i + n - 8 * i = n by omega]
  rfl
/-- seven bits taken out at byte i -/
theorem pv_get (w : Int32) {i : Nat} (hi : i < 4) (n : Nat) : bt ((w.toUInt32 >>> ((8 * nI i).toUInt32 &&& Int32.toUInt32 31)).toInt32 &&& 127) n = (decide (n < 7) && bt w (8 * i + n)) := by
  rw [pv_8', b_and, b_ushr (8 * i) (by omega), pv_b127]
  cases bt w (8 * i + n) <;> cases decide (n < 7) <;> rfl
/-! spread -/
def pv_q (a b c d : Bool) : Int32 := nI (a.toNat + 256 * b.toNat + 65536 * c.toNat + 16777216 * d.toNat)
def pv_p4 (a b c d : Bool) (i : Nat) : Bool := if i = 0 then a else if i = 1 then b else if i = 2 then c else d
theorem pv_q1 : ∀ a b c d : Bool, ∀ i, i < 4 → ∀ n, n < 8 → bt (pv_q a b c d) (8 * i + n) = (decide (n = 0) && pv_p4 a b c d i) := by decide +kernel
theorem pv_q2 : ∀ a b c d : Bool, ∀ i, i < 4 → ∀ n, n < 8 → bt (pv_q a b c d * 127) (8 * i + n) = (decide (n < 7) && pv_p4 a b c d i) := by decide +kernel
theorem pv_by8 {P : Nat → Prop} (h : ∀ i, i < 4 → ∀ n, n < 8 → P (8 * i + n)) : ∀ l, l < 32 → P l := by
  intro l hl
  have := h (l / 8) (by omega) (l % 8) (by omega)
  rwa [show 8 * (l / 8) + l % 8 = l by omega] at this
theorem pv_fl0 : ∀ i, i < 4 → ∀ n, n < 8 → bt (16843009 : Int32) (8 * i + n) = decide (n = 0) := by decide +kernel
theorem pv_p4w (w : Int32) (f : Nat) : ∀ i, i < 4 → pv_p4 (bt w f) (bt w (f + 8)) (bt w (f + 16)) (bt w (f + 24)) i = bt w (f + 8 * i) := by
  intro i hi
  rcases i with _ | _ | _ | _ | i
  · rfl
  · rfl
  · rfl
  · rfl
  · omega
theorem pv_sprx (w : Int32) {f : Nat} (hf : f < 8) : ((w.toUInt32 >>> ((nI f).toUInt32 &&& Int32.toUInt32 31)).toInt32) &&& 16843009 = pv_q (bt w f) (bt w (f + 8)) (bt w (f + 16)) (bt w (f + 24)) := by
  apply b_ext
  refine pv_by8 ?_
  intro i hi n hn
  rw [b_and, b_ushr f (by omega), pv_fl0 i hi n hn, pv_q1 _ _ _ _ i hi n hn, pv_p4w w f i hi]
  rcases Nat.eq_zero_or_pos n with rfl | h0
  · rw [Nat.add_zero]; cases bt w (f + 8 * i) <;> rfl
  · rw [decide_eq_false (by omega : ¬ n = 0)]; simp
theorem pv_spr (w : Int32) {f i n : Nat} (hf : f < 7) (hi : i < 4) (hn : n < 8) : bt ((((w.toUInt32 >>> ((nI f).toUInt32 &&& Int32.toUInt32 31)).toInt32) &&& 16843009) * 127) (8 * i + n) = (decide (n < 7) && bt w (8 * i + f)) := by
  rw [pv_sprx w (by omega), pv_q2 _ _ _ _ i hi n hn, pv_p4w w f i hi, show f + 8 * i = 8 * i + f by omega]
/-! values -/
def pv_e (a b c d : Bool) : Nat := a.toNat + 2 * b.toNat + 4 * c.toNat + 8 * d.toNat
def pv_rd (a : Nat → Int32) (b l : Nat) : Nat := pv_e (bt (a b) l) (bt (a (b + 1)) l) (bt (a (b + 2)) l) (bt (a (b + 3)) l)
def pv_ms (s : Bool) (n : Nat) : Int32 := if s then nI n else -1
theorem pv_e_lt : ∀ a b c d : Bool, pv_e a b c d < 16 := by decide
theorem pv_rd_lt (a : Nat → Int32) (b l : Nat) : pv_rd a b l < 16 := pv_e_lt _ _ _ _
theorem pv_rd_e {a : Nat → Int32} {b l : Nat} {p : Nat → Bool} (h : ∀ k, k < 4 → bt (a (b + k)) l = p k) : pv_rd a b l = pv_e (p 0) (p 1) (p 2) (p 3) := by
  unfold pv_rd
  rw [show bt (a b) l = p 0 from h 0 (by decide), h 1 (by decide), h 2 (by decide), h 3 (by decide)]
theorem pv_rd_cg {a a' : Nat → Int32} {b b' l l' : Nat} (h : ∀ k, k < 4 → bt (a (b + k)) l = bt (a' (b' + k)) l') : pv_rd a b l = pv_rd a' b' l' := pv_rd_e h
theorem pv_ev : ∀ v, v < 16 → pv_e (bt (nI v) 0) (bt (nI v) 1) (bt (nI v) 2) (bt (nI v) 3) = v := by decide +kernel
theorem pv_rd_v {a : Nat → Int32} {b l v : Nat} (hv : v < 16) (h : ∀ k, k < 4 → bt (a (b + k)) l = bt (nI v) k) : pv_rd a b l = v := (pv_rd_e h).trans (pv_ev v hv)
theorem pv_ebt : ∀ a b c d : Bool, bt (nI (pv_e a b c d)) 0 = a ∧ bt (nI (pv_e a b c d)) 1 = b ∧ bt (nI (pv_e a b c d)) 2 = c ∧ bt (nI (pv_e a b c d)) 3 = d := by decide +kernel
theorem pv_rd_b (a : Nat → Int32) (b l : Nat) {k : Nat} (hk : k < 4) : bt (a (b + k)) l = bt (nI (pv_rd a b l)) k := by
  have h := pv_ebt (bt (a b) l) (bt (a (b + 1)) l) (bt (a (b + 2)) l) (bt (a (b + 3)) l)
  rcases k with _ | _ | _ | _ | k
  · exact h.1.symm
  · exact h.2.1.symm
  · exact h.2.2.1.symm
  · exact h.2.2.2.symm
  · omega
theorem pv_rd_0 {a : Nat → Int32} {b l : Nat} (h : ∀ k, k < 4 → bt (a (b + k)) l = false) : pv_rd a b l = 0 := pv_rd_e (p := fun _ => false) h
theorem pv_odd : ∀ v, v < 16 → bt (nI v) 0 = decide (v % 2 = 1) := by decide +kernel
theorem pv_rd_o (a : Nat → Int32) (b l : Nat) : bt (a b) l = decide (pv_rd a b l % 2 = 1) := by
  rw [← pv_odd _ (pv_rd_lt a b l)]
  exact pv_rd_b a b l (k := 0) (by decide)
theorem pv_nIm1 {n : Nat} (h : n < 2 ^ 31) : nI n ≠ -1 := by
  intro e
  have := congrArg Int32.toInt e
  rw [nI_toInt h] at this
  have h1 : (-1 : Int32).toInt = -1 := by decide
  omega
theorem pv_nIm2 {n : Nat} (h : n < 2 ^ 31) : nI n ≠ -2 := by
  intro e
  have := congrArg Int32.toInt e
  rw [nI_toInt h] at this
  have h1 : (-2 : Int32).toInt = -2 := by decide
  omega
def pv_ac (a : Nat → Int32) (b l : Nat) : Nat → Int32
  | 0 => 0
  | k + 1 => pv_ac a b l k ||| ((if bt (a (b + k)) l then 1 else 0) <<< (nI k &&& 31))
theorem pv_ac4' : ∀ p q r s : Bool, ((((0 : Int32) ||| ((if p then (1 : Int32) else 0) <<< (nI 0 &&& 31))) ||| ((if q then (1 : Int32) else 0) <<< (nI 1 &&& 31))) ||| ((if r then (1 : Int32) else 0) <<< (nI 2 &&& 31))) ||| ((if s then (1 : Int32) else 0) <<< (nI 3 &&& 31)) = nI (pv_e p q r s) := by decide +kernel
theorem pv_ac4 (a : Nat → Int32) (b l : Nat) : pv_ac a b l 4 = nI (pv_rd a b l) := pv_ac4' _ _ _ _
/-! blocks of four words -/
def pv_bl (B : Nat) (g a : Nat → Int32) (i : Nat) : Nat → Int32 := fun j => if B ≤ j ∧ j < B + i then g (j - B) else a j
theorem pv_bl0 (B : Nat) (g a : Nat → Int32) : pv_bl B g a 0 = a := funext fun j => if_neg (by omega)
theorem pv_blr (B : Nat) (g a : Nat → Int32) (i : Nat) : pv_bl B g a i (B + i) = a (B + i) := if_neg (by omega)
theorem pv_bls (B : Nat) (g a : Nat → Int32) (i : Nat) {x : Int32} (h : x = g i) : upd (pv_bl B g a i) (B + i) x = pv_bl B g a (i + 1) := by
  funext j
  unfold upd pv_bl
  subst h
  rcases Nat.lt_trichotomy j (B + i) with z | z | z
  · rw [if_neg (by omega)]
    by_cases c : B ≤ j
    · rw [if_pos (by omega), if_pos (by omega)]
    · rw [if_neg (by omega), if_neg (by omega)]
  · subst z; rw [if_pos rfl, if_pos (by omega), Nat.add_sub_cancel_left]
  · rw [if_neg (by omega), if_neg (by omega), if_neg (by omega)]
theorem pv_blk (B : Nat) (g a : Nat → Int32) (i : Nat) (h : g i = a (B + i)) : pv_bl B g a i = pv_bl B g a (i + 1) := by
  rw [← pv_bls B g a i h.symm]
  funext j
  by_cases c : j = B + i
  · subst c; rw [pk_us, pv_blr]
  · rw [pk_un c]
theorem pv_blg {B : Nat} {g a : Nat → Int32} {i k : Nat} (h : k < i) : pv_bl B g a i (B + k) = g k := by
  unfold pv_bl
  rw [if_pos (by omega), Nat.add_sub_cancel_left]
theorem pv_blo {B : Nat} {g a : Nat → Int32} {i j : Nat} (h : j < B ∨ B + i ≤ j) : pv_bl B g a i j = a j := if_neg (by omega)
theorem pv_rd_bl {B : Nat} {g a : Nat → Int32} {l : Nat} : pv_rd (pv_bl B g a 4) B l = pv_e (bt (g 0) l) (bt (g 1) l) (bt (g 2) l) (bt (g 3) l) :=
  pv_rd_e (p := fun k => bt (g k) l) (fun k hk => by rw [pv_blg hk])
theorem pv_rd_bo {B C : Nat} {g a : Nat → Int32} {l : Nat} (h : C + 4 ≤ B ∨ B + 4 ≤ C) : pv_rd (pv_bl B g a 4) C l = pv_rd a C l :=
  pv_rd_cg (fun k hk => by rw [pv_blo (by omega)])
/-! counts -/
def pv_cn (p : Nat → Bool) : Nat → Nat
  | 0 => 0
  | i + 1 => pv_cn p i + (p i).toNat
theorem pv_cn_le (p : Nat → Bool) (i : Nat) : pv_cn p i ≤ i := by
  induction i with
  | zero => exact Nat.le_refl _
  | succ i ih => have : (p i).toNat ≤ 1 := Bool.toNat_le _; show pv_cn p i + (p i).toNat ≤ i + 1; omega
theorem pv_cn_cg {p q : Nat → Bool} {i : Nat} (h : ∀ f, f < i → p f = q f) : pv_cn p i = pv_cn q i := by
  induction i with
  | zero => rfl
  | succ i ih => show pv_cn p i + (p i).toNat = pv_cn q i + (q i).toNat; rw [ih (fun f hf => h f (by omega)), h i (by omega)]
def pv_a3 (m : Nat → Int32) : Int32 := ((m 0) ^^^ (m 1)) ^^^ (m 2)
def pv_k3 (m : Nat → Int32) : Int32 := ((m 0) &&& (m 1)) ||| (((m 0) ^^^ (m 1)) &&& (m 2))
def pv_a6 (m : Nat → Int32) : Int32 := ((m 3) ^^^ (m 4)) ^^^ (m 5)
def pv_k6 (m : Nat → Int32) : Int32 := ((m 3) &&& (m 4)) ||| (((m 3) ^^^ (m 4)) &&& (m 5))
def pv_z0 (m : Nat → Int32) : Int32 := (pv_a3 m ^^^ pv_a6 m) ^^^ (m 6)
def pv_kc (m : Nat → Int32) : Int32 := (pv_a3 m &&& pv_a6 m) ||| ((pv_a3 m ^^^ pv_a6 m) &&& (m 6))
def pv_z1 (m : Nat → Int32) : Int32 := (pv_k3 m ^^^ pv_k6 m) ^^^ pv_kc m
def pv_z2 (m : Nat → Int32) : Int32 := (pv_k3 m &&& pv_k6 m) ||| ((pv_k3 m ^^^ pv_k6 m) &&& pv_kc m)
theorem pv_sum7 (m : Nat → Int32) (l : Nat) : (bt (pv_z0 m) l).toNat + 2 * (bt (pv_z1 m) l).toNat + 4 * (bt (pv_z2 m) l).toNat = pv_cn (fun f => bt (m f) l) 7 := by
  simp only [pv_z0, pv_z1, pv_z2, pv_kc, pv_a3, pv_a6, pv_k3, pv_k6, pv_cn, b_or, b_and, b_xor]
  generalize bt (m 0) l = m0
  generalize bt (m 1) l = m1
  generalize bt (m 2) l = m2
  generalize bt (m 3) l = m3
  generalize bt (m 4) l = m4
  generalize bt (m 5) l = m5
  generalize bt (m 6) l = m6
  revert m0 m1 m2 m3 m4 m5 m6
  decide +kernel
end
section
/-! what the component's small methods compute, as words -/
theorem pv_44 : (4 : Int32) ≤ nI 4 := by decide +kernel
theorem pv_77 : (7 : Int32) ≤ nI 7 := by decide +kernel
theorem pv_n4 {i : Nat} (h : i < 4) : ¬ (4 : Int32) ≤ nI i := nI_ge (b := 4) h (by decide)
theorem pv_n7 {i : Nat} (h : i < 7) : ¬ (7 : Int32) ≤ nI i := nI_ge (b := 7) h (by decide)
/-! writeValue -/
def pv_wvg (a : Nat → Int32) (F : Nat) (L V : Int32) (k : Nat) : Int32 := if bt V k then (a (4 * F + k) &&& (L ^^^ (-1))) ||| L else a (4 * F + k) &&& (L ^^^ (-1))
def pv_wv (a : Nat → Int32) (F : Nat) (L V : Int32) : Nat → Int32 := pv_bl (4 * F) (pv_wvg a F L V) a 4
theorem pv_wvb (a : Nat → Int32) (F : Nat) (L V : Int32) (k : Nat) {l : Nat} (hl : l < 32) : bt (pv_wvg a F L V k) l = if bt L l then bt V k else bt (a (4 * F + k)) l := by
  unfold pv_wvg
  cases h : bt V k
  · rw [if_neg (by decide), pv_cr _ _ hl]
  · rw [if_pos rfl, pv_st _ _ hl]
theorem pv_wv_rd (a : Nat → Int32) (F : Nat) (L : Int32) {v l : Nat} (hv : v < 16) (hl : l < 32) : pv_rd (pv_wv a F L (nI v)) (4 * F) l = if bt L l then v else pv_rd a (4 * F) l := by
  cases h : bt L l
  · rw [if_neg (by decide)]
    exact pv_rd_cg (fun k hk => by unfold pv_wv; rw [pv_blg hk, pv_wvb _ _ _ _ _ hl, h, if_neg (by decide)])
  · rw [if_pos rfl]
    exact pv_rd_v hv (fun k hk => by unfold pv_wv; rw [pv_blg hk, pv_wvb _ _ _ _ _ hl, h, if_pos rfl])
theorem pv_wv_ot (a : Nat → Int32) {F G : Nat} (L V : Int32) (h : F ≠ G) (l : Nat) : pv_rd (pv_wv a F L V) (4 * G) l = pv_rd a (4 * G) l := pv_rd_bo (by omega)
/-! withdraw -/
def pv_wfg (a : Nat → Int32) (f : Nat) (L : Int32) (k : Nat) : Int32 := a (4 * f + k) &&& (L ^^^ (-1))
def pv_mk (L : Int32) (a : Nat → Int32) (i : Nat) : Nat → Int32 := fun j => if j < i then a j &&& (L ^^^ (-1)) else a j
theorem pv_mk0 (L : Int32) (a : Nat → Int32) : pv_mk L a 0 = a := funext fun j => if_neg (by omega)
theorem pv_mks (L : Int32) (a : Nat → Int32) (i : Nat) : upd (pv_mk L a i) i ((pv_mk L a i i) &&& (L ^^^ (-1))) = pv_mk L a (i + 1) := by
  funext j
  unfold upd pv_mk
  rcases Nat.lt_trichotomy j i with z | z | z
  · rw [if_neg (by omega), if_pos z, if_pos (by omega)]
  · subst z; rw [if_pos rfl, if_neg (by omega), if_pos (by omega)]
  · rw [if_neg (by omega), if_neg (by omega), if_neg (by omega)]
theorem pv_mkb (L : Int32) (a : Nat → Int32) (i : Nat) : pv_bl (4 * i) (pv_wfg (pv_mk L a (4 * i)) i L) (pv_mk L a (4 * i)) 4 = pv_mk L a (4 * (i + 1)) := by
  funext j
  unfold pv_bl pv_wfg pv_mk
  by_cases c : 4 * i ≤ j ∧ j < 4 * i + 4
  · rw [if_pos c, show 4 * i + (j - 4 * i) = j by omega, if_neg (by omega), if_pos (by omega)]
  · rw [if_neg c]
    by_cases z : j < 4 * i
    · rw [if_pos z, if_pos (by omega)]
    · rw [if_neg z, if_neg (by omega)]
theorem pv_mk_b (L : Int32) (a : Nat → Int32) {i j l : Nat} (h : j < i) (hl : l < 32) : bt (pv_mk L a i j) l = if bt L l then false else bt (a j) l := by
  unfold pv_mk
  rw [if_pos h, pv_cr _ _ hl]
theorem pv_mk_rd (L : Int32) (a : Nat → Int32) {i B l : Nat} (h : B + 4 ≤ i) (hl : l < 32) : pv_rd (pv_mk L a i) B l = if bt L l then 0 else pv_rd a B l := by
  cases c : bt L l
  · rw [if_neg (by decide)]
    exact pv_rd_cg (fun k hk => by rw [pv_mk_b L a (by omega) hl, c, if_neg (by decide)])
  · rw [if_pos rfl]
    exact pv_rd_0 (fun k hk => by rw [pv_mk_b L a (by omega) hl, c, if_pos rfl])
theorem pv_wf_rd (L : Int32) (a : Nat → Int32) (f : Nat) {l : Nat} (hl : l < 32) : pv_rd (pv_bl (4 * f) (pv_wfg a f L) a 4) (4 * f) l = if bt L l then 0 else pv_rd a (4 * f) l := by
  cases c : bt L l
  · rw [if_neg (by decide)]
    exact pv_rd_cg (fun k hk => by rw [pv_blg hk]; unfold pv_wfg; rw [pv_cr _ _ hl, c, if_neg (by decide)])
  · rw [if_pos rfl]
    exact pv_rd_0 (fun k hk => by rw [pv_blg hk]; unfold pv_wfg; rw [pv_cr _ _ hl, c, if_pos rfl])
/-! matchWord -/
def pv_mw (ss sp : Nat → Int32) (f : Nat) (c : Int32) : Nat → Int32
  | 0 => ss f
  | k + 1 => if bt c k then pv_mw ss sp f c k &&& sp (4 * f + k) else pv_mw ss sp f c k &&& (sp (4 * f + k) ^^^ (-1))
theorem pv_mw_b (ss sp : Nat → Int32) (f : Nat) (c : Int32) {l : Nat} (hl : l < 32) (k : Nat) : bt (pv_mw ss sp f c (k + 1)) l = (bt (pv_mw ss sp f c k) l && (bt (sp (4 * f + k)) l == bt c k)) := by
  show bt (if bt c k then _ else _) l = _
  cases bt c k
  · rw [if_neg (by decide), b_and, pv_not _ hl]
    cases bt (sp (4 * f + k)) l <;> rfl
  · rw [if_pos rfl, b_and]
    cases bt (sp (4 * f + k)) l <;> rfl
theorem pv_mw_e : ∀ v, v < 16 → ∀ a b c d : Bool, (((a == bt (nI v) 0) && (b == bt (nI v) 1)) && (c == bt (nI v) 2) && (d == bt (nI v) 3)) = decide (pv_e a b c d = v) := by decide +kernel
theorem pv_mw4 (ss sp : Nat → Int32) (f : Nat) {v l : Nat} (hv : v < 16) (hl : l < 32) : bt (pv_mw ss sp f (nI v) 4) l = (bt (ss f) l && decide (pv_rd sp (4 * f) l = v)) := by
  rw [pv_mw_b _ _ _ _ hl, pv_mw_b _ _ _ _ hl, pv_mw_b _ _ _ _ hl, pv_mw_b _ _ _ _ hl]
  unfold pv_rd
  rw [← pv_mw_e v hv]
  show (((((bt (ss f) l) && _) && _) && _) && _) = _
  simp only [Bool.and_assoc, Nat.add_zero]
/-- the word in which sender f's message is c, for a number c or NONE -/
def pv_mt (ss sp : Nat → Int32) (f : Nat) (c : Int32) : Int32 := if 0 ≤ c then pv_mw ss sp f c 4 else ((ss f) ^^^ (-1)) &&& 2139062143
/-- sender f's message at lane l -/
def pv_M (ss sp : Nat → Int32) (f l : Nat) : Int32 := pv_ms (bt (ss f) l) (pv_rd sp (4 * f) l)
theorem pv_mt_v (ss sp : Nat → Int32) (f : Nat) {v l : Nat} (hv : v < 16) (hl : l < 32) : bt (pv_mt ss sp f (nI v)) l = decide (pv_M ss sp f l = nI v) := by
  unfold pv_mt pv_M pv_ms
  rw [if_pos (nI_pos' (by omega)), pv_mw4 _ _ _ hv hl]
  cases bt (ss f) l
  · rw [if_neg (by decide), Bool.false_and]
    exact (decide_eq_false (fun e => pv_nIm1 (by omega) e.symm)).symm
  · rw [if_pos rfl, Bool.true_and]
    have := pv_rd_lt sp (4 * f) l
    by_cases c : pv_rd sp (4 * f) l = v
    · rw [c, decide_eq_true rfl, decide_eq_true rfl]
    · rw [decide_eq_false c, decide_eq_false (fun e => c ((nI_eq (by omega) (by omega)).mp e))]
theorem pv_mt_n (ss sp : Nat → Int32) (f : Nat) {i n : Nat} (hi : i < 4) (hn : n < 7) : bt (pv_mt ss sp f (-1)) (8 * i + n) = decide (pv_M ss sp f (8 * i + n) = -1) := by
  unfold pv_mt pv_M pv_ms
  have := pv_rd_lt sp (4 * f) (8 * i + n)
  rw [if_neg (by decide), b_and, pv_not _ (by omega), pv_al i hi n (by omega), decide_eq_true hn]
  cases bt (ss f) (8 * i + n)
  · rw [if_neg (by decide), decide_eq_true rfl]; rfl
  · rw [if_pos rfl, decide_eq_false (pv_nIm1 (by omega))]; rfl
/-- a content that may be asked: a number below 16, or NONE -/
def pv_ok (c : Int32) : Prop := c = -1 ∨ ∃ v, v < 16 ∧ c = nI v
theorem pv_mt_c (ss sp : Nat → Int32) (f : Nat) {c : Int32} (hc : pv_ok c) {i n : Nat} (hi : i < 4) (hn : n < 7) : bt (pv_mt ss sp f c) (8 * i + n) = decide (pv_M ss sp f (8 * i + n) = c) := by
  rcases hc with rfl | ⟨v, hv, rfl⟩
  · exact pv_mt_n ss sp f hi hn
  · exact pv_mt_v ss sp f hv (by omega)
/-- how many messages at lane l are c -/
def pv_ct (ss sp : Nat → Int32) (l : Nat) (c : Int32) : Nat := pv_cn (fun f => decide (pv_M ss sp f l = c)) 7
def pv_v3 (s0 s1 s2 : Int32) (l : Nat) : Nat := (bt s0 l).toNat + 2 * (bt s1 l).toNat + 4 * (bt s2 l).toNat
/-- the three words hold the counts of c -/
def pv_CS (ss sp : Nat → Int32) (c s0 s1 s2 : Int32) : Prop := ∀ i, i < 4 → ∀ n, n < 7 → pv_v3 s0 s1 s2 (8 * i + n) = pv_ct ss sp (8 * i + n) c
def pv_mm (g a : Nat → Int32) (i : Nat) : Nat → Int32 := fun j => if j < i then g j else a j
theorem pv_mm0 (g a : Nat → Int32) : pv_mm g a 0 = a := funext fun j => if_neg (by omega)
theorem pv_mms (g a : Nat → Int32) (i : Nat) {x : Int32} (h : x = g i) : upd (pv_mm g a i) i x = pv_mm g a (i + 1) := by
  funext j
  unfold upd pv_mm
  subst h
  rcases Nat.lt_trichotomy j i with z | z | z
  · rw [if_neg (by omega), if_pos z, if_pos (by omega)]
  · subst z; rw [if_pos rfl, if_pos (by omega)]
  · rw [if_neg (by omega), if_neg (by omega), if_neg (by omega)]
theorem pv_CS7 (ss sp a : Nat → Int32) {c : Int32} (hc : pv_ok c) : pv_CS ss sp c (pv_z0 (pv_mm (fun f => pv_mt ss sp f c) a 7)) (pv_z1 (pv_mm (fun f => pv_mt ss sp f c) a 7)) (pv_z2 (pv_mm (fun f => pv_mt ss sp f c) a 7)) := by
  intro i hi n hn
  unfold pv_v3
  rw [pv_sum7]
  refine pv_cn_cg (fun f hf => ?_)
  show bt (if f < 7 then pv_mt ss sp f c else a f) (8 * i + n) = _
  rw [if_pos hf, pv_mt_c ss sp f hc hi hn]
theorem pv_five (s0 s1 s2 : Int32) (l : Nat) : bt (s2 &&& (s1 ||| s0)) l = decide (5 ≤ pv_v3 s0 s1 s2 l) := by
  unfold pv_v3
  rw [b_and, b_or]
  cases bt s0 l <;> cases bt s1 l <;> cases bt s2 l <;> rfl
theorem pv_three (s0 s1 s2 : Int32) (l : Nat) : bt (s2 ||| (s1 &&& s0)) l = decide (3 ≤ pv_v3 s0 s1 s2 l) := by
  unfold pv_v3
  rw [b_or, b_and]
  cases bt s0 l <;> cases bt s1 l <;> cases bt s2 l <;> rfl
/-! kinds of rounds -/
def pv_iv (x : Int32) : Bool := decide (x = 0)
def pv_ie (x : Int32) : Bool := decide (x = 1)
def pv_ix (x : Int32) : Bool := decide (x = 2) || decide (x = 5) || decide (x = 8)
def pv_ip (x : Int32) : Bool := decide (x = 3) || decide (x = 6) || decide (x = 9)
def pv_ik (x : Int32) : Bool := decide (x = 4) || decide (x = 7) || decide (x = 10)
def pv_ir (x : Int32) : Bool := pv_iv x || pv_ie x || pv_ix x || pv_ip x || pv_ik x
def pv_rk (x : Int32) : Prop := x = -1 ∨ ∃ R, R < 12 ∧ x = nI R
/-- the king of the i-th agreement in round R -/
def pv_kg (FK i R : Nat) : Nat := (FK + i + (R - 2) / 3) % 7
theorem pv_kg_lt (FK i R : Nat) : pv_kg FK i R < 7 := Nat.mod_lt _ (by decide)
theorem pv_kgI {FK i R : Nat} (hF : FK < 7) (hi : i < 4) (h2 : 2 ≤ R) (hR : R < 11) : (((nI FK + nI i) + ((nI R - 2) / 3)) - ((nI FK + nI i) + ((nI R - 2) / 3)) / 7 * 7) = nI (pv_kg FK i R) := by
  have e1 : nI R - 2 = nI (R - 2) := pk_sub (b := 2) h2
  have e2 : nI (R - 2) / 3 = nI ((R - 2) / 3) := pk_div (d := 3) (by omega) (by decide) (by decide)
  rw [e1, e2, nI_add, nI_add]
  exact pk_rem (d := 7) (by omega) (by decide) (by decide)
theorem pv_stepI {R : Nat} (h2 : 2 ≤ R) (hR : R < 11) : ((nI R - 2) - (nI R - 2) / 3 * 3) = nI ((R - 2) % 3) := by
  have e1 : nI R - 2 = nI (R - 2) := pk_sub (b := 2) h2
  rw [e1]
  exact pk_rem (d := 3) (by omega) (by decide) (by decide)
/-- the lanes words as they follow from the rounds of the first m instances -/
def pv_L1 (rd : Nat → Int32) (m : Nat) (p : Int32 → Bool) (w : Int32) : Prop := ∀ j, j < 4 → ∀ n, n < 8 → bt w (8 * j + n) = (decide (j < m) && (decide (n < 7) && p (rd j)))
def pv_LK (rd : Nat → Int32) (FK m : Nat) (w : Int32) : Prop := ∀ j, j < 4 → ∀ n, n < 8 → bt w (8 * j + n) = (decide (j < m) && (pv_ik (rd j) && decide (nI n = (((nI FK + nI j) + ((rd j - 2) / 3)) - ((nI FK + nI j) + ((rd j - 2) / 3)) / 7 * 7))))
theorem pv_L10 (rd : Nat → Int32) (p : Int32 → Bool) : pv_L1 rd 0 p 0 := fun j _ n _ => by rw [b_0, decide_eq_false (by omega)]; rfl
theorem pv_LK0 (rd : Nat → Int32) (FK : Nat) : pv_LK rd FK 0 0 := fun j _ n _ => by rw [b_0, decide_eq_false (by omega)]; rfl
theorem pv_L1y {rd : Nat → Int32} {m : Nat} {p : Int32 → Bool} {w : Int32} (hm : m < 4) (h : pv_L1 rd m p w) (hp : p (rd m) = true) : pv_L1 rd (m + 1) p (w ||| ((127 : Int32) <<< (8 * nI m &&& 31))) := by
  intro j hj n hn
  rw [b_or, h j hj n hn, pv_127 m hm j hj n hn]
  rcases Nat.lt_trichotomy j m with z | z | z
  · rw [decide_eq_true z, decide_eq_true (by omega : j < m + 1), decide_eq_false (by omega : ¬ j = m)]; simp
  · subst z; rw [decide_eq_false (by omega : ¬ j < j), decide_eq_true (by omega : j < j + 1), hp]; simp
  · rw [decide_eq_false (by omega : ¬ j < m), decide_eq_false (by omega : ¬ j < m + 1), decide_eq_false (by omega : ¬ j = m)]; rfl
theorem pv_L1n {rd : Nat → Int32} {m : Nat} {p : Int32 → Bool} {w : Int32} (h : pv_L1 rd m p w) (hp : p (rd m) = false) : pv_L1 rd (m + 1) p w := by
  intro j hj n hn
  rw [h j hj n hn]
  rcases Nat.lt_trichotomy j m with z | z | z
  · rw [decide_eq_true z, decide_eq_true (by omega : j < m + 1)]
  · subst z; rw [decide_eq_false (by omega : ¬ j < j), hp]; simp
  · rw [decide_eq_false (by omega : ¬ j < m), decide_eq_false (by omega : ¬ j < m + 1)]
theorem pv_LKn {rd : Nat → Int32} {FK m : Nat} {w : Int32} (h : pv_LK rd FK m w) (hp : pv_ik (rd m) = false) : pv_LK rd FK (m + 1) w := by
  intro j hj n hn
  rw [h j hj n hn]
  rcases Nat.lt_trichotomy j m with z | z | z
  · rw [decide_eq_true z, decide_eq_true (by omega : j < m + 1)]
  · subst z; rw [decide_eq_false (by omega : ¬ j < j), hp]; simp
  · rw [decide_eq_false (by omega : ¬ j < m), decide_eq_false (by omega : ¬ j < m + 1)]
theorem pv_LKy {rd : Nat → Int32} {FK m k : Nat} {w : Int32} (hm : m < 4) (h : pv_LK rd FK m w) (hp : pv_ik (rd m) = true) (hk : k < 7) (e : (((nI FK + nI m) + ((rd m - 2) / 3)) - ((nI FK + nI m) + ((rd m - 2) / 3)) / 7 * 7) = nI k) : pv_LK rd FK (m + 1) (w ||| ((1 : Int32) <<< (8 * nI m + nI k &&& 31))) := by
  intro j hj n hn
  rw [b_or, h j hj n hn, pv_kb m hm k hk j hj n hn]
  rcases Nat.lt_trichotomy j m with z | z | z
  · rw [decide_eq_true z, decide_eq_true (by omega : j < m + 1), decide_eq_false (by omega : ¬ j = m)]; simp
  · subst z
    rw [decide_eq_false (by omega : ¬ j < j), decide_eq_true (by omega : j < j + 1), hp, e]
    have : decide (nI n = nI k) = decide (n = k) := by
      by_cases c : n = k
      · rw [c, decide_eq_true rfl, decide_eq_true rfl]
      · rw [decide_eq_false c, decide_eq_false (fun z => c ((nI_eq (by omega) (by omega)).mp z))]
    rw [this]; simp
  · rw [decide_eq_false (by omega : ¬ j < m), decide_eq_false (by omega : ¬ j < m + 1), decide_eq_false (by omega : ¬ j = m)]; rfl
/-- all lane words, m instances sorted -/
def pv_LN (rd : Nat → Int32) (FK m : Nat) (v e x p k b : Int32) : Prop := pv_L1 rd m pv_iv v ∧ pv_L1 rd m pv_ie e ∧ pv_L1 rd m pv_ix x ∧ pv_L1 rd m pv_ip p ∧ pv_L1 rd m pv_ik k ∧ pv_LK rd FK m b
theorem pv_kindI : ∀ R, R < 12 → pv_iv (nI R) = decide (R = 0) ∧ pv_ie (nI R) = decide (R = 1) ∧ pv_ix (nI R) = (decide (R = 2) || decide (R = 5) || decide (R = 8)) ∧ pv_ip (nI R) = (decide (R = 3) || decide (R = 6) || decide (R = 9)) ∧ pv_ik (nI R) = (decide (R = 4) || decide (R = 7) || decide (R = 10)) := by decide +kernel
theorem pv_irI : ∀ R, R < 12 → pv_ir (nI R) = decide (R < 11) := by decide +kernel
theorem pv_irm : pv_ir (-1) = false := by decide
theorem pv_ir_t {x : Int32} (h : pv_rk x) (hr : pv_ir x = true) : ∃ R, R < 11 ∧ x = nI R := by
  rcases h with rfl | ⟨R, hR, rfl⟩
  · exact absurd hr (by decide)
  · rw [pv_irI R hR] at hr; exact ⟨R, of_decide_eq_true hr, rfl⟩
end
section
/-! the component's small methods, walked -/
def pv_kgo (FK i : Nat) (x : Int32) : Int32 := if x < 2 then -1 else if x ≤ 10 then (((nI FK + nI i) + ((x - 2) / 3)) - ((nI FK + nI i) + ((x - 2) / 3)) / 7 * 7) else -1
def pv_szo (NV : Nat) (x : Int32) : Int32 := if 1 < x then 2 else nI NV
def pv_clp (p lo hi : Int32) : Int32 := if lo ≤ p then (if p ≤ hi then p else hi) else lo
def pv_hx (bits cand : Int32) (planes : Nat → Int32) (D : Int32) (l : Nat) : Int32 := if bt (bits &&& cand) l then nI (pv_rd planes 8 l) else D
def pv_badI (N : Nat) (p : Int32) : Prop := p < 0 ∨ (¬ p < 0 ∧ ¬ p < nI N)
def pv_badN (p : Int32) : Prop := p < 0 ∨ (¬ p < 0 ∧ ¬ p ≤ 6)
theorem pv_csI (p : Int32) {N : Nat} (hN : N < 2 ^ 31) : (∃ i, i < N ∧ p = nI i) ∨ pv_badI N p := by
  by_cases h : p < 0
  · exact Or.inr (Or.inl h)
  · obtain ⟨j, hj, rfl⟩ := nI_of h
    by_cases z : j < N
    · exact Or.inl ⟨j, z, rfl⟩
    · exact Or.inr (Or.inr ⟨h, nI_nlt (by omega) hj⟩)
theorem pv_csN (p : Int32) : (∃ i, i < 7 ∧ p = nI i) ∨ pv_badN p := by
  by_cases h : p < 0
  · exact Or.inr (Or.inl h)
  · obtain ⟨j, hj, rfl⟩ := nI_of h
    by_cases z : j < 7
    · exact Or.inl ⟨j, z, rfl⟩
    · exact Or.inr (Or.inr ⟨h, fun c => z (by have := (nI_leI (b := 6) hj (by decide)).mp c; omega)⟩)
theorem pv_kgo_R {FK i R : Nat} (hF : FK < 7) (hi : i < 4) (h2 : 2 ≤ R) (hR : R < 11) : pv_kgo FK i (nI R) = nI (pv_kg FK i R) := by
  unfold pv_kgo
  have a1 : ¬ nI R < 2 := nI_nlt (b := 2) h2 (by omega)
  have a2 : nI R ≤ 10 := nI_le (b := 10) (by omega) (by decide)
  rw [if_neg a1, if_pos a2]
  exact pv_kgI hF hi h2 hR
section
variable {f_allLanes f_firstLanes f_oddLanes f_sevenNodes f_instances f_values f_defaultValue f_firstKing f_tainted f_echoSome f_candidateSome f_bits f_proposalSome f_proposalOne f_strong f_corrupted f_valueLanes f_echoLanes f_exchangeLanes f_proposeLanes f_kingLanes f_wideLanes f_narrowLanes f_runningLanes f_kingBits f_dueSome f_sum0 f_sum1 f_sum2 f_ledgerHead f_ledgerSize : Int32} {a_rounds a_planes a_policies a_dictSet a_dictSome a_dictPlanes a_splitPlanes a_duePlanes a_sentSome a_sentPlanes a_match a_ledgerInstance a_ledgerValue a_ledgerTainted : Nat → Int32}
theorem xw_biY {post : Int32 → Prop} {NI i : Nat} (hN : NI ≤ 4) (hi : i < NI) (h : post 0) : wpX_badInstance post (f_allLanes, f_firstLanes, f_oddLanes, f_sevenNodes, nI NI, f_values, f_defaultValue, f_firstKing, f_tainted, f_echoSome, f_candidateSome, f_bits, f_proposalSome, f_proposalOne, f_strong, f_corrupted, f_valueLanes, f_echoLanes, f_exchangeLanes, f_proposeLanes, f_kingLanes, f_wideLanes, f_narrowLanes, f_runningLanes, f_kingBits, f_dueSome, f_sum0, f_sum1, f_sum2, f_ledgerHead, f_ledgerSize, a_rounds, a_planes, a_policies, a_dictSet, a_dictSome, a_dictPlanes, a_splitPlanes, a_duePlanes, a_sentSome, a_sentPlanes, a_match, a_ledgerInstance, a_ledgerValue, a_ledgerTainted) (nI i) :=
  br_f (nI_pos (by omega)) (br_t (nI_lt hi (by omega)) h)
theorem xw_biN {post : Int32 → Prop} {NI : Nat} {p : Int32} (hb : pv_badI NI p) (h : post 1) : wpX_badInstance post (f_allLanes, f_firstLanes, f_oddLanes, f_sevenNodes, nI NI, f_values, f_defaultValue, f_firstKing, f_tainted, f_echoSome, f_candidateSome, f_bits, f_proposalSome, f_proposalOne, f_strong, f_corrupted, f_valueLanes, f_echoLanes, f_exchangeLanes, f_proposeLanes, f_kingLanes, f_wideLanes, f_narrowLanes, f_runningLanes, f_kingBits, f_dueSome, f_sum0, f_sum1, f_sum2, f_ledgerHead, f_ledgerSize, a_rounds, a_planes, a_policies, a_dictSet, a_dictSome, a_dictPlanes, a_splitPlanes, a_duePlanes, a_sentSome, a_sentPlanes, a_match, a_ledgerInstance, a_ledgerValue, a_ledgerTainted) p := by
  rcases hb with z | ⟨z, y⟩
  · exact br_t z h
  · exact br_f z (br_f y h)
theorem xw_bnY {post : Int32 → Prop} {n : Nat} (hn : n < 7) (h : post 0) : wpX_badNode post (f_allLanes, f_firstLanes, f_oddLanes, f_sevenNodes, f_instances, f_values, f_defaultValue, f_firstKing, f_tainted, f_echoSome, f_candidateSome, f_bits, f_proposalSome, f_proposalOne, f_strong, f_corrupted, f_valueLanes, f_echoLanes, f_exchangeLanes, f_proposeLanes, f_kingLanes, f_wideLanes, f_narrowLanes, f_runningLanes, f_kingBits, f_dueSome, f_sum0, f_sum1, f_sum2, f_ledgerHead, f_ledgerSize, a_rounds, a_planes, a_policies, a_dictSet, a_dictSome, a_dictPlanes, a_splitPlanes, a_duePlanes, a_sentSome, a_sentPlanes, a_match, a_ledgerInstance, a_ledgerValue, a_ledgerTainted) (nI n) :=
  br_f (nI_pos (by omega)) (br_t (nI_le (b := 6) (by omega) (by decide)) h)
theorem xw_bnN {post : Int32 → Prop} {p : Int32} (hb : pv_badN p) (h : post 1) : wpX_badNode post (f_allLanes, f_firstLanes, f_oddLanes, f_sevenNodes, f_instances, f_values, f_defaultValue, f_firstKing, f_tainted, f_echoSome, f_candidateSome, f_bits, f_proposalSome, f_proposalOne, f_strong, f_corrupted, f_valueLanes, f_echoLanes, f_exchangeLanes, f_proposeLanes, f_kingLanes, f_wideLanes, f_narrowLanes, f_runningLanes, f_kingBits, f_dueSome, f_sum0, f_sum1, f_sum2, f_ledgerHead, f_ledgerSize, a_rounds, a_planes, a_policies, a_dictSet, a_dictSome, a_dictPlanes, a_splitPlanes, a_duePlanes, a_sentSome, a_sentPlanes, a_match, a_ledgerInstance, a_ledgerValue, a_ledgerTainted) p := by
  rcases hb with z | ⟨z, y⟩
  · exact br_t z h
  · exact br_f z (br_f y h)
theorem xw_run {post : Int32 → Prop} {i : Nat} (hi : i < 4) (hk : pv_rk (a_rounds i)) (h1 : pv_ir (a_rounds i) = true → post 1) (h0 : pv_ir (a_rounds i) = false → post 0) : wpX_isRunning post (f_allLanes, f_firstLanes, f_oddLanes, f_sevenNodes, f_instances, f_values, f_defaultValue, f_firstKing, f_tainted, f_echoSome, f_candidateSome, f_bits, f_proposalSome, f_proposalOne, f_strong, f_corrupted, f_valueLanes, f_echoLanes, f_exchangeLanes, f_proposeLanes, f_kingLanes, f_wideLanes, f_narrowLanes, f_runningLanes, f_kingBits, f_dueSome, f_sum0, f_sum1, f_sum2, f_ledgerHead, f_ledgerSize, a_rounds, a_planes, a_policies, a_dictSet, a_dictSome, a_dictPlanes, a_splitPlanes, a_duePlanes, a_sentSome, a_sentPlanes, a_match, a_ledgerInstance, a_ledgerValue, a_ledgerTainted) (nI i) := by
  have hv : vp_in (nI i) 4 := vp_in_nI hi (by decide)
  refine And.intro hv ?_
  rw [nI_clamp (by omega : i < 2 ^ 31)]
  rcases hk with e | ⟨R, hR, e⟩
  · rw [e] at h0 ⊢
    exact br_t (by decide) (h0 (by decide))
  · rw [e, pv_irI R hR] at h0 h1
    rw [e]
    refine br_f (nI_pos (by omega)) ⟨hv, pk_lt 10 R (fun z => h0 (decide_eq_false (by omega))) (fun z => h1 (decide_eq_true (by omega)))⟩
theorem xw_kgo {post : Int32 → Prop} {FK i : Nat} (hi : i < 4) (h : post (pv_kgo FK i (a_rounds i))) : wpX_kingOf post (f_allLanes, f_firstLanes, f_oddLanes, f_sevenNodes, f_instances, f_values, f_defaultValue, nI FK, f_tainted, f_echoSome, f_candidateSome, f_bits, f_proposalSome, f_proposalOne, f_strong, f_corrupted, f_valueLanes, f_echoLanes, f_exchangeLanes, f_proposeLanes, f_kingLanes, f_wideLanes, f_narrowLanes, f_runningLanes, f_kingBits, f_dueSome, f_sum0, f_sum1, f_sum2, f_ledgerHead, f_ledgerSize, a_rounds, a_planes, a_policies, a_dictSet, a_dictSome, a_dictPlanes, a_splitPlanes, a_duePlanes, a_sentSome, a_sentPlanes, a_match, a_ledgerInstance, a_ledgerValue, a_ledgerTainted) (nI i) := by
  have hv : vp_in (nI i) 4 := vp_in_nI hi (by decide)
  refine And.intro hv ?_
  rw [nI_clamp (by omega : i < 2 ^ 31)]
  intro x e
  subst e
  unfold pv_kgo at h
  refine br_c (fun z => ?_) (fun z => br_c (fun y => ⟨by decide, by decide, ?_⟩) (fun y => ?_))
  · rw [if_pos z] at h; exact h
  · rw [if_neg z, if_pos y] at h; exact h
  · rw [if_neg z, if_neg y] at h; exact h
theorem xw_szo {post : Int32 → Prop} {NV i : Nat} (hi : i < 4) (h : post (pv_szo NV (a_rounds i))) : wpX_sizeOf post (f_allLanes, f_firstLanes, f_oddLanes, f_sevenNodes, f_instances, nI NV, f_defaultValue, f_firstKing, f_tainted, f_echoSome, f_candidateSome, f_bits, f_proposalSome, f_proposalOne, f_strong, f_corrupted, f_valueLanes, f_echoLanes, f_exchangeLanes, f_proposeLanes, f_kingLanes, f_wideLanes, f_narrowLanes, f_runningLanes, f_kingBits, f_dueSome, f_sum0, f_sum1, f_sum2, f_ledgerHead, f_ledgerSize, a_rounds, a_planes, a_policies, a_dictSet, a_dictSome, a_dictPlanes, a_splitPlanes, a_duePlanes, a_sentSome, a_sentPlanes, a_match, a_ledgerInstance, a_ledgerValue, a_ledgerTainted) (nI i) := by
  have hv : vp_in (nI i) 4 := vp_in_nI hi (by decide)
  refine And.intro hv ?_
  rw [nI_clamp (by omega : i < 2 ^ 31)]
  unfold pv_szo at h
  refine br_c (fun z => ?_) (fun z => ?_)
  · rw [if_pos z] at h; exact h
  · rw [if_neg z] at h; exact h
theorem xw_cor {post : Int32 → Prop} {n : Nat} (hn : n < 7) (h1 : bt f_corrupted n = true → post 1) (h0 : bt f_corrupted n = false → post 0) : wpX_isCorrupted post (f_allLanes, f_firstLanes, f_oddLanes, f_sevenNodes, f_instances, f_values, f_defaultValue, f_firstKing, f_tainted, f_echoSome, f_candidateSome, f_bits, f_proposalSome, f_proposalOne, f_strong, f_corrupted, f_valueLanes, f_echoLanes, f_exchangeLanes, f_proposeLanes, f_kingLanes, f_wideLanes, f_narrowLanes, f_runningLanes, f_kingBits, f_dueSome, f_sum0, f_sum1, f_sum2, f_ledgerHead, f_ledgerSize, a_rounds, a_planes, a_policies, a_dictSet, a_dictSome, a_dictPlanes, a_splitPlanes, a_duePlanes, a_sentSome, a_sentPlanes, a_match, a_ledgerInstance, a_ledgerValue, a_ledgerTainted) (nI n) := pv_b1 (by omega) h1 h0
theorem xw_clp {post : Int32 → Prop} {p lo hi : Int32} (h : post (pv_clp p lo hi)) : wpX_clamp post (f_allLanes, f_firstLanes, f_oddLanes, f_sevenNodes, f_instances, f_values, f_defaultValue, f_firstKing, f_tainted, f_echoSome, f_candidateSome, f_bits, f_proposalSome, f_proposalOne, f_strong, f_corrupted, f_valueLanes, f_echoLanes, f_exchangeLanes, f_proposeLanes, f_kingLanes, f_wideLanes, f_narrowLanes, f_runningLanes, f_kingBits, f_dueSome, f_sum0, f_sum1, f_sum2, f_ledgerHead, f_ledgerSize, a_rounds, a_planes, a_policies, a_dictSet, a_dictSome, a_dictPlanes, a_splitPlanes, a_duePlanes, a_sentSome, a_sentPlanes, a_match, a_ledgerInstance, a_ledgerValue, a_ledgerTainted) p lo hi := by
  unfold pv_clp at h
  refine br_c (fun z => br_c (fun y => ?_) (fun y => ?_)) (fun z => ?_)
  · rw [if_pos z, if_pos y] at h; exact h
  · rw [if_pos z, if_neg y] at h; exact h
  · rw [if_neg z] at h; exact h
theorem xw_rv {post : Int32 → Prop} {F l : Nat} (hF : F < 3) (hl : l < 32) (h : post (nI (pv_rd a_planes (4 * F) l))) : wpX_readValue post (f_allLanes, f_firstLanes, f_oddLanes, f_sevenNodes, f_instances, f_values, f_defaultValue, f_firstKing, f_tainted, f_echoSome, f_candidateSome, f_bits, f_proposalSome, f_proposalOne, f_strong, f_corrupted, f_valueLanes, f_echoLanes, f_exchangeLanes, f_proposeLanes, f_kingLanes, f_wideLanes, f_narrowLanes, f_runningLanes, f_kingBits, f_dueSome, f_sum0, f_sum1, f_sum2, f_ledgerHead, f_ledgerSize, a_rounds, a_planes, a_policies, a_dictSet, a_dictSome, a_dictPlanes, a_splitPlanes, a_duePlanes, a_sentSome, a_sentPlanes, a_match, a_ledgerInstance, a_ledgerValue, a_ledgerTainted) (nI F) (nI l) := by
  refine pv_l1 (fun n i s => wX_readValue_5 post (nI F) (nI l) f_allLanes f_firstLanes f_oddLanes f_sevenNodes f_instances f_values f_defaultValue f_firstKing f_tainted f_echoSome f_candidateSome f_bits f_proposalSome f_proposalOne f_strong f_corrupted f_valueLanes f_echoLanes f_exchangeLanes f_proposeLanes f_kingLanes f_wideLanes f_narrowLanes f_runningLanes f_kingBits f_dueSome f_sum0 f_sum1 f_sum2 f_ledgerHead f_ledgerSize a_rounds a_planes a_policies a_dictSet a_dictSome a_dictPlanes a_splitPlanes a_duePlanes a_sentSome a_sentPlanes a_match a_ledgerInstance a_ledgerValue a_ledgerTainted n s (nI i)) (fun i s => s = pv_ac a_planes (4 * F) l i) 4 0 rfl ?_ ?_
  · intro n s hs
    subst hs
    refine br_t pv_44 ?_
    rw [pv_ac4]; exact h
  · intro n i s hi hs K
    subst hs
    refine br_f (pv_n4 hi) ⟨pv_in4 (by omega) (by decide), fun x e y ey => ?_⟩
    obtain rfl := ey.trans (nI_1 i)
    rw [pv_cl4 (by omega), pv_1 hl] at e
    exact K x e
theorem xw_hx {post : Int32 → Prop} {l : Nat} (hl : l < 32) (h : post (pv_hx f_bits f_candidateSome a_planes f_defaultValue l)) : wpX_heldAt post (f_allLanes, f_firstLanes, f_oddLanes, f_sevenNodes, f_instances, f_values, f_defaultValue, f_firstKing, f_tainted, f_echoSome, f_candidateSome, f_bits, f_proposalSome, f_proposalOne, f_strong, f_corrupted, f_valueLanes, f_echoLanes, f_exchangeLanes, f_proposeLanes, f_kingLanes, f_wideLanes, f_narrowLanes, f_runningLanes, f_kingBits, f_dueSome, f_sum0, f_sum1, f_sum2, f_ledgerHead, f_ledgerSize, a_rounds, a_planes, a_policies, a_dictSet, a_dictSome, a_dictPlanes, a_splitPlanes, a_duePlanes, a_sentSome, a_sentPlanes, a_match, a_ledgerInstance, a_ledgerValue, a_ledgerTainted) (nI l) := by
  unfold pv_hx at h
  refine pv_b1 hl (fun z => ?_) (fun z => ?_)
  · rw [if_pos z] at h
    exact xw_rv (F := 2) (by decide) hl h
  · rw [z, if_neg (by decide)] at h
    exact h
theorem xw_wv {post : SX → Prop} {F : Nat} (hF : F < 3) {L V : Int32} (h : post (f_allLanes, f_firstLanes, f_oddLanes, f_sevenNodes, f_instances, f_values, f_defaultValue, f_firstKing, f_tainted, f_echoSome, f_candidateSome, f_bits, f_proposalSome, f_proposalOne, f_strong, f_corrupted, f_valueLanes, f_echoLanes, f_exchangeLanes, f_proposeLanes, f_kingLanes, f_wideLanes, f_narrowLanes, f_runningLanes, f_kingBits, f_dueSome, f_sum0, f_sum1, f_sum2, f_ledgerHead, f_ledgerSize, a_rounds, pv_wv a_planes F L V, a_policies, a_dictSet, a_dictSome, a_dictPlanes, a_splitPlanes, a_duePlanes, a_sentSome, a_sentPlanes, a_match, a_ledgerInstance, a_ledgerValue, a_ledgerTainted)) : wpX_writeValue post (f_allLanes, f_firstLanes, f_oddLanes, f_sevenNodes, f_instances, f_values, f_defaultValue, f_firstKing, f_tainted, f_echoSome, f_candidateSome, f_bits, f_proposalSome, f_proposalOne, f_strong, f_corrupted, f_valueLanes, f_echoLanes, f_exchangeLanes, f_proposeLanes, f_kingLanes, f_wideLanes, f_narrowLanes, f_runningLanes, f_kingBits, f_dueSome, f_sum0, f_sum1, f_sum2, f_ledgerHead, f_ledgerSize, a_rounds, a_planes, a_policies, a_dictSet, a_dictSome, a_dictPlanes, a_splitPlanes, a_duePlanes, a_sentSome, a_sentPlanes, a_match, a_ledgerInstance, a_ledgerValue, a_ledgerTainted) (nI F) L V := by
  refine pv_l1 (fun n i s => wX_writeValue_3 post (nI F) L V f_allLanes f_firstLanes f_oddLanes f_sevenNodes f_instances f_values f_defaultValue f_firstKing f_tainted f_echoSome f_candidateSome f_bits f_proposalSome f_proposalOne f_strong f_corrupted f_valueLanes f_echoLanes f_exchangeLanes f_proposeLanes f_kingLanes f_wideLanes f_narrowLanes f_runningLanes f_kingBits f_dueSome f_sum0 f_sum1 f_sum2 f_ledgerHead f_ledgerSize n (nI i) a_rounds s a_policies a_dictSet a_dictSome a_dictPlanes a_splitPlanes a_duePlanes a_sentSome a_sentPlanes a_match a_ledgerInstance a_ledgerValue a_ledgerTainted) (fun i s => s = pv_bl (4 * F) (pv_wvg a_planes F L V) a_planes i) 4 a_planes (pv_bl0 _ _ _).symm ?_ ?_
  · intro n s hs
    subst hs
    exact br_t pv_44 h
  · intro n i s hi hs K
    subst hs
    have hx : vp_in (4 * nI F + nI i) 12 := pv_in4 (by omega) (by decide)
    refine br_f (pv_n4 hi) ⟨hx, fun x5 e5 => pv_b1 (by omega) (fun hb => ⟨hx, fun a' ea x e => ?_⟩) (fun hb => ⟨hx, fun a' ea x e => ?_⟩)⟩
    · obtain rfl := e.trans (nI_1 i)
      refine K a' ?_
      rw [ea, e5, pv_cl4 (by omega), pv_blr]
      exact pv_bls _ _ _ _ (by unfold pv_wvg; rw [if_pos hb])
    · obtain rfl := e.trans (nI_1 i)
      refine K a' ?_
      rw [ea, e5, pv_cl4 (by omega), pv_blr]
      exact pv_bls _ _ _ _ (by unfold pv_wvg; rw [hb, if_neg (by decide)])
theorem xw_wf {post : SX → Prop} {f : Nat} (hf : f < 7) {L : Int32} (h : post (f_allLanes, f_firstLanes, f_oddLanes, f_sevenNodes, f_instances, f_values, f_defaultValue, f_firstKing, f_tainted, f_echoSome, f_candidateSome, f_bits, f_proposalSome, f_proposalOne, f_strong, f_corrupted, f_valueLanes, f_echoLanes, f_exchangeLanes, f_proposeLanes, f_kingLanes, f_wideLanes, f_narrowLanes, f_runningLanes, f_kingBits, f_dueSome, f_sum0, f_sum1, f_sum2, f_ledgerHead, f_ledgerSize, a_rounds, a_planes, a_policies, upd a_dictSet f ((a_dictSet f) &&& (L ^^^ (-1))), upd a_dictSome f ((a_dictSome f) &&& (L ^^^ (-1))), pv_bl (4 * f) (pv_wfg a_dictPlanes f L) a_dictPlanes 4, a_splitPlanes, a_duePlanes, a_sentSome, a_sentPlanes, a_match, a_ledgerInstance, a_ledgerValue, a_ledgerTainted)) : wpX_withdrawFrom post (f_allLanes, f_firstLanes, f_oddLanes, f_sevenNodes, f_instances, f_values, f_defaultValue, f_firstKing, f_tainted, f_echoSome, f_candidateSome, f_bits, f_proposalSome, f_proposalOne, f_strong, f_corrupted, f_valueLanes, f_echoLanes, f_exchangeLanes, f_proposeLanes, f_kingLanes, f_wideLanes, f_narrowLanes, f_runningLanes, f_kingBits, f_dueSome, f_sum0, f_sum1, f_sum2, f_ledgerHead, f_ledgerSize, a_rounds, a_planes, a_policies, a_dictSet, a_dictSome, a_dictPlanes, a_splitPlanes, a_duePlanes, a_sentSome, a_sentPlanes, a_match, a_ledgerInstance, a_ledgerValue, a_ledgerTainted) (nI f) L := by
  have hv : vp_in (nI f) 7 := vp_in_nI hf (by decide)
  have hc : (nI f).toNatClampNeg = f := nI_clamp (by omega)
  refine And.intro hv (And.intro hv fun s es => And.intro hv (And.intro hv fun o eo => ?_))
  rw [hc] at es eo
  subst es eo
  refine pv_l1 (fun n i s => wX_withdrawFrom_26 post (nI f) L f_allLanes f_firstLanes f_oddLanes f_sevenNodes f_instances f_values f_defaultValue f_firstKing f_tainted f_echoSome f_candidateSome f_bits f_proposalSome f_proposalOne f_strong f_corrupted f_valueLanes f_echoLanes f_exchangeLanes f_proposeLanes f_kingLanes f_wideLanes f_narrowLanes f_runningLanes f_kingBits f_dueSome f_sum0 f_sum1 f_sum2 f_ledgerHead f_ledgerSize n (nI i) a_rounds a_planes a_policies (upd a_dictSet f ((a_dictSet f) &&& (L ^^^ (-1)))) (upd a_dictSome f ((a_dictSome f) &&& (L ^^^ (-1)))) s a_splitPlanes a_duePlanes a_sentSome a_sentPlanes a_match a_ledgerInstance a_ledgerValue a_ledgerTainted) (fun i s => s = pv_bl (4 * f) (pv_wfg a_dictPlanes f L) a_dictPlanes i) 4 a_dictPlanes (pv_bl0 _ _ _).symm ?_ ?_
  · intro n s hs
    subst hs
    exact br_t pv_44 h
  · intro n i s hi hs K
    subst hs
    have hx : vp_in (4 * nI f + nI i) 28 := pv_in4 (by omega) (by decide)
    refine br_f (pv_n4 hi) ⟨hx, hx, fun a' ea x e => ?_⟩
    obtain rfl := e.trans (nI_1 i)
    refine K a' ?_
    rw [ea, pv_cl4 (by omega), pv_blr]
    exact pv_bls _ _ _ _ rfl
theorem xw_wd {post : SX → Prop} {L : Int32} (h : post (f_allLanes, f_firstLanes, f_oddLanes, f_sevenNodes, f_instances, f_values, f_defaultValue, f_firstKing, f_tainted, f_echoSome, f_candidateSome, f_bits, f_proposalSome, f_proposalOne, f_strong, f_corrupted, f_valueLanes, f_echoLanes, f_exchangeLanes, f_proposeLanes, f_kingLanes, f_wideLanes, f_narrowLanes, f_runningLanes, f_kingBits, f_dueSome, f_sum0, f_sum1, f_sum2, f_ledgerHead, f_ledgerSize, a_rounds, a_planes, a_policies, pv_mk L a_dictSet 7, pv_mk L a_dictSome 7, pv_mk L a_dictPlanes 28, a_splitPlanes, a_duePlanes, a_sentSome, a_sentPlanes, a_match, a_ledgerInstance, a_ledgerValue, a_ledgerTainted)) : wpX_withdraw post (f_allLanes, f_firstLanes, f_oddLanes, f_sevenNodes, f_instances, f_values, f_defaultValue, f_firstKing, f_tainted, f_echoSome, f_candidateSome, f_bits, f_proposalSome, f_proposalOne, f_strong, f_corrupted, f_valueLanes, f_echoLanes, f_exchangeLanes, f_proposeLanes, f_kingLanes, f_wideLanes, f_narrowLanes, f_runningLanes, f_kingBits, f_dueSome, f_sum0, f_sum1, f_sum2, f_ledgerHead, f_ledgerSize, a_rounds, a_planes, a_policies, a_dictSet, a_dictSome, a_dictPlanes, a_splitPlanes, a_duePlanes, a_sentSome, a_sentPlanes, a_match, a_ledgerInstance, a_ledgerValue, a_ledgerTainted) L := by
  refine pv_l3 (fun n i s o p => wX_withdraw_2 post L n (nI i) f_allLanes f_firstLanes f_oddLanes f_sevenNodes f_instances f_values f_defaultValue f_firstKing f_tainted f_echoSome f_candidateSome f_bits f_proposalSome f_proposalOne f_strong f_corrupted f_valueLanes f_echoLanes f_exchangeLanes f_proposeLanes f_kingLanes f_wideLanes f_narrowLanes f_runningLanes f_kingBits f_dueSome f_sum0 f_sum1 f_sum2 f_ledgerHead f_ledgerSize a_rounds a_planes a_policies s o p a_splitPlanes a_duePlanes a_sentSome a_sentPlanes a_match a_ledgerInstance a_ledgerValue a_ledgerTainted) (fun i s o p => s = pv_mk L a_dictSet i ∧ o = pv_mk L a_dictSome i ∧ p = pv_mk L a_dictPlanes (4 * i)) 7 a_dictSet a_dictSome a_dictPlanes ⟨(pv_mk0 _ _).symm, (pv_mk0 _ _).symm, (pv_mk0 _ _).symm⟩ ?_ ?_
  · rintro n s o p ⟨rfl, rfl, rfl⟩
    exact br_t pv_77 h
  · rintro n i s o p hi ⟨rfl, rfl, rfl⟩ K
    refine br_f (pv_n7 hi) (xw_wf hi ?_)
    intro x e
    obtain rfl := e.trans (nI_1 i)
    exact K _ _ _ ⟨pv_mks _ _ _, pv_mks _ _ _, pv_mkb _ _ _⟩
theorem xw_mw {post : Int32 → Prop} {f : Nat} (hf : f < 7) {c : Int32} (h : post (pv_mt a_sentSome a_sentPlanes f c)) : wpX_matchWord post (f_allLanes, f_firstLanes, f_oddLanes, f_sevenNodes, f_instances, f_values, f_defaultValue, f_firstKing, f_tainted, f_echoSome, f_candidateSome, f_bits, f_proposalSome, f_proposalOne, f_strong, f_corrupted, f_valueLanes, f_echoLanes, f_exchangeLanes, f_proposeLanes, f_kingLanes, f_wideLanes, f_narrowLanes, f_runningLanes, f_kingBits, f_dueSome, f_sum0, f_sum1, f_sum2, f_ledgerHead, f_ledgerSize, a_rounds, a_planes, a_policies, a_dictSet, a_dictSome, a_dictPlanes, a_splitPlanes, a_duePlanes, a_sentSome, a_sentPlanes, a_match, a_ledgerInstance, a_ledgerValue, a_ledgerTainted) (nI f) c := by
  have hv : vp_in (nI f) 7 := vp_in_nI hf (by decide)
  have hc : (nI f).toNatClampNeg = f := nI_clamp (by omega)
  unfold pv_mt at h
  refine br_c (fun z => ⟨hv, fun x ex => ?_⟩) (fun z => ⟨hv, ?_⟩)
  · rw [if_pos z] at h
    rw [hc] at ex
    subst ex
    refine pv_l1 (fun n i s => wX_matchWord_26 post (nI f) c f_allLanes f_firstLanes f_oddLanes f_sevenNodes f_instances f_values f_defaultValue f_firstKing f_tainted f_echoSome f_candidateSome f_bits f_proposalSome f_proposalOne f_strong f_corrupted f_valueLanes f_echoLanes f_exchangeLanes f_proposeLanes f_kingLanes f_wideLanes f_narrowLanes f_runningLanes f_kingBits f_dueSome f_sum0 f_sum1 f_sum2 f_ledgerHead f_ledgerSize a_rounds a_planes a_policies a_dictSet a_dictSome a_dictPlanes a_splitPlanes a_duePlanes a_sentSome a_sentPlanes a_match a_ledgerInstance a_ledgerValue a_ledgerTainted n s (nI i)) (fun i s => s = pv_mw a_sentSome a_sentPlanes f c i) 4 (a_sentSome f) rfl ?_ ?_
    · intro n s hs
      subst hs
      exact br_t pv_44 h
    · intro n i s hi hs K
      subst hs
      refine br_f (pv_n4 hi) ⟨pv_in4 (by omega) (by decide), fun x5 e5 => pv_b1 (by omega) (fun hb s' es x e => ?_) (fun hb s' es x e => ?_)⟩
      · obtain rfl := e.trans (nI_1 i)
        refine K s' ?_
        rw [es, e5, pv_cl4 (by omega)]
        show _ = if bt c i then _ else _
        rw [if_pos hb]
      · obtain rfl := e.trans (nI_1 i)
        refine K s' ?_
        rw [es, e5, pv_cl4 (by omega)]
        show _ = if bt c i then _ else _
        rw [hb, if_neg (by decide)]
  · rw [if_neg z] at h
    rw [hc]
    exact h
theorem xw_cc {post : SX → Prop} {c : Int32} (hc : pv_ok c) (h : ∀ m s0 s1 s2, pv_CS a_sentSome a_sentPlanes c s0 s1 s2 → post (f_allLanes, f_firstLanes, f_oddLanes, f_sevenNodes, f_instances, f_values, f_defaultValue, f_firstKing, f_tainted, f_echoSome, f_candidateSome, f_bits, f_proposalSome, f_proposalOne, f_strong, f_corrupted, f_valueLanes, f_echoLanes, f_exchangeLanes, f_proposeLanes, f_kingLanes, f_wideLanes, f_narrowLanes, f_runningLanes, f_kingBits, f_dueSome, s0, s1, s2, f_ledgerHead, f_ledgerSize, a_rounds, a_planes, a_policies, a_dictSet, a_dictSome, a_dictPlanes, a_splitPlanes, a_duePlanes, a_sentSome, a_sentPlanes, m, a_ledgerInstance, a_ledgerValue, a_ledgerTainted)) : wpX_countContent post (f_allLanes, f_firstLanes, f_oddLanes, f_sevenNodes, f_instances, f_values, f_defaultValue, f_firstKing, f_tainted, f_echoSome, f_candidateSome, f_bits, f_proposalSome, f_proposalOne, f_strong, f_corrupted, f_valueLanes, f_echoLanes, f_exchangeLanes, f_proposeLanes, f_kingLanes, f_wideLanes, f_narrowLanes, f_runningLanes, f_kingBits, f_dueSome, f_sum0, f_sum1, f_sum2, f_ledgerHead, f_ledgerSize, a_rounds, a_planes, a_policies, a_dictSet, a_dictSome, a_dictPlanes, a_splitPlanes, a_duePlanes, a_sentSome, a_sentPlanes, a_match, a_ledgerInstance, a_ledgerValue, a_ledgerTainted) c := by
  refine pv_l1 (fun n i s => wX_countContent_2 post c f_allLanes f_firstLanes f_oddLanes f_sevenNodes f_instances f_values f_defaultValue f_firstKing f_tainted f_echoSome f_candidateSome f_bits f_proposalSome f_proposalOne f_strong f_corrupted f_valueLanes f_echoLanes f_exchangeLanes f_proposeLanes f_kingLanes f_wideLanes f_narrowLanes f_runningLanes f_kingBits f_dueSome f_sum0 f_sum1 f_sum2 f_ledgerHead f_ledgerSize n (nI i) a_rounds a_planes a_policies a_dictSet a_dictSome a_dictPlanes a_splitPlanes a_duePlanes a_sentSome a_sentPlanes s a_ledgerInstance a_ledgerValue a_ledgerTainted) (fun i s => s = pv_mm (fun f => pv_mt a_sentSome a_sentPlanes f c) a_match i) 7 a_match (pv_mm0 _ _).symm ?_ ?_
  · intro n s hs
    have H := pv_CS7 a_sentSome a_sentPlanes a_match hc
    rw [← hs] at H
    have h' := h s _ _ _ H
    refine br_t pv_77 ?_
    intro x2 e2 x3 e3 x4 e4 x5 e5 x6 e6 x7 e7 x8 e8 z0 ez0 x9 e9 x10 e10 z1 ez1 z2 ez2
    subst e2 e3 e4 e5 e6 e7 e8 ez0 e9 e10 ez1 ez2
    exact h'
  · intro n i s hi hs K
    refine br_f (pv_n7 hi) (xw_mw hi ⟨vp_in_nI hi (by decide), fun a' ea x e => ?_⟩)
    obtain rfl := e.trans (nI_1 i)
    refine K a' ?_
    rw [ea, nI_clamp (by omega : i < 2 ^ 31), hs]
    exact pv_mms _ _ _ rfl
end
end
section
/-! sorting the lanes; forming the messages -/
theorem pv_ir_f {x : Int32} (h : pv_ir x = false) : pv_iv x = false ∧ pv_ie x = false ∧ pv_ix x = false ∧ pv_ip x = false ∧ pv_ik x = false := by
  unfold pv_ir at h
  revert h
  cases pv_iv x <;> cases pv_ie x <;> cases pv_ix x <;> cases pv_ip x <;> cases pv_ik x <;> simp
theorem pv_LNn {rd : Nat → Int32} {FK m : Nat} {v e x p k b : Int32} (H : pv_LN rd FK m v e x p k b) (hr : pv_ir (rd m) = false) : pv_LN rd FK (m + 1) v e x p k b := by
  obtain ⟨a1, a2, a3, a4, a5, a6⟩ := H
  obtain ⟨b1, b2, b3, b4, b5⟩ := pv_ir_f hr
  exact ⟨pv_L1n a1 b1, pv_L1n a2 b2, pv_L1n a3 b3, pv_L1n a4 b4, pv_L1n a5 b5, pv_LKn a6 b5⟩
theorem pv_kd0 : pv_iv (nI 0) = true ∧ pv_ie (nI 0) = false ∧ pv_ix (nI 0) = false ∧ pv_ip (nI 0) = false ∧ pv_ik (nI 0) = false := by decide +kernel
theorem pv_kd1 : pv_iv (nI 1) = false ∧ pv_ie (nI 1) = true ∧ pv_ix (nI 1) = false ∧ pv_ip (nI 1) = false ∧ pv_ik (nI 1) = false := by decide +kernel
theorem pv_kd2 : ∀ R, R < 11 → 2 ≤ R → (R - 2) % 3 = 0 → pv_iv (nI R) = false ∧ pv_ie (nI R) = false ∧ pv_ix (nI R) = true ∧ pv_ip (nI R) = false ∧ pv_ik (nI R) = false := by decide +kernel
theorem pv_kd3 : ∀ R, R < 11 → 2 ≤ R → (R - 2) % 3 = 1 → pv_iv (nI R) = false ∧ pv_ie (nI R) = false ∧ pv_ix (nI R) = false ∧ pv_ip (nI R) = true ∧ pv_ik (nI R) = false := by decide +kernel
theorem pv_kd4' : ∀ R, R < 11 → 2 ≤ R → (R - 2) % 3 = 2 → pv_iv (nI R) = false ∧ pv_ie (nI R) = false ∧ pv_ix (nI R) = false ∧ pv_ip (nI R) = false ∧ pv_ik (nI R) = true := by decide +kernel
theorem pv_kd4 (R : Nat) (h : R < 11) (h2 : 2 ≤ R) (a : (R - 2) % 3 ≠ 0) (b : (R - 2) % 3 ≠ 1) : pv_iv (nI R) = false ∧ pv_ie (nI R) = false ∧ pv_ix (nI R) = false ∧ pv_ip (nI R) = false ∧ pv_ik (nI R) = true := pv_kd4' R h h2 (by omega)
section
variable {f_allLanes f_firstLanes f_oddLanes f_sevenNodes f_instances f_values f_defaultValue f_firstKing f_tainted f_echoSome f_candidateSome f_bits f_proposalSome f_proposalOne f_strong f_corrupted f_valueLanes f_echoLanes f_exchangeLanes f_proposeLanes f_kingLanes f_wideLanes f_narrowLanes f_runningLanes f_kingBits f_dueSome f_sum0 f_sum1 f_sum2 f_ledgerHead f_ledgerSize : Int32} {a_rounds a_planes a_policies a_dictSet a_dictSome a_dictPlanes a_splitPlanes a_duePlanes a_sentSome a_sentPlanes a_match a_ledgerInstance a_ledgerValue a_ledgerTainted : Nat → Int32}
theorem xw_si {post : SX → Prop} {FK i R : Nat} (hi : i < 4) (hF : FK < 7) (hR : a_rounds i = nI R) (hR11 : R < 11)
    (h0 : R = 0 → post (f_allLanes, f_firstLanes, f_oddLanes, f_sevenNodes, f_instances, f_values, f_defaultValue, nI FK, f_tainted, f_echoSome, f_candidateSome, f_bits, f_proposalSome, f_proposalOne, f_strong, f_corrupted, f_valueLanes ||| ((127 : Int32) <<< (8 * nI i &&& 31)), f_echoLanes, f_exchangeLanes, f_proposeLanes, f_kingLanes, f_wideLanes, f_narrowLanes, f_runningLanes, f_kingBits, f_dueSome, f_sum0, f_sum1, f_sum2, f_ledgerHead, f_ledgerSize, a_rounds, a_planes, a_policies, a_dictSet, a_dictSome, a_dictPlanes, a_splitPlanes, a_duePlanes, a_sentSome, a_sentPlanes, a_match, a_ledgerInstance, a_ledgerValue, a_ledgerTainted))
    (h1 : R = 1 → post (f_allLanes, f_firstLanes, f_oddLanes, f_sevenNodes, f_instances, f_values, f_defaultValue, nI FK, f_tainted, f_echoSome, f_candidateSome, f_bits, f_proposalSome, f_proposalOne, f_strong, f_corrupted, f_valueLanes, f_echoLanes ||| ((127 : Int32) <<< (8 * nI i &&& 31)), f_exchangeLanes, f_proposeLanes, f_kingLanes, f_wideLanes, f_narrowLanes, f_runningLanes, f_kingBits, f_dueSome, f_sum0, f_sum1, f_sum2, f_ledgerHead, f_ledgerSize, a_rounds, a_planes, a_policies, a_dictSet, a_dictSome, a_dictPlanes, a_splitPlanes, a_duePlanes, a_sentSome, a_sentPlanes, a_match, a_ledgerInstance, a_ledgerValue, a_ledgerTainted))
    (h2 : 2 ≤ R → (R - 2) % 3 = 0 → post (f_allLanes, f_firstLanes, f_oddLanes, f_sevenNodes, f_instances, f_values, f_defaultValue, nI FK, f_tainted, f_echoSome, f_candidateSome, f_bits, f_proposalSome, f_proposalOne, f_strong, f_corrupted, f_valueLanes, f_echoLanes, f_exchangeLanes ||| ((127 : Int32) <<< (8 * nI i &&& 31)), f_proposeLanes, f_kingLanes, f_wideLanes, f_narrowLanes, f_runningLanes, f_kingBits, f_dueSome, f_sum0, f_sum1, f_sum2, f_ledgerHead, f_ledgerSize, a_rounds, a_planes, a_policies, a_dictSet, a_dictSome, a_dictPlanes, a_splitPlanes, a_duePlanes, a_sentSome, a_sentPlanes, a_match, a_ledgerInstance, a_ledgerValue, a_ledgerTainted))
    (h3 : 2 ≤ R → (R - 2) % 3 = 1 → post (f_allLanes, f_firstLanes, f_oddLanes, f_sevenNodes, f_instances, f_values, f_defaultValue, nI FK, f_tainted, f_echoSome, f_candidateSome, f_bits, f_proposalSome, f_proposalOne, f_strong, f_corrupted, f_valueLanes, f_echoLanes, f_exchangeLanes, f_proposeLanes ||| ((127 : Int32) <<< (8 * nI i &&& 31)), f_kingLanes, f_wideLanes, f_narrowLanes, f_runningLanes, f_kingBits, f_dueSome, f_sum0, f_sum1, f_sum2, f_ledgerHead, f_ledgerSize, a_rounds, a_planes, a_policies, a_dictSet, a_dictSome, a_dictPlanes, a_splitPlanes, a_duePlanes, a_sentSome, a_sentPlanes, a_match, a_ledgerInstance, a_ledgerValue, a_ledgerTainted))
    (h4 : 2 ≤ R → (R - 2) % 3 ≠ 0 → (R - 2) % 3 ≠ 1 → post (f_allLanes, f_firstLanes, f_oddLanes, f_sevenNodes, f_instances, f_values, f_defaultValue, nI FK, f_tainted, f_echoSome, f_candidateSome, f_bits, f_proposalSome, f_proposalOne, f_strong, f_corrupted, f_valueLanes, f_echoLanes, f_exchangeLanes, f_proposeLanes, f_kingLanes ||| ((127 : Int32) <<< (8 * nI i &&& 31)), f_wideLanes, f_narrowLanes, f_runningLanes, f_kingBits ||| ((1 : Int32) <<< (8 * nI i + nI (pv_kg FK i R) &&& 31)), f_dueSome, f_sum0, f_sum1, f_sum2, f_ledgerHead, f_ledgerSize, a_rounds, a_planes, a_policies, a_dictSet, a_dictSome, a_dictPlanes, a_splitPlanes, a_duePlanes, a_sentSome, a_sentPlanes, a_match, a_ledgerInstance, a_ledgerValue, a_ledgerTainted)) : wpX_sortInstance post (f_allLanes, f_firstLanes, f_oddLanes, f_sevenNodes, f_instances, f_values, f_defaultValue, nI FK, f_tainted, f_echoSome, f_candidateSome, f_bits, f_proposalSome, f_proposalOne, f_strong, f_corrupted, f_valueLanes, f_echoLanes, f_exchangeLanes, f_proposeLanes, f_kingLanes, f_wideLanes, f_narrowLanes, f_runningLanes, f_kingBits, f_dueSome, f_sum0, f_sum1, f_sum2, f_ledgerHead, f_ledgerSize, a_rounds, a_planes, a_policies, a_dictSet, a_dictSome, a_dictPlanes, a_splitPlanes, a_duePlanes, a_sentSome, a_sentPlanes, a_match, a_ledgerInstance, a_ledgerValue, a_ledgerTainted) (nI i) := by
  intro x2 e2
  refine ⟨vp_in_nI hi (by decide), fun x3 e3 => ?_⟩
  rw [nI_clamp (by omega : i < 2 ^ 31), hR] at e3
  subst e2 e3
  refine pk_eq R 0 (fun z => nm_e (h0 z)) (fun z => pk_eq R 1 (fun y => nm_e (h1 y)) (fun y => ⟨by decide, fun x4 e4 => ?_⟩))
  rw [pv_stepI (by omega) hR11] at e4
  subst e4
  refine pk_eq ((R - 2) % 3) 0 (fun c => nm_e (h2 (by omega) c)) (fun c => pk_eq ((R - 2) % 3) 1 (fun d => nm_e (h3 (by omega) d)) (fun d => xw_kgo hi ?_))
  rw [hR, pv_kgo_R hF hi (by omega) hR11]
  exact nm_e (nm_e (h4 (by omega) c d))
theorem xw_sl {post : SX → Prop} {NI FK : Nat} (hN : NI ≤ 4) (hF : FK < 7) (hk : ∀ i, i < 4 → pv_rk (a_rounds i))
    (h : ∀ v e x p k b, pv_LN a_rounds FK NI v e x p k b → post (f_allLanes, f_firstLanes, f_oddLanes, f_sevenNodes, nI NI, f_values, f_defaultValue, nI FK, f_tainted, f_echoSome, f_candidateSome, f_bits, f_proposalSome, f_proposalOne, f_strong, f_corrupted, v, e, x, p, k, v ||| e, (x ||| p) ||| k, (v ||| e) ||| ((x ||| p) ||| k), b, f_dueSome, f_sum0, f_sum1, f_sum2, f_ledgerHead, f_ledgerSize, a_rounds, a_planes, a_policies, a_dictSet, a_dictSome, a_dictPlanes, a_splitPlanes, a_duePlanes, a_sentSome, a_sentPlanes, a_match, a_ledgerInstance, a_ledgerValue, a_ledgerTainted)) : wpX_sortLanes post (f_allLanes, f_firstLanes, f_oddLanes, f_sevenNodes, nI NI, f_values, f_defaultValue, nI FK, f_tainted, f_echoSome, f_candidateSome, f_bits, f_proposalSome, f_proposalOne, f_strong, f_corrupted, f_valueLanes, f_echoLanes, f_exchangeLanes, f_proposeLanes, f_kingLanes, f_wideLanes, f_narrowLanes, f_runningLanes, f_kingBits, f_dueSome, f_sum0, f_sum1, f_sum2, f_ledgerHead, f_ledgerSize, a_rounds, a_planes, a_policies, a_dictSet, a_dictSome, a_dictPlanes, a_splitPlanes, a_duePlanes, a_sentSome, a_sentPlanes, a_match, a_ledgerInstance, a_ledgerValue, a_ledgerTainted) := by
  refine pv_l6 (fun n i v e x p k b => wX_sortLanes_32 post n (nI i) f_allLanes f_firstLanes f_oddLanes f_sevenNodes (nI NI) f_values f_defaultValue (nI FK) f_tainted f_echoSome f_candidateSome f_bits f_proposalSome f_proposalOne f_strong f_corrupted v e x p k f_wideLanes f_narrowLanes f_runningLanes b f_dueSome f_sum0 f_sum1 f_sum2 f_ledgerHead f_ledgerSize a_rounds a_planes a_policies a_dictSet a_dictSome a_dictPlanes a_splitPlanes a_duePlanes a_sentSome a_sentPlanes a_match a_ledgerInstance a_ledgerValue a_ledgerTainted) (fun i v e x p k b => pv_LN a_rounds FK i v e x p k b) NI 0 0 0 0 0 0 ⟨pv_L10 _ _, pv_L10 _ _, pv_L10 _ _, pv_L10 _ _, pv_L10 _ _, pv_LK0 _ _⟩ ?_ ?_
  · intro n v e x p k b H
    refine br_t (nI_le (Nat.le_refl _) (by omega)) ?_
    intro w ew nr en rn er
    subst ew en er
    exact h v e x p k b H
  · intro n i v e x p k b hi H K
    refine br_f (nI_ge hi (by omega)) (xw_run (by omega) (hk i (by omega)) (fun hr => br_f (by decide) ?_) (fun hr => br_t rfl ?_))
    · obtain ⟨R, hR, eR⟩ := pv_ir_t (hk i (by omega)) hr
      obtain ⟨a1, a2, a3, a4, a5, a6⟩ := H
      refine xw_si (R := R) (by omega) hF eR hR ?_ ?_ ?_ ?_ ?_
      · intro z x1 e1
        obtain rfl := e1.trans (nI_1 i)
        subst z
        obtain ⟨b1, b2, b3, b4, b5⟩ := pv_kd0
        rw [← eR] at b1 b2 b3 b4 b5
        exact K _ _ _ _ _ _ ⟨pv_L1y (by omega) a1 b1, pv_L1n a2 b2, pv_L1n a3 b3, pv_L1n a4 b4, pv_L1n a5 b5, pv_LKn a6 b5⟩
      · intro z x1 e1
        obtain rfl := e1.trans (nI_1 i)
        subst z
        obtain ⟨b1, b2, b3, b4, b5⟩ := pv_kd1
        rw [← eR] at b1 b2 b3 b4 b5
        exact K _ _ _ _ _ _ ⟨pv_L1n a1 b1, pv_L1y (by omega) a2 b2, pv_L1n a3 b3, pv_L1n a4 b4, pv_L1n a5 b5, pv_LKn a6 b5⟩
      · intro z y x1 e1
        obtain rfl := e1.trans (nI_1 i)
        obtain ⟨b1, b2, b3, b4, b5⟩ := pv_kd2 R hR z y
        rw [← eR] at b1 b2 b3 b4 b5
        exact K _ _ _ _ _ _ ⟨pv_L1n a1 b1, pv_L1n a2 b2, pv_L1y (by omega) a3 b3, pv_L1n a4 b4, pv_L1n a5 b5, pv_LKn a6 b5⟩
      · intro z y x1 e1
        obtain rfl := e1.trans (nI_1 i)
        obtain ⟨b1, b2, b3, b4, b5⟩ := pv_kd3 R hR z y
        rw [← eR] at b1 b2 b3 b4 b5
        exact K _ _ _ _ _ _ ⟨pv_L1n a1 b1, pv_L1n a2 b2, pv_L1n a3 b3, pv_L1y (by omega) a4 b4, pv_L1n a5 b5, pv_LKn a6 b5⟩
      · intro z y y' x1 e1
        obtain rfl := e1.trans (nI_1 i)
        obtain ⟨b1, b2, b3, b4, b5⟩ := pv_kd4 R hR z y y'
        rw [← eR] at b1 b2 b3 b4 b5
        exact K _ _ _ _ _ _ ⟨pv_L1n a1 b1, pv_L1n a2 b2, pv_L1n a3 b3, pv_L1n a4 b4, pv_L1y (by omega) a5 b5, pv_LKy (by omega) a6 b5 (pv_kg_lt _ _ _) (by rw [eR]; exact pv_kgI hF (by omega) z hR)⟩
    · intro x1 e1
      obtain rfl := e1.trans (nI_1 i)
      exact K _ _ _ _ _ _ (pv_LNn H hr)
end
/-! the due messages -/
def pv_ds (v e es x kb ps p : Int32) : Int32 := ((v ||| (es &&& e)) ||| (x ||| kb)) ||| (ps &&& p)
def pv_dpg (pl : Nat → Int32) (v e : Int32) (k : Nat) : Int32 := (pl k &&& v) ||| (pl (4 + k) &&& e)
def pv_dp (pl a : Nat → Int32) (v e x kb p bits po : Int32) : Nat → Int32 := upd (pv_bl 0 (pv_dpg pl v e) a 4) 0 ((pv_bl 0 (pv_dpg pl v e) a 4 0) ||| ((bits &&& (x ||| kb)) ||| (po &&& p)))
theorem pv_dp_rd (pl a : Nat → Int32) (v e x kb p bits po : Int32) (l : Nat) : pv_rd (pv_dp pl a v e x kb p bits po) 0 l = pv_e (((bt (pl 0) l && bt v l) || (bt (pl 4) l && bt e l)) || ((bt bits l && (bt x l || bt kb l)) || (bt po l && bt p l))) ((bt (pl 1) l && bt v l) || (bt (pl 5) l && bt e l)) ((bt (pl 2) l && bt v l) || (bt (pl 6) l && bt e l)) ((bt (pl 3) l && bt v l) || (bt (pl 7) l && bt e l)) := by
  have z0 : pv_bl 0 (pv_dpg pl v e) a 4 0 = pv_dpg pl v e 0 := pv_blg (B := 0) (k := 0) (by decide)
  have z1 : pv_bl 0 (pv_dpg pl v e) a 4 (0 + 1) = pv_dpg pl v e 1 := pv_blg (B := 0) (k := 1) (by decide)
  have z2 : pv_bl 0 (pv_dpg pl v e) a 4 (0 + 2) = pv_dpg pl v e 2 := pv_blg (B := 0) (k := 2) (by decide)
  have z3 : pv_bl 0 (pv_dpg pl v e) a 4 (0 + 3) = pv_dpg pl v e 3 := pv_blg (B := 0) (k := 3) (by decide)
  unfold pv_rd pv_dp
  rw [pk_us, pk_un (by decide), pk_un (by decide), pk_un (by decide), z0, z1, z2, z3]
  unfold pv_dpg
  simp only [b_or, b_and]
/-! one sender's stages: every lane has a bit S and a value P -/
def pv_FI (f : Nat) (ss sp ss1 sp1 : Nat → Int32) (S : Nat → Nat → Bool) (P : Nat → Nat → Nat) : Prop := (∀ g, g ≠ f → ss1 g = ss g) ∧ (∀ j, (j < 4 * f ∨ 4 * f + 4 ≤ j) → sp1 j = sp j) ∧ ∀ i, i < 4 → ∀ n, n < 7 → bt (ss1 f) (8 * i + n) = S i n ∧ pv_rd sp1 (4 * f) (8 * i + n) = P i n
def pv_sprW (w : Int32) (f : Nat) : Int32 := (((w.toUInt32 >>> ((nI f).toUInt32 &&& Int32.toUInt32 31)).toInt32) &&& 16843009) * 127
theorem pv_FI0 (ss sp dp : Nat → Int32) (ds : Int32) {f : Nat} (hf : f < 7) : pv_FI f ss sp (upd ss f (pv_sprW ds f)) (pv_bl (4 * f) (fun k => pv_sprW (dp k) f) sp 4) (fun i _ => bt ds (8 * i + f)) (fun i _ => pv_rd dp 0 (8 * i + f)) := by
  refine ⟨fun g hg => pk_un hg, fun j hj => pv_blo hj, fun i hi n hn => ⟨?_, ?_⟩⟩
  · rw [pk_us]
    unfold pv_sprW
    rw [pv_spr _ hf hi (by omega), decide_eq_true hn, Bool.true_and]
  · refine pv_rd_cg (fun k hk => ?_)
    rw [pv_blg hk]
    show bt (pv_sprW (dp k) f) _ = _
    unfold pv_sprW
    rw [pv_spr _ hf hi (by omega), decide_eq_true hn, Bool.true_and, Nat.zero_add]
theorem pv_FI_tr {f : Nat} {ss sp ss1 sp1 ss2 sp2 : Nat → Int32} {S : Nat → Nat → Bool} {P : Nat → Nat → Nat} {S' : Nat → Nat → Bool} {P' : Nat → Nat → Nat} (h : pv_FI f ss sp ss1 sp1 S P) (h' : pv_FI f ss1 sp1 ss2 sp2 S' P') : pv_FI f ss sp ss2 sp2 S' P' :=
  ⟨fun g hg => (h'.1 g hg).trans (h.1 g hg), fun j hj => (h'.2.1 j hj).trans (h.2.1 j hj), h'.2.2⟩
theorem pv_FI_cg {f : Nat} {ss sp ss1 sp1 : Nat → Int32} {S S' : Nat → Nat → Bool} {P P' : Nat → Nat → Nat} (h : pv_FI f ss sp ss1 sp1 S P) (hS : ∀ i, i < 4 → ∀ n, n < 7 → S i n = S' i n) (hP : ∀ i, i < 4 → ∀ n, n < 7 → P i n = P' i n) : pv_FI f ss sp ss1 sp1 S' P' :=
  ⟨h.1, h.2.1, fun i hi n hn => ⟨(h.2.2 i hi n hn).1.trans (hS i hi n hn), (h.2.2 i hi n hn).2.trans (hP i hi n hn)⟩⟩
/-! silence -/
theorem pv_FIsil (ss sp : Nat → Int32) (f : Nat) : pv_FI f ss sp (upd ss f 0) (pv_bl (4 * f) (fun _ => 0) sp 4) (fun _ _ => false) (fun _ _ => 0) :=
  ⟨fun g hg => pk_un hg, fun j hj => pv_blo hj, fun i hi n hn => ⟨by rw [pk_us, b_0], pv_rd_0 (fun k hk => by rw [pv_blg hk]; exact b_0 _)⟩⟩
/-! split -/
def pv_spp (sw sp : Nat → Int32) (wd nr : Int32) (f : Nat) : Nat → Int32 := upd (pv_bl (4 * f) (fun k => sw k &&& wd) sp 4) (4 * f) ((pv_bl (4 * f) (fun k => sw k &&& wd) sp 4 (4 * f)) ||| (707406378 &&& nr))
def pv_spv (sw : Nat → Int32) (wd nr : Int32) (i n : Nat) : Nat := pv_e ((bt (sw 0) (8 * i + n) && bt wd (8 * i + n)) || (decide (n % 2 = 1) && bt nr (8 * i + n))) (bt (sw 1) (8 * i + n) && bt wd (8 * i + n)) (bt (sw 2) (8 * i + n) && bt wd (8 * i + n)) (bt (sw 3) (8 * i + n) && bt wd (8 * i + n))
theorem pv_FIspl (ss sp sw : Nat → Int32) (rn wd nr : Int32) (f : Nat) : pv_FI f ss sp (upd ss f rn) (pv_spp sw sp wd nr f) (fun i n => bt rn (8 * i + n)) (fun i n => pv_spv sw wd nr i n) := by
  refine ⟨fun g hg => pk_un hg, fun j hj => ?_, fun i hi n hn => ⟨by rw [pk_us], ?_⟩⟩
  · unfold pv_spp
    rw [pk_un (by omega), pv_blo hj]
  · have z0 : pv_bl (4 * f) (fun k => sw k &&& wd) sp 4 (4 * f) = sw 0 &&& wd := pv_blg (B := 4 * f) (k := 0) (by decide)
    have z1 : pv_bl (4 * f) (fun k => sw k &&& wd) sp 4 (4 * f + 1) = sw 1 &&& wd := pv_blg (B := 4 * f) (k := 1) (by decide)
    have z2 : pv_bl (4 * f) (fun k => sw k &&& wd) sp 4 (4 * f + 2) = sw 2 &&& wd := pv_blg (B := 4 * f) (k := 2) (by decide)
    have z3 : pv_bl (4 * f) (fun k => sw k &&& wd) sp 4 (4 * f + 3) = sw 3 &&& wd := pv_blg (B := 4 * f) (k := 3) (by decide)
    unfold pv_rd pv_spp pv_spv
    rw [pk_us, pk_un (by omega), pk_un (by omega), pk_un (by omega), z0, z1, z2, z3]
    simp only [b_or, b_and, pv_od i hi n (by omega), decide_eq_true hn, Bool.true_and]
/-! invert -/
def pv_top (ss sp : Nat → Int32) (f NV : Nat) (wd nr : Int32) : Int32 := (pv_mt ss sp f (nI (NV - 1)) &&& wd) ||| (pv_mt ss sp f (nI 1) &&& nr)
def pv_kp (ss sp : Nat → Int32) (f NV : Nat) (wd nr : Int32) : Int32 := ss f &&& (pv_top ss sp f NV wd nr ^^^ (-1))
def pv_cy (sp : Nat → Int32) (f : Nat) (kp : Int32) : Nat → Int32
  | 0 => kp
  | k + 1 => pv_cy sp f kp k &&& sp (4 * f + k)
def pv_ivg (sp : Nat → Int32) (f : Nat) (kp : Int32) (k : Nat) : Int32 := (sp (4 * f + k) ^^^ pv_cy sp f kp k) &&& kp
def pv_inc (S : Bool) (P NV : Nat) (wd nr : Bool) : Nat := if S && !((decide (P = NV - 1) && wd) || (decide (P = 1) && nr)) then (P + 1) % 16 else 0
theorem pv_incb : ∀ a b c d : Bool, pv_e ((a ^^ true) && true) ((b ^^ (true && a)) && true) ((c ^^ ((true && a) && b)) && true) ((d ^^ (((true && a) && b) && c)) && true) = (pv_e a b c d + 1) % 16 := by decide
theorem pv_inc0 : ∀ a b c d : Bool, pv_e ((a ^^ false) && false) ((b ^^ (false && a)) && false) ((c ^^ ((false && a) && b)) && false) ((d ^^ (((false && a) && b) && c)) && false) = 0 := by decide
theorem pv_kpb (ss sp : Nat → Int32) (f : Nat) {NV l : Nat} (wd nr : Int32) (hN : NV ≤ 16) (h0 : 0 < NV) (hl : l < 32) : bt (pv_kp ss sp f NV wd nr) l = (bt (ss f) l && !((decide (pv_rd sp (4 * f) l = NV - 1) && bt wd l) || (decide (pv_rd sp (4 * f) l = 1) && bt nr l))) := by
  have c1 : ∀ v, v < 16 → bt (pv_mt ss sp f (nI v)) l = (bt (ss f) l && decide (pv_rd sp (4 * f) l = v)) := by
    intro v hv
    unfold pv_mt
    rw [if_pos (nI_pos' (by omega)), pv_mw4 _ _ _ hv hl]
  unfold pv_kp pv_top
  rw [b_and, pv_not _ hl, b_or, b_and, b_and, c1 _ (by omega), c1 _ (by omega)]
  cases bt (ss f) l <;> simp
theorem pv_FIinv (ss sp : Nat → Int32) (rn wd nr : Int32) {f NV : Nat} (hN : NV ≤ 16) (h0 : 0 < NV) : pv_FI f ss sp (upd ss f rn) (pv_bl (4 * f) (pv_ivg sp f (pv_kp ss sp f NV wd nr)) sp 4) (fun i n => bt rn (8 * i + n)) (fun i n => pv_inc (bt (ss f) (8 * i + n)) (pv_rd sp (4 * f) (8 * i + n)) NV (bt wd (8 * i + n)) (bt nr (8 * i + n))) := by
  refine ⟨fun g hg => pk_un hg, fun j hj => pv_blo hj, fun i hi n hn => ⟨by rw [pk_us], ?_⟩⟩
  show _ = pv_inc _ _ _ _ _
  rw [pv_rd_bl]
  unfold pv_inc
  rw [← pv_kpb ss sp f wd nr hN h0 (by omega : 8 * i + n < 32)]
  generalize pv_kp ss sp f NV wd nr = kp
  have g0 : bt (pv_ivg sp f kp 0) (8 * i + n) = ((bt (sp (4 * f)) (8 * i + n) ^^ bt kp (8 * i + n)) && bt kp (8 * i + n)) := by
    unfold pv_ivg; rw [b_and, b_xor]; rfl
  have g1 : bt (pv_ivg sp f kp 1) (8 * i + n) = ((bt (sp (4 * f + 1)) (8 * i + n) ^^ (bt kp (8 * i + n) && bt (sp (4 * f)) (8 * i + n))) && bt kp (8 * i + n)) := by
    unfold pv_ivg; rw [b_and, b_xor]; show ((_ ^^ bt (kp &&& sp (4 * f)) _) && _) = _; rw [b_and]
  have g2 : bt (pv_ivg sp f kp 2) (8 * i + n) = ((bt (sp (4 * f + 2)) (8 * i + n) ^^ ((bt kp (8 * i + n) && bt (sp (4 * f)) (8 * i + n)) && bt (sp (4 * f + 1)) (8 * i + n))) && bt kp (8 * i + n)) := by
    unfold pv_ivg; rw [b_and, b_xor]; show ((_ ^^ bt ((kp &&& sp (4 * f)) &&& sp (4 * f + 1)) _) && _) = _; rw [b_and, b_and]
  have g3 : bt (pv_ivg sp f kp 3) (8 * i + n) = ((bt (sp (4 * f + 3)) (8 * i + n) ^^ (((bt kp (8 * i + n) && bt (sp (4 * f)) (8 * i + n)) && bt (sp (4 * f + 1)) (8 * i + n)) && bt (sp (4 * f + 2)) (8 * i + n))) && bt kp (8 * i + n)) := by
    unfold pv_ivg; rw [b_and, b_xor]; show ((_ ^^ bt (((kp &&& sp (4 * f)) &&& sp (4 * f + 1)) &&& sp (4 * f + 2)) _) && _) = _; rw [b_and, b_and, b_and]
  rw [g0, g1, g2, g3]
  unfold pv_rd
  cases bt kp (8 * i + n)
  · rw [if_neg (by decide)]; exact pv_inc0 _ _ _ _
  · rw [if_pos rfl]; exact pv_incb _ _ _ _
/-! overlay -/
def pv_alw (rn kl kb : Int32) (f : Nat) : Int32 := (rn &&& (kl ^^^ (-1))) ||| pv_sprW kb f
def pv_mrg (o f m : Int32) : Int32 := (o &&& (m ^^^ (-1))) ||| (f &&& m)
theorem pv_alb (rn kl kb : Int32) {f i n : Nat} (hf : f < 7) (hi : i < 4) (hn : n < 7) : bt (pv_alw rn kl kb f) (8 * i + n) = ((bt rn (8 * i + n) && !bt kl (8 * i + n)) || bt kb (8 * i + f)) := by
  unfold pv_alw pv_sprW
  rw [b_or, b_and, pv_not _ (by omega), pv_spr _ hf hi (by omega), decide_eq_true hn, Bool.true_and]
theorem pv_FIovl (ss sp dset dsome dpl : Nat → Int32) (rn kl kb : Int32) {f : Nat} (hf : f < 7) : pv_FI f ss sp (upd ss f (pv_mrg (ss f) (dsome f) (dset f) &&& pv_alw rn kl kb f)) (pv_bl (4 * f) (fun k => pv_mrg (sp (4 * f + k)) (dpl (4 * f + k)) (dset f) &&& pv_alw rn kl kb f) sp 4) (fun i n => (if bt (dset f) (8 * i + n) then bt (dsome f) (8 * i + n) else bt (ss f) (8 * i + n)) && ((bt rn (8 * i + n) && !bt kl (8 * i + n)) || bt kb (8 * i + f))) (fun i n => if ((bt rn (8 * i + n) && !bt kl (8 * i + n)) || bt kb (8 * i + f)) then (if bt (dset f) (8 * i + n) then pv_rd dpl (4 * f) (8 * i + n) else pv_rd sp (4 * f) (8 * i + n)) else 0) := by
  refine ⟨fun g hg => pk_un hg, fun j hj => pv_blo hj, fun i hi n hn => ⟨?_, ?_⟩⟩
  · rw [pk_us, b_and, pv_alb _ _ _ hf hi hn]
    unfold pv_mrg
    rw [pv_mg _ _ _ (by omega)]
  · have hb : ∀ k, k < 4 → bt (pv_bl (4 * f) (fun k => pv_mrg (sp (4 * f + k)) (dpl (4 * f + k)) (dset f) &&& pv_alw rn kl kb f) sp 4 (4 * f + k)) (8 * i + n) = ((if bt (dset f) (8 * i + n) then bt (dpl (4 * f + k)) (8 * i + n) else bt (sp (4 * f + k)) (8 * i + n)) && ((bt rn (8 * i + n) && !bt kl (8 * i + n)) || bt kb (8 * i + f))) := by
      intro k hk
      rw [pv_blg hk, b_and, pv_alb _ _ _ hf hi hn]
      unfold pv_mrg
      rw [pv_mg _ _ _ (by omega)]
    show _ = if _ then _ else _
    cases ca : ((bt rn (8 * i + n) && !bt kl (8 * i + n)) || bt kb (8 * i + f))
    · rw [if_neg (by decide)]
      exact pv_rd_0 (fun k hk => by rw [hb k hk, ca, Bool.and_false])
    · rw [if_pos rfl]
      cases cs : bt (dset f) (8 * i + n)
      · rw [if_neg (by decide)]
        exact pv_rd_cg (fun k hk => by rw [hb k hk, ca, cs, if_neg (by decide), Bool.and_true])
      · rw [if_pos rfl]
        exact pv_rd_cg (fun k hk => by rw [hb k hk, ca, cs, if_pos rfl, Bool.and_true])
end
section
/-! walks of the forming methods -/
/-- sender f's bit and value at lane (i, n), after forming -/
def pv_sS (ds cor rn kl kb : Int32) (pol dset dsome : Nat → Int32) (f i n : Nat) : Bool :=
  if bt cor f then (if bt (dset f) (8 * i + n) then bt (dsome f) (8 * i + n) else (if pol f = 1 then false else if pol f = 2 then bt rn (8 * i + n) else if pol f = 3 then bt rn (8 * i + n) else bt ds (8 * i + f))) && ((bt rn (8 * i + n) && !bt kl (8 * i + n)) || bt kb (8 * i + f))
  else bt ds (8 * i + f)
def pv_sP (ds cor rn kl kb wd nr : Int32) (pol dset dpl dp sw : Nat → Int32) (NV f i n : Nat) : Nat :=
  if bt cor f then (if ((bt rn (8 * i + n) && !bt kl (8 * i + n)) || bt kb (8 * i + f)) then (if bt (dset f) (8 * i + n) then pv_rd dpl (4 * f) (8 * i + n) else (if pol f = 1 then 0 else if pol f = 2 then pv_spv sw wd nr i n else if pol f = 3 then pv_inc (bt ds (8 * i + f)) (pv_rd dp 0 (8 * i + f)) NV (bt wd (8 * i + n)) (bt nr (8 * i + n)) else pv_rd dp 0 (8 * i + f))) else 0)
  else pv_rd dp 0 (8 * i + f)
section
variable {f_allLanes f_firstLanes f_oddLanes f_sevenNodes f_instances f_values f_defaultValue f_firstKing f_tainted f_echoSome f_candidateSome f_bits f_proposalSome f_proposalOne f_strong f_corrupted f_valueLanes f_echoLanes f_exchangeLanes f_proposeLanes f_kingLanes f_wideLanes f_narrowLanes f_runningLanes f_kingBits f_dueSome f_sum0 f_sum1 f_sum2 f_ledgerHead f_ledgerSize : Int32} {a_rounds a_planes a_policies a_dictSet a_dictSome a_dictPlanes a_splitPlanes a_duePlanes a_sentSome a_sentPlanes a_match a_ledgerInstance a_ledgerValue a_ledgerTainted : Nat → Int32}
theorem xw_fd {post : SX → Prop} (h : post (f_allLanes, f_firstLanes, f_oddLanes, f_sevenNodes, f_instances, f_values, f_defaultValue, f_firstKing, f_tainted, f_echoSome, f_candidateSome, f_bits, f_proposalSome, f_proposalOne, f_strong, f_corrupted, f_valueLanes, f_echoLanes, f_exchangeLanes, f_proposeLanes, f_kingLanes, f_wideLanes, f_narrowLanes, f_runningLanes, f_kingBits, pv_ds f_valueLanes f_echoLanes f_echoSome f_exchangeLanes f_kingBits f_proposalSome f_proposeLanes, f_sum0, f_sum1, f_sum2, f_ledgerHead, f_ledgerSize, a_rounds, a_planes, a_policies, a_dictSet, a_dictSome, a_dictPlanes, a_splitPlanes, pv_dp a_planes a_duePlanes f_valueLanes f_echoLanes f_exchangeLanes f_kingBits f_proposeLanes f_bits f_proposalOne, a_sentSome, a_sentPlanes, a_match, a_ledgerInstance, a_ledgerValue, a_ledgerTainted)) : wpX_formDue post (f_allLanes, f_firstLanes, f_oddLanes, f_sevenNodes, f_instances, f_values, f_defaultValue, f_firstKing, f_tainted, f_echoSome, f_candidateSome, f_bits, f_proposalSome, f_proposalOne, f_strong, f_corrupted, f_valueLanes, f_echoLanes, f_exchangeLanes, f_proposeLanes, f_kingLanes, f_wideLanes, f_narrowLanes, f_runningLanes, f_kingBits, f_dueSome, f_sum0, f_sum1, f_sum2, f_ledgerHead, f_ledgerSize, a_rounds, a_planes, a_policies, a_dictSet, a_dictSome, a_dictPlanes, a_splitPlanes, a_duePlanes, a_sentSome, a_sentPlanes, a_match, a_ledgerInstance, a_ledgerValue, a_ledgerTainted) := by
  intro x1 e1 d ed
  subst e1 ed
  refine pv_l1 (fun n i s => wX_formDue_42 post (f_exchangeLanes ||| f_kingBits) f_allLanes f_firstLanes f_oddLanes f_sevenNodes f_instances f_values f_defaultValue f_firstKing f_tainted f_echoSome f_candidateSome f_bits f_proposalSome f_proposalOne f_strong f_corrupted f_valueLanes f_echoLanes f_exchangeLanes f_proposeLanes f_kingLanes f_wideLanes f_narrowLanes f_runningLanes f_kingBits (pv_ds f_valueLanes f_echoLanes f_echoSome f_exchangeLanes f_kingBits f_proposalSome f_proposeLanes) f_sum0 f_sum1 f_sum2 f_ledgerHead f_ledgerSize n (nI i) a_rounds a_planes a_policies a_dictSet a_dictSome a_dictPlanes a_splitPlanes s a_sentSome a_sentPlanes a_match a_ledgerInstance a_ledgerValue a_ledgerTainted) (fun i s => s = pv_bl 0 (pv_dpg a_planes f_valueLanes f_echoLanes) a_duePlanes i) 4 a_duePlanes (pv_bl0 _ _ _).symm ?_ ?_
  · intro n s hs
    subst hs
    exact br_t pv_44 (nm_e h)
  · intro n i s hi hs K
    subst hs
    have e0 : (0 : Int32) + nI i = nI i := by show nI 0 + nI i = _; rw [nI_add, Nat.zero_add]
    have e4 : (4 : Int32) + nI i = nI (4 + i) := by show nI 4 + nI i = _; rw [nI_add]
    have hc : (nI i).toNatClampNeg = i := nI_clamp (by omega)
    have hc4 : (nI (4 + i)).toNatClampNeg = 4 + i := nI_clamp (by omega)
    refine br_f (pv_n4 hi) ⟨by rw [e0]; exact vp_in_nI (by omega) (by decide), by rw [e4]; exact vp_in_nI (by omega) (by decide), vp_in_nI hi (by decide), fun a' ea x e => ?_⟩
    obtain rfl := e.trans (nI_1 i)
    refine K a' ?_
    rw [e0, e4, hc, hc4] at ea
    rw [ea]
    have z := pv_bls 0 (pv_dpg a_planes f_valueLanes f_echoLanes) a_duePlanes i (x := pv_dpg a_planes f_valueLanes f_echoLanes i) rfl
    rw [Nat.zero_add] at z
    exact z
theorem xw_sil {post : SX → Prop} {f : Nat} (hf : f < 7) (h : post (f_allLanes, f_firstLanes, f_oddLanes, f_sevenNodes, f_instances, f_values, f_defaultValue, f_firstKing, f_tainted, f_echoSome, f_candidateSome, f_bits, f_proposalSome, f_proposalOne, f_strong, f_corrupted, f_valueLanes, f_echoLanes, f_exchangeLanes, f_proposeLanes, f_kingLanes, f_wideLanes, f_narrowLanes, f_runningLanes, f_kingBits, f_dueSome, f_sum0, f_sum1, f_sum2, f_ledgerHead, f_ledgerSize, a_rounds, a_planes, a_policies, a_dictSet, a_dictSome, a_dictPlanes, a_splitPlanes, a_duePlanes, upd a_sentSome f 0, pv_bl (4 * f) (fun _ => 0) a_sentPlanes 4, a_match, a_ledgerInstance, a_ledgerValue, a_ledgerTainted)) : wpX_silence post (f_allLanes, f_firstLanes, f_oddLanes, f_sevenNodes, f_instances, f_values, f_defaultValue, f_firstKing, f_tainted, f_echoSome, f_candidateSome, f_bits, f_proposalSome, f_proposalOne, f_strong, f_corrupted, f_valueLanes, f_echoLanes, f_exchangeLanes, f_proposeLanes, f_kingLanes, f_wideLanes, f_narrowLanes, f_runningLanes, f_kingBits, f_dueSome, f_sum0, f_sum1, f_sum2, f_ledgerHead, f_ledgerSize, a_rounds, a_planes, a_policies, a_dictSet, a_dictSome, a_dictPlanes, a_splitPlanes, a_duePlanes, a_sentSome, a_sentPlanes, a_match, a_ledgerInstance, a_ledgerValue, a_ledgerTainted) (nI f) := by
  refine And.intro (vp_in_nI hf (by decide)) fun s es => ?_
  rw [nI_clamp (by omega : f < 2 ^ 31)] at es
  subst es
  refine pv_l1 (fun n i s => wX_silence_9 post (nI f) f_allLanes f_firstLanes f_oddLanes f_sevenNodes f_instances f_values f_defaultValue f_firstKing f_tainted f_echoSome f_candidateSome f_bits f_proposalSome f_proposalOne f_strong f_corrupted f_valueLanes f_echoLanes f_exchangeLanes f_proposeLanes f_kingLanes f_wideLanes f_narrowLanes f_runningLanes f_kingBits f_dueSome f_sum0 f_sum1 f_sum2 f_ledgerHead f_ledgerSize n (nI i) a_rounds a_planes a_policies a_dictSet a_dictSome a_dictPlanes a_splitPlanes a_duePlanes (upd a_sentSome f 0) s a_match a_ledgerInstance a_ledgerValue a_ledgerTainted) (fun i s => s = pv_bl (4 * f) (fun _ => 0) a_sentPlanes i) 4 a_sentPlanes (pv_bl0 _ _ _).symm ?_ ?_
  · intro n s hs
    subst hs
    exact br_t pv_44 h
  · intro n i s hi hs K
    subst hs
    refine br_f (pv_n4 hi) ⟨pv_in4 (by omega) (by decide), fun a' ea x e => ?_⟩
    obtain rfl := e.trans (nI_1 i)
    refine K a' ?_
    rw [ea, pv_cl4 (by omega)]
    exact pv_bls _ _ _ _ rfl
theorem xw_spl {post : SX → Prop} {f : Nat} (hf : f < 7) (h : post (f_allLanes, f_firstLanes, f_oddLanes, f_sevenNodes, f_instances, f_values, f_defaultValue, f_firstKing, f_tainted, f_echoSome, f_candidateSome, f_bits, f_proposalSome, f_proposalOne, f_strong, f_corrupted, f_valueLanes, f_echoLanes, f_exchangeLanes, f_proposeLanes, f_kingLanes, f_wideLanes, f_narrowLanes, f_runningLanes, f_kingBits, f_dueSome, f_sum0, f_sum1, f_sum2, f_ledgerHead, f_ledgerSize, a_rounds, a_planes, a_policies, a_dictSet, a_dictSome, a_dictPlanes, a_splitPlanes, a_duePlanes, upd a_sentSome f f_runningLanes, pv_spp a_splitPlanes a_sentPlanes f_wideLanes f_narrowLanes f, a_match, a_ledgerInstance, a_ledgerValue, a_ledgerTainted)) : wpX_split post (f_allLanes, f_firstLanes, f_oddLanes, f_sevenNodes, f_instances, f_values, f_defaultValue, f_firstKing, f_tainted, f_echoSome, f_candidateSome, f_bits, f_proposalSome, f_proposalOne, f_strong, f_corrupted, f_valueLanes, f_echoLanes, f_exchangeLanes, f_proposeLanes, f_kingLanes, f_wideLanes, f_narrowLanes, f_runningLanes, f_kingBits, f_dueSome, f_sum0, f_sum1, f_sum2, f_ledgerHead, f_ledgerSize, a_rounds, a_planes, a_policies, a_dictSet, a_dictSome, a_dictPlanes, a_splitPlanes, a_duePlanes, a_sentSome, a_sentPlanes, a_match, a_ledgerInstance, a_ledgerValue, a_ledgerTainted) (nI f) := by
  refine And.intro (vp_in_nI hf (by decide)) fun s es => ?_
  rw [nI_clamp (by omega : f < 2 ^ 31)] at es
  subst es
  refine pv_l1 (fun n i s => wX_split_12 post (nI f) f_allLanes f_firstLanes f_oddLanes f_sevenNodes f_instances f_values f_defaultValue f_firstKing f_tainted f_echoSome f_candidateSome f_bits f_proposalSome f_proposalOne f_strong f_corrupted f_valueLanes f_echoLanes f_exchangeLanes f_proposeLanes f_kingLanes f_wideLanes f_narrowLanes f_runningLanes f_kingBits f_dueSome f_sum0 f_sum1 f_sum2 f_ledgerHead f_ledgerSize n (nI i) a_rounds a_planes a_policies a_dictSet a_dictSome a_dictPlanes a_splitPlanes a_duePlanes (upd a_sentSome f f_runningLanes) s a_match a_ledgerInstance a_ledgerValue a_ledgerTainted) (fun i s => s = pv_bl (4 * f) (fun k => a_splitPlanes k &&& f_wideLanes) a_sentPlanes i) 4 a_sentPlanes (pv_bl0 _ _ _).symm ?_ ?_
  · intro n s hs
    subst hs
    have hx : vp_in (4 * nI f) 28 := by rw [pv_4']; exact vp_in_nI (by omega) (by decide)
    refine br_t pv_44 ⟨hx, hx, fun a' ea => ?_⟩
    have hc : (4 * nI f).toNatClampNeg = 4 * f := by rw [pv_4']; exact nI_clamp (by omega)
    rw [hc] at ea
    subst ea
    exact h
  · intro n i s hi hs K
    subst hs
    refine br_f (pv_n4 hi) ⟨vp_in_nI hi (by decide), pv_in4 (by omega) (by decide), fun a' ea x e => ?_⟩
    obtain rfl := e.trans (nI_1 i)
    refine K a' ?_
    rw [ea, pv_cl4 (by omega), nI_clamp (by omega : i < 2 ^ 31)]
    exact pv_bls _ _ _ _ rfl
theorem xw_inv {post : SX → Prop} {f NV : Nat} (hf : f < 7) (hN : 2 ≤ NV) (h : post (f_allLanes, f_firstLanes, f_oddLanes, f_sevenNodes, f_instances, nI NV, f_defaultValue, f_firstKing, f_tainted, f_echoSome, f_candidateSome, f_bits, f_proposalSome, f_proposalOne, f_strong, f_corrupted, f_valueLanes, f_echoLanes, f_exchangeLanes, f_proposeLanes, f_kingLanes, f_wideLanes, f_narrowLanes, f_runningLanes, f_kingBits, f_dueSome, f_sum0, f_sum1, f_sum2, f_ledgerHead, f_ledgerSize, a_rounds, a_planes, a_policies, a_dictSet, a_dictSome, a_dictPlanes, a_splitPlanes, a_duePlanes, upd a_sentSome f f_runningLanes, pv_bl (4 * f) (pv_ivg a_sentPlanes f (pv_kp a_sentSome a_sentPlanes f NV f_wideLanes f_narrowLanes)) a_sentPlanes 4, a_match, a_ledgerInstance, a_ledgerValue, a_ledgerTainted)) : wpX_invert post (f_allLanes, f_firstLanes, f_oddLanes, f_sevenNodes, f_instances, nI NV, f_defaultValue, f_firstKing, f_tainted, f_echoSome, f_candidateSome, f_bits, f_proposalSome, f_proposalOne, f_strong, f_corrupted, f_valueLanes, f_echoLanes, f_exchangeLanes, f_proposeLanes, f_kingLanes, f_wideLanes, f_narrowLanes, f_runningLanes, f_kingBits, f_dueSome, f_sum0, f_sum1, f_sum2, f_ledgerHead, f_ledgerSize, a_rounds, a_planes, a_policies, a_dictSet, a_dictSome, a_dictPlanes, a_splitPlanes, a_duePlanes, a_sentSome, a_sentPlanes, a_match, a_ledgerInstance, a_ledgerValue, a_ledgerTainted) (nI f) := by
  have hv : vp_in (nI f) 7 := vp_in_nI hf (by decide)
  have hc : (nI f).toNatClampNeg = f := nI_clamp (by omega)
  have e1 : nI NV - 1 = nI (NV - 1) := pk_sub (b := 1) (by omega)
  unfold wpX_invert
  refine xw_mw hf ?_
  rw [e1]
  refine xw_mw hf ?_
  intro t et
  refine ⟨hv, fun kp ekp => ?_⟩
  rw [hc] at ekp
  have ek : kp = pv_kp a_sentSome a_sentPlanes f NV f_wideLanes f_narrowLanes := by rw [ekp, et]; rfl
  clear ekp et
  subst ek
  refine pv_l2 (fun n i c s => wX_invert_54 post (nI f) (pv_kp a_sentSome a_sentPlanes f NV f_wideLanes f_narrowLanes) f_allLanes f_firstLanes f_oddLanes f_sevenNodes f_instances (nI NV) f_defaultValue f_firstKing f_tainted f_echoSome f_candidateSome f_bits f_proposalSome f_proposalOne f_strong f_corrupted f_valueLanes f_echoLanes f_exchangeLanes f_proposeLanes f_kingLanes f_wideLanes f_narrowLanes f_runningLanes f_kingBits f_dueSome f_sum0 f_sum1 f_sum2 f_ledgerHead f_ledgerSize n c (nI i) a_rounds a_planes a_policies a_dictSet a_dictSome a_dictPlanes a_splitPlanes a_duePlanes a_sentSome s a_match a_ledgerInstance a_ledgerValue a_ledgerTainted) (fun i c s => c = pv_cy a_sentPlanes f (pv_kp a_sentSome a_sentPlanes f NV f_wideLanes f_narrowLanes) i ∧ s = pv_bl (4 * f) (pv_ivg a_sentPlanes f (pv_kp a_sentSome a_sentPlanes f NV f_wideLanes f_narrowLanes)) a_sentPlanes i) 4 _ a_sentPlanes ⟨rfl, (pv_bl0 _ _ _).symm⟩ ?_ ?_
  · rintro n c s ⟨rfl, rfl⟩
    refine br_t pv_44 ⟨hv, fun a' ea => ?_⟩
    rw [hc] at ea
    subst ea
    exact h
  · rintro n i c s hi ⟨rfl, rfl⟩ K
    have hx : vp_in (4 * nI f + nI i) 28 := pv_in4 (by omega) (by decide)
    refine br_f (pv_n4 hi) ⟨hx, fun x8 e8 => ⟨hx, fun a' ea c' ec x e => ?_⟩⟩
    obtain rfl := e.trans (nI_1 i)
    rw [pv_cl4 (by omega), pv_blr] at e8
    refine K c' a' ⟨?_, ?_⟩
    · rw [ec, e8]; rfl
    · rw [ea, pv_cl4 (by omega), e8]
      exact pv_bls _ _ _ _ rfl
theorem xw_ovl {post : SX → Prop} {f : Nat} (hf : f < 7) (h : post (f_allLanes, f_firstLanes, f_oddLanes, f_sevenNodes, f_instances, f_values, f_defaultValue, f_firstKing, f_tainted, f_echoSome, f_candidateSome, f_bits, f_proposalSome, f_proposalOne, f_strong, f_corrupted, f_valueLanes, f_echoLanes, f_exchangeLanes, f_proposeLanes, f_kingLanes, f_wideLanes, f_narrowLanes, f_runningLanes, f_kingBits, f_dueSome, f_sum0, f_sum1, f_sum2, f_ledgerHead, f_ledgerSize, a_rounds, a_planes, a_policies, a_dictSet, a_dictSome, a_dictPlanes, a_splitPlanes, a_duePlanes, upd a_sentSome f (pv_mrg (a_sentSome f) (a_dictSome f) (a_dictSet f) &&& pv_alw f_runningLanes f_kingLanes f_kingBits f), pv_bl (4 * f) (fun k => pv_mrg (a_sentPlanes (4 * f + k)) (a_dictPlanes (4 * f + k)) (a_dictSet f) &&& pv_alw f_runningLanes f_kingLanes f_kingBits f) a_sentPlanes 4, a_match, a_ledgerInstance, a_ledgerValue, a_ledgerTainted)) : wpX_overlay post (f_allLanes, f_firstLanes, f_oddLanes, f_sevenNodes, f_instances, f_values, f_defaultValue, f_firstKing, f_tainted, f_echoSome, f_candidateSome, f_bits, f_proposalSome, f_proposalOne, f_strong, f_corrupted, f_valueLanes, f_echoLanes, f_exchangeLanes, f_proposeLanes, f_kingLanes, f_wideLanes, f_narrowLanes, f_runningLanes, f_kingBits, f_dueSome, f_sum0, f_sum1, f_sum2, f_ledgerHead, f_ledgerSize, a_rounds, a_planes, a_policies, a_dictSet, a_dictSome, a_dictPlanes, a_splitPlanes, a_duePlanes, a_sentSome, a_sentPlanes, a_match, a_ledgerInstance, a_ledgerValue, a_ledgerTainted) (nI f) := by
  have hv : vp_in (nI f) 7 := vp_in_nI hf (by decide)
  have hc : (nI f).toNatClampNeg = f := nI_clamp (by omega)
  intro x3 e3
  refine ⟨hv, fun x4 e4 => ⟨hv, hv, ?_⟩⟩
  have e3' : x3 = pv_alw f_runningLanes f_kingLanes f_kingBits f := e3
  clear e3
  rw [hc] at e4 ⊢
  refine And.intro hv fun s es => ?_
  subst e3' e4
  have es' : s = upd a_sentSome f (pv_mrg (a_sentSome f) (a_dictSome f) (a_dictSet f) &&& pv_alw f_runningLanes f_kingLanes f_kingBits f) := es
  clear es
  subst es'
  refine pv_l1 (fun n i s => wX_overlay_65 post (nI f) (pv_alw f_runningLanes f_kingLanes f_kingBits f) (a_dictSet f) f_allLanes f_firstLanes f_oddLanes f_sevenNodes f_instances f_values f_defaultValue f_firstKing f_tainted f_echoSome f_candidateSome f_bits f_proposalSome f_proposalOne f_strong f_corrupted f_valueLanes f_echoLanes f_exchangeLanes f_proposeLanes f_kingLanes f_wideLanes f_narrowLanes f_runningLanes f_kingBits f_dueSome f_sum0 f_sum1 f_sum2 f_ledgerHead f_ledgerSize n (nI i) a_rounds a_planes a_policies a_dictSet a_dictSome a_dictPlanes a_splitPlanes a_duePlanes (upd a_sentSome f (pv_mrg (a_sentSome f) (a_dictSome f) (a_dictSet f) &&& pv_alw f_runningLanes f_kingLanes f_kingBits f)) s a_match a_ledgerInstance a_ledgerValue a_ledgerTainted) (fun i s => s = pv_bl (4 * f) (fun k => pv_mrg (a_sentPlanes (4 * f + k)) (a_dictPlanes (4 * f + k)) (a_dictSet f) &&& pv_alw f_runningLanes f_kingLanes f_kingBits f) a_sentPlanes i) 4 a_sentPlanes (pv_bl0 _ _ _).symm ?_ ?_
  · intro n s hs
    subst hs
    exact br_t pv_44 h
  · intro n i s hi hs K
    subst hs
    have hx : vp_in (4 * nI f + nI i) 28 := pv_in4 (by omega) (by decide)
    refine br_f (pv_n4 hi) ⟨hx, hx, And.intro hx fun a' ea x e => ?_⟩
    obtain rfl := e.trans (nI_1 i)
    refine K a' ?_
    rw [ea, pv_cl4 (by omega), pv_blr]
    exact pv_bls _ _ _ _ rfl
theorem xw_ff {post : SX → Prop} {f NV : Nat} (hf : f < 7) (hN : 2 ≤ NV) (hN2 : NV ≤ 16) (h : ∀ ss sp, pv_FI f a_sentSome a_sentPlanes ss sp (fun i n => pv_sS f_dueSome f_corrupted f_runningLanes f_kingLanes f_kingBits a_policies a_dictSet a_dictSome f i n) (fun i n => pv_sP f_dueSome f_corrupted f_runningLanes f_kingLanes f_kingBits f_wideLanes f_narrowLanes a_policies a_dictSet a_dictPlanes a_duePlanes a_splitPlanes NV f i n) → post (f_allLanes, f_firstLanes, f_oddLanes, f_sevenNodes, f_instances, nI NV, f_defaultValue, f_firstKing, f_tainted, f_echoSome, f_candidateSome, f_bits, f_proposalSome, f_proposalOne, f_strong, f_corrupted, f_valueLanes, f_echoLanes, f_exchangeLanes, f_proposeLanes, f_kingLanes, f_wideLanes, f_narrowLanes, f_runningLanes, f_kingBits, f_dueSome, f_sum0, f_sum1, f_sum2, f_ledgerHead, f_ledgerSize, a_rounds, a_planes, a_policies, a_dictSet, a_dictSome, a_dictPlanes, a_splitPlanes, a_duePlanes, ss, sp, a_match, a_ledgerInstance, a_ledgerValue, a_ledgerTainted)) : wpX_formFrom post (f_allLanes, f_firstLanes, f_oddLanes, f_sevenNodes, f_instances, nI NV, f_defaultValue, f_firstKing, f_tainted, f_echoSome, f_candidateSome, f_bits, f_proposalSome, f_proposalOne, f_strong, f_corrupted, f_valueLanes, f_echoLanes, f_exchangeLanes, f_proposeLanes, f_kingLanes, f_wideLanes, f_narrowLanes, f_runningLanes, f_kingBits, f_dueSome, f_sum0, f_sum1, f_sum2, f_ledgerHead, f_ledgerSize, a_rounds, a_planes, a_policies, a_dictSet, a_dictSome, a_dictPlanes, a_splitPlanes, a_duePlanes, a_sentSome, a_sentPlanes, a_match, a_ledgerInstance, a_ledgerValue, a_ledgerTainted) (nI f) := by
  have hv : vp_in (nI f) 7 := vp_in_nI hf (by decide)
  have hc : (nI f).toNatClampNeg = f := nI_clamp (by omega)
  refine And.intro hv fun s es => ?_
  rw [hc] at es
  have es' : s = upd a_sentSome f (pv_sprW f_dueSome f) := es
  clear es
  subst es'
  refine pv_l1 (fun n i s => wX_formFrom_17 post (nI f) f_allLanes f_firstLanes f_oddLanes f_sevenNodes f_instances (nI NV) f_defaultValue f_firstKing f_tainted f_echoSome f_candidateSome f_bits f_proposalSome f_proposalOne f_strong f_corrupted f_valueLanes f_echoLanes f_exchangeLanes f_proposeLanes f_kingLanes f_wideLanes f_narrowLanes f_runningLanes f_kingBits f_dueSome f_sum0 f_sum1 f_sum2 f_ledgerHead f_ledgerSize n (nI i) a_rounds a_planes a_policies a_dictSet a_dictSome a_dictPlanes a_splitPlanes a_duePlanes (upd a_sentSome f (pv_sprW f_dueSome f)) s a_match a_ledgerInstance a_ledgerValue a_ledgerTainted) (fun i s => s = pv_bl (4 * f) (fun k => pv_sprW (a_duePlanes k) f) a_sentPlanes i) 4 a_sentPlanes (pv_bl0 _ _ _).symm ?_ ?_
  · intro n s hs
    have H0 : pv_FI f a_sentSome a_sentPlanes (upd a_sentSome f (pv_sprW f_dueSome f)) s (fun i _ => bt f_dueSome (8 * i + f)) (fun i _ => pv_rd a_duePlanes 0 (8 * i + f)) := by
      rw [hs]; exact pv_FI0 a_sentSome a_sentPlanes a_duePlanes f_dueSome hf
    clear hs
    generalize upd a_sentSome f (pv_sprW f_dueSome f) = ss0 at H0 ⊢
    refine br_t pv_44 (xw_cor hf (fun hb => br_f (by decide) ⟨hv, ?_⟩) (fun hb => br_t rfl ?_))
    · rw [hc]
      refine br_c (fun p1 => xw_sil hf (xw_ovl hf (h _ _ ?_))) (fun p1 => ⟨hv, br_c (fun p2 => xw_spl hf (xw_ovl hf (h _ _ ?_))) (fun p2 => ⟨hv, br_c (fun p3 => xw_inv hf hN (xw_ovl hf (h _ _ ?_))) (fun p3 => xw_ovl hf (h _ _ ?_))⟩)⟩)
      · refine pv_FI_cg (pv_FI_tr (pv_FI_tr H0 (pv_FIsil _ _ f)) (pv_FIovl _ _ a_dictSet a_dictSome a_dictPlanes f_runningLanes f_kingLanes f_kingBits hf)) ?_ ?_
        · intro i hi n hn
          show _ = pv_sS _ _ _ _ _ _ _ _ _ _ _
          unfold pv_sS
          rw [if_pos hb, if_pos p1, ((pv_FIsil ss0 s f).2.2 i hi n hn).1]
        · intro i hi n hn
          show _ = pv_sP _ _ _ _ _ _ _ _ _ _ _ _ _ _ _ _
          unfold pv_sP
          rw [if_pos hb, if_pos p1, ((pv_FIsil ss0 s f).2.2 i hi n hn).2]
      · refine pv_FI_cg (pv_FI_tr (pv_FI_tr H0 (pv_FIspl _ _ a_splitPlanes f_runningLanes f_wideLanes f_narrowLanes f)) (pv_FIovl _ _ a_dictSet a_dictSome a_dictPlanes f_runningLanes f_kingLanes f_kingBits hf)) ?_ ?_
        · intro i hi n hn
          show _ = pv_sS _ _ _ _ _ _ _ _ _ _ _
          unfold pv_sS
          rw [if_pos hb, if_neg p1, if_pos p2, ((pv_FIspl ss0 s a_splitPlanes f_runningLanes f_wideLanes f_narrowLanes f).2.2 i hi n hn).1]
        · intro i hi n hn
          show _ = pv_sP _ _ _ _ _ _ _ _ _ _ _ _ _ _ _ _
          unfold pv_sP
          rw [if_pos hb, if_neg p1, if_pos p2, ((pv_FIspl ss0 s a_splitPlanes f_runningLanes f_wideLanes f_narrowLanes f).2.2 i hi n hn).2]
      · refine pv_FI_cg (pv_FI_tr (pv_FI_tr H0 (pv_FIinv _ _ f_runningLanes f_wideLanes f_narrowLanes hN2 (by omega))) (pv_FIovl _ _ a_dictSet a_dictSome a_dictPlanes f_runningLanes f_kingLanes f_kingBits hf)) ?_ ?_
        · intro i hi n hn
          show _ = pv_sS _ _ _ _ _ _ _ _ _ _ _
          unfold pv_sS
          rw [if_pos hb, if_neg p1, if_neg p2, if_pos p3, ((pv_FIinv ss0 s f_runningLanes f_wideLanes f_narrowLanes (f := f) hN2 (by omega)).2.2 i hi n hn).1]
        · intro i hi n hn
          show _ = pv_sP _ _ _ _ _ _ _ _ _ _ _ _ _ _ _ _
          unfold pv_sP
          rw [if_pos hb, if_neg p1, if_neg p2, if_pos p3, ((pv_FIinv ss0 s f_runningLanes f_wideLanes f_narrowLanes (f := f) hN2 (by omega)).2.2 i hi n hn).2]
          show (if _ then (if _ then _ else pv_inc (bt (ss0 f) (8 * i + n)) (pv_rd s (4 * f) (8 * i + n)) NV _ _) else 0) = _
          rw [(H0.2.2 i hi n hn).1, (H0.2.2 i hi n hn).2]
      · refine pv_FI_cg (pv_FI_tr H0 (pv_FIovl _ _ a_dictSet a_dictSome a_dictPlanes f_runningLanes f_kingLanes f_kingBits hf)) ?_ ?_
        · intro i hi n hn
          show _ = pv_sS _ _ _ _ _ _ _ _ _ _ _
          unfold pv_sS
          rw [if_pos hb, if_neg p1, if_neg p2, if_neg p3, (H0.2.2 i hi n hn).1]
        · intro i hi n hn
          show _ = pv_sP _ _ _ _ _ _ _ _ _ _ _ _ _ _ _ _
          unfold pv_sP
          rw [if_pos hb, if_neg p1, if_neg p2, if_neg p3, (H0.2.2 i hi n hn).2]
    · refine h _ _ (pv_FI_cg H0 ?_ ?_)
      · intro i hi n hn
        show _ = pv_sS _ _ _ _ _ _ _ _ _ _ _
        unfold pv_sS
        rw [hb, if_neg (by decide)]
      · intro i hi n hn
        show _ = pv_sP _ _ _ _ _ _ _ _ _ _ _ _ _ _ _ _
        unfold pv_sP
        rw [hb, if_neg (by decide)]
  · intro n i s hi hs K
    subst hs
    refine br_f (pv_n4 hi) ⟨vp_in_nI hi (by decide), And.intro (pv_in4 (by omega) (by decide)) fun a' ea x e => ?_⟩
    obtain rfl := e.trans (nI_1 i)
    refine K a' ?_
    rw [ea, pv_cl4 (by omega), nI_clamp (by omega : i < 2 ^ 31)]
    exact pv_bls _ _ _ _ rfl
/-- all messages formed -/
def pv_FA (ds cor rn kl kb wd nr : Int32) (pol dset dsome dpl dp sw : Nat → Int32) (NV m : Nat) (ss sp : Nat → Int32) : Prop := ∀ f, f < m → ∀ i, i < 4 → ∀ n, n < 7 → bt (ss f) (8 * i + n) = pv_sS ds cor rn kl kb pol dset dsome f i n ∧ pv_rd sp (4 * f) (8 * i + n) = pv_sP ds cor rn kl kb wd nr pol dset dpl dp sw NV f i n
theorem pv_FAs {ds cor rn kl kb wd nr : Int32} {pol dset dsome dpl dp sw : Nat → Int32} {NV m : Nat} {ss sp ss1 sp1 : Nat → Int32} (h : pv_FA ds cor rn kl kb wd nr pol dset dsome dpl dp sw NV m ss sp) (h1 : pv_FI m ss sp ss1 sp1 (fun i n => pv_sS ds cor rn kl kb pol dset dsome m i n) (fun i n => pv_sP ds cor rn kl kb wd nr pol dset dpl dp sw NV m i n)) : pv_FA ds cor rn kl kb wd nr pol dset dsome dpl dp sw NV (m + 1) ss1 sp1 := by
  intro f hf i hi n hn
  by_cases c : f = m
  · subst c; exact h1.2.2 i hi n hn
  · have z := h f (by omega) i hi n hn
    refine ⟨by rw [h1.1 f c]; exact z.1, ?_⟩
    rw [← z.2]
    exact pv_rd_cg (fun k hk => by rw [h1.2.1 _ (by omega)])
theorem xw_fa {post : SX → Prop} {NV : Nat} (hN : 2 ≤ NV) (hN2 : NV ≤ 16) (h : ∀ ss sp, pv_FA (pv_ds f_valueLanes f_echoLanes f_echoSome f_exchangeLanes f_kingBits f_proposalSome f_proposeLanes) f_corrupted f_runningLanes f_kingLanes f_kingBits f_wideLanes f_narrowLanes a_policies a_dictSet a_dictSome a_dictPlanes (pv_dp a_planes a_duePlanes f_valueLanes f_echoLanes f_exchangeLanes f_kingBits f_proposeLanes f_bits f_proposalOne) a_splitPlanes NV 7 ss sp → post (f_allLanes, f_firstLanes, f_oddLanes, f_sevenNodes, f_instances, nI NV, f_defaultValue, f_firstKing, f_tainted, f_echoSome, f_candidateSome, f_bits, f_proposalSome, f_proposalOne, f_strong, f_corrupted, f_valueLanes, f_echoLanes, f_exchangeLanes, f_proposeLanes, f_kingLanes, f_wideLanes, f_narrowLanes, f_runningLanes, f_kingBits, pv_ds f_valueLanes f_echoLanes f_echoSome f_exchangeLanes f_kingBits f_proposalSome f_proposeLanes, f_sum0, f_sum1, f_sum2, f_ledgerHead, f_ledgerSize, a_rounds, a_planes, a_policies, a_dictSet, a_dictSome, a_dictPlanes, a_splitPlanes, pv_dp a_planes a_duePlanes f_valueLanes f_echoLanes f_exchangeLanes f_kingBits f_proposeLanes f_bits f_proposalOne, ss, sp, a_match, a_ledgerInstance, a_ledgerValue, a_ledgerTainted)) : wpX_formAll post (f_allLanes, f_firstLanes, f_oddLanes, f_sevenNodes, f_instances, nI NV, f_defaultValue, f_firstKing, f_tainted, f_echoSome, f_candidateSome, f_bits, f_proposalSome, f_proposalOne, f_strong, f_corrupted, f_valueLanes, f_echoLanes, f_exchangeLanes, f_proposeLanes, f_kingLanes, f_wideLanes, f_narrowLanes, f_runningLanes, f_kingBits, f_dueSome, f_sum0, f_sum1, f_sum2, f_ledgerHead, f_ledgerSize, a_rounds, a_planes, a_policies, a_dictSet, a_dictSome, a_dictPlanes, a_splitPlanes, a_duePlanes, a_sentSome, a_sentPlanes, a_match, a_ledgerInstance, a_ledgerValue, a_ledgerTainted) := by
  unfold wpX_formAll
  refine xw_fd ?_
  generalize pv_ds f_valueLanes f_echoLanes f_echoSome f_exchangeLanes f_kingBits f_proposalSome f_proposeLanes = ds at h ⊢
  generalize pv_dp a_planes a_duePlanes f_valueLanes f_echoLanes f_exchangeLanes f_kingBits f_proposeLanes f_bits f_proposalOne = dp at h ⊢
  refine pv_l2 (fun n i ss sp => wX_formAll_6 post n (nI i) f_allLanes f_firstLanes f_oddLanes f_sevenNodes f_instances (nI NV) f_defaultValue f_firstKing f_tainted f_echoSome f_candidateSome f_bits f_proposalSome f_proposalOne f_strong f_corrupted f_valueLanes f_echoLanes f_exchangeLanes f_proposeLanes f_kingLanes f_wideLanes f_narrowLanes f_runningLanes f_kingBits ds f_sum0 f_sum1 f_sum2 f_ledgerHead f_ledgerSize a_rounds a_planes a_policies a_dictSet a_dictSome a_dictPlanes a_splitPlanes dp ss sp a_match a_ledgerInstance a_ledgerValue a_ledgerTainted) (fun i ss sp => pv_FA ds f_corrupted f_runningLanes f_kingLanes f_kingBits f_wideLanes f_narrowLanes a_policies a_dictSet a_dictSome a_dictPlanes dp a_splitPlanes NV i ss sp) 7 a_sentSome a_sentPlanes (fun f hf => by omega) ?_ ?_
  · intro n ss sp H
    exact br_t pv_77 (h ss sp H)
  · intro n i ss sp hi H K
    refine br_f (pv_n7 hi) (xw_ff hi hN hN2 ?_)
    intro ss1 sp1 H1 x e
    obtain rfl := e.trans (nI_1 i)
    exact K ss1 sp1 (pv_FAs H H1)
end
end
section
/-! the rounds of the component -/
def pv_ec (cn : Nat → Nat) : Nat → Int32
  | 0 => -1
  | v + 1 => if 5 ≤ cn v then nI v else pv_ec cn v
def pv_cb (cn : Nat → Nat) : Nat → Nat × Int32
  | 0 => (0, -1)
  | v + 1 => if (pv_cb cn v).1 < cn v then (cn v, nI v) else pv_cb cn v
/-- one lane in the midst of stepWide -/
def pv_S1 (cn : Nat → Nat) (v : Nat) (vb eb es0 cs0 : Bool) (P4 P8 bv : Nat) (es cs : Bool) (Q4 Q8 : Nat) : Prop :=
  (vb = true → pv_ms es Q4 = pv_ec cn v) ∧ (vb = false → es = es0 ∧ Q4 = P4) ∧ (eb = true → pv_ms cs Q8 = (pv_cb cn v).2 ∧ bv = (pv_cb cn v).1) ∧ (eb = false → cs = cs0 ∧ Q8 = P8)
theorem pv_S1s {cn : Nat → Nat} {v : Nat} {vb eb es0 cs0 : Bool} {P4 P8 bv : Nat} {es cs : Bool} {Q4 Q8 : Nat} (h : pv_S1 cn v vb eb es0 cs0 P4 P8 bv es cs Q4 Q8) :
    pv_S1 cn (v + 1) vb eb es0 cs0 P4 P8 (if (decide (bv < cn v) && eb) then cn v else bv) (es || (decide (5 ≤ cn v) && vb)) (cs || (decide (bv < cn v) && eb)) (if (decide (5 ≤ cn v) && vb) then v else Q4) (if (decide (bv < cn v) && eb) then v else Q8) := by
  obtain ⟨h1, h2, h3, h4⟩ := h
  refine ⟨fun z => ?_, fun z => ?_, fun z => ?_, fun z => ?_⟩
  · subst z
    show _ = if _ then _ else _
    by_cases c : 5 ≤ cn v
    · rw [if_pos c, decide_eq_true c, Bool.true_and, if_pos rfl, Bool.or_true]; rfl
    · rw [if_neg c, decide_eq_false c, Bool.false_and, if_neg (by decide), Bool.or_false]; exact h1 rfl
  · subst z
    rw [Bool.and_false, if_neg (by decide), Bool.or_false]; exact h2 rfl
  · subst z
    obtain ⟨h5, h6⟩ := h3 rfl
    rw [h6]
    show pv_ms _ _ = (if _ then _ else _ : Nat × Int32).2 ∧ _ = (if _ then _ else _ : Nat × Int32).1
    by_cases c : (pv_cb cn v).1 < cn v
    · rw [if_pos c, decide_eq_true c, Bool.true_and, if_pos rfl, if_pos rfl, Bool.or_true]; exact ⟨rfl, rfl⟩
    · rw [if_neg c, decide_eq_false c, Bool.false_and, if_neg (by decide), if_neg (by decide), Bool.or_false]; exact ⟨h5, rfl⟩
  · subst z
    rw [Bool.and_false, if_neg (by decide), Bool.or_false]; exact h4 rfl
def pv_more (b0 b1 b2 s0 s1 s2 el : Int32) : Int32 := ((s2 &&& (b2 ^^^ (-1))) ||| (((s2 ^^^ b2) ^^^ (-1)) &&& ((s1 &&& (b1 ^^^ (-1))) ||| ((((s1 ^^^ b1) ^^^ (-1)) &&& s0) &&& (b0 ^^^ (-1)))))) &&& el
theorem pv_moreb (b0 b1 b2 s0 s1 s2 el : Int32) {l : Nat} (hl : l < 32) : bt (pv_more b0 b1 b2 s0 s1 s2 el) l = (decide (pv_v3 b0 b1 b2 l < pv_v3 s0 s1 s2 l) && bt el l) := by
  unfold pv_more pv_v3
  simp only [b_and, b_or, b_xor, pv_not _ hl]
  congr 1
  generalize bt b0 l = x0
  generalize bt b1 l = x1
  generalize bt b2 l = x2
  generalize bt s0 l = y0
  generalize bt s1 l = y1
  generalize bt s2 l = y2
  clear hl
  revert x0 x1 x2 y0 y1 y2
  decide
theorem pv_v3m (b0 b1 b2 s0 s1 s2 m : Int32) {l : Nat} (hl : l < 32) : pv_v3 (pv_mrg b0 s0 m) (pv_mrg b1 s1 m) (pv_mrg b2 s2 m) l = if bt m l then pv_v3 s0 s1 s2 l else pv_v3 b0 b1 b2 l := by
  unfold pv_v3 pv_mrg
  rw [pv_mg _ _ _ hl, pv_mg _ _ _ hl, pv_mg _ _ _ hl]
  cases bt m l <;> rfl
/-- stepWide in its midst -/
def pv_SWI (vl el es0 cs0 : Int32) (pl0 ss sp : Nat → Int32) (v : Nat) (b0 b1 b2 es cs : Int32) (pl : Nat → Int32) : Prop := ∀ i, i < 4 → ∀ n, n < 7 → pv_S1 (fun w => pv_ct ss sp (8 * i + n) (nI w)) v (bt vl (8 * i + n)) (bt el (8 * i + n)) (bt es0 (8 * i + n)) (bt cs0 (8 * i + n)) (pv_rd pl0 4 (8 * i + n)) (pv_rd pl0 8 (8 * i + n)) (pv_v3 b0 b1 b2 (8 * i + n)) (bt es (8 * i + n)) (bt cs (8 * i + n)) (pv_rd pl 4 (8 * i + n)) (pv_rd pl 8 (8 * i + n)) ∧ pv_rd pl 0 (8 * i + n) = pv_rd pl0 0 (8 * i + n)
theorem pv_SWI0 (vl el es0 cs0 : Int32) (pl0 ss sp : Nat → Int32) : pv_SWI vl el es0 cs0 pl0 ss sp 0 0 0 0 (es0 &&& (vl ^^^ (-1))) (cs0 &&& (el ^^^ (-1))) (pv_wv (pv_wv pl0 1 vl (nI 0)) 2 el (nI 0)) := by
  intro i hi n hn
  have hl : 8 * i + n < 32 := by omega
  have q4 : pv_rd (pv_wv (pv_wv pl0 1 vl (nI 0)) 2 el (nI 0)) 4 (8 * i + n) = if bt vl (8 * i + n) then 0 else pv_rd pl0 4 (8 * i + n) :=
    (pv_wv_ot (F := 2) (G := 1) _ _ _ (by decide) _).trans (pv_wv_rd pl0 1 vl (v := 0) (by decide) hl)
  have q8 : pv_rd (pv_wv (pv_wv pl0 1 vl (nI 0)) 2 el (nI 0)) 8 (8 * i + n) = if bt el (8 * i + n) then 0 else pv_rd pl0 8 (8 * i + n) := by
    refine (pv_wv_rd _ 2 el (v := 0) (by decide) hl).trans ?_
    rw [show pv_rd (pv_wv pl0 1 vl (nI 0)) (4 * 2) (8 * i + n) = pv_rd pl0 8 (8 * i + n) from pv_wv_ot (F := 1) (G := 2) _ _ _ (by decide) _]
  have q0 : pv_rd (pv_wv (pv_wv pl0 1 vl (nI 0)) 2 el (nI 0)) 0 (8 * i + n) = pv_rd pl0 0 (8 * i + n) :=
    (pv_wv_ot (F := 2) (G := 0) _ _ _ (by decide) _).trans (pv_wv_ot (F := 1) (G := 0) _ _ _ (by decide) _)
  refine ⟨?_, q0⟩
  rw [q4, q8, pv_cr _ _ hl, pv_cr _ _ hl]
  refine ⟨fun z => ?_, fun z => ?_, fun z => ?_, fun z => ?_⟩
  · rw [z, if_pos rfl]; rfl
  · rw [z, if_neg (by decide), if_neg (by decide)]; exact ⟨rfl, rfl⟩
  · rw [z, if_pos rfl]
    refine ⟨rfl, ?_⟩
    unfold pv_v3
    rw [b_0]; rfl
  · rw [z, if_neg (by decide), if_neg (by decide)]; exact ⟨rfl, rfl⟩
theorem pv_SWIs {vl el es0 cs0 : Int32} {pl0 ss sp : Nat → Int32} {v : Nat} {b0 b1 b2 es cs s0 s1 s2 : Int32} {pl : Nat → Int32} (hv : v < 16) (h : pv_SWI vl el es0 cs0 pl0 ss sp v b0 b1 b2 es cs pl) (hc : pv_CS ss sp (nI v) s0 s1 s2) :
    pv_SWI vl el es0 cs0 pl0 ss sp (v + 1) (pv_mrg b0 s0 (pv_more b0 b1 b2 s0 s1 s2 el)) (pv_mrg b1 s1 (pv_more b0 b1 b2 s0 s1 s2 el)) (pv_mrg b2 s2 (pv_more b0 b1 b2 s0 s1 s2 el)) (es ||| ((s2 &&& (s1 ||| s0)) &&& vl)) (cs ||| pv_more b0 b1 b2 s0 s1 s2 el) (pv_wv (pv_wv pl 1 ((s2 &&& (s1 ||| s0)) &&& vl) (nI v)) 2 (pv_more b0 b1 b2 s0 s1 s2 el) (nI v)) := by
  intro i hi n hn
  have hl : 8 * i + n < 32 := by omega
  obtain ⟨H, H0⟩ := h i hi n hn
  have hcn : pv_v3 s0 s1 s2 (8 * i + n) = pv_ct ss sp (8 * i + n) (nI v) := hc i hi n hn
  have hm := pv_moreb b0 b1 b2 s0 s1 s2 el hl
  rw [hcn] at hm
  have hf : bt ((s2 &&& (s1 ||| s0)) &&& vl) (8 * i + n) = (decide (5 ≤ pv_ct ss sp (8 * i + n) (nI v)) && bt vl (8 * i + n)) := by rw [b_and, pv_five, hcn]
  generalize pv_more b0 b1 b2 s0 s1 s2 el = mo at hm ⊢
  generalize (s2 &&& (s1 ||| s0)) &&& vl = fv at hf ⊢
  have q4 : pv_rd (pv_wv (pv_wv pl 1 fv (nI v)) 2 mo (nI v)) 4 (8 * i + n) = if bt fv (8 * i + n) then v else pv_rd pl 4 (8 * i + n) :=
    (pv_wv_ot (F := 2) (G := 1) _ _ _ (by decide) _).trans (pv_wv_rd pl 1 fv hv hl)
  have q8 : pv_rd (pv_wv (pv_wv pl 1 fv (nI v)) 2 mo (nI v)) 8 (8 * i + n) = if bt mo (8 * i + n) then v else pv_rd pl 8 (8 * i + n) := by
    refine (pv_wv_rd _ 2 mo hv hl).trans ?_
    rw [show pv_rd (pv_wv pl 1 fv (nI v)) (4 * 2) (8 * i + n) = pv_rd pl 8 (8 * i + n) from pv_wv_ot (F := 1) (G := 2) _ _ _ (by decide) _]
  have q0 : pv_rd (pv_wv (pv_wv pl 1 fv (nI v)) 2 mo (nI v)) 0 (8 * i + n) = pv_rd pl 0 (8 * i + n) :=
    (pv_wv_ot (F := 2) (G := 0) _ _ _ (by decide) _).trans (pv_wv_ot (F := 1) (G := 0) _ _ _ (by decide) _)
  refine ⟨?_, q0.trans H0⟩
  rw [q4, q8, b_or, b_or, pv_v3m _ _ _ _ _ _ _ hl, hcn, hf, hm]
  exact pv_S1s H
/-- what stepWide does -/
def pv_SW (vl el es0 cs0 b0 : Int32) (pl0 ss sp : Nat → Int32) (NV : Nat) (es cs b : Int32) (pl : Nat → Int32) : Prop := ∀ i, i < 4 → ∀ n, n < 7 → (bt vl (8 * i + n) = true → pv_ms (bt es (8 * i + n)) (pv_rd pl 4 (8 * i + n)) = pv_ec (fun w => pv_ct ss sp (8 * i + n) (nI w)) NV) ∧ (bt vl (8 * i + n) = false → bt es (8 * i + n) = bt es0 (8 * i + n) ∧ pv_rd pl 4 (8 * i + n) = pv_rd pl0 4 (8 * i + n)) ∧ (bt el (8 * i + n) = true → pv_ms (bt cs (8 * i + n)) (pv_rd pl 8 (8 * i + n)) = (pv_cb (fun w => pv_ct ss sp (8 * i + n) (nI w)) NV).2 ∧ bt b (8 * i + n) = decide (5 ≤ (pv_cb (fun w => pv_ct ss sp (8 * i + n) (nI w)) NV).1)) ∧ (bt el (8 * i + n) = false → bt cs (8 * i + n) = bt cs0 (8 * i + n) ∧ pv_rd pl 8 (8 * i + n) = pv_rd pl0 8 (8 * i + n) ∧ bt b (8 * i + n) = bt b0 (8 * i + n)) ∧ pv_rd pl 0 (8 * i + n) = pv_rd pl0 0 (8 * i + n)
theorem pv_SWe {vl el es0 cs0 bits : Int32} {pl0 ss sp : Nat → Int32} {v : Nat} {b0 b1 b2 es cs : Int32} {pl : Nat → Int32} (h : pv_SWI vl el es0 cs0 pl0 ss sp v b0 b1 b2 es cs pl) : pv_SW vl el es0 cs0 bits pl0 ss sp v es cs (pv_mrg bits (b2 &&& (b1 ||| b0)) el) pl := by
  intro i hi n hn
  obtain ⟨⟨h1, h2, h3, h4⟩, h5⟩ := h i hi n hn
  have hb : bt (pv_mrg bits (b2 &&& (b1 ||| b0)) el) (8 * i + n) = if bt el (8 * i + n) then decide (5 ≤ pv_v3 b0 b1 b2 (8 * i + n)) else bt bits (8 * i + n) := by
    unfold pv_mrg
    rw [pv_mg _ _ _ (by omega), pv_five]
  refine ⟨h1, h2, fun z => ⟨(h3 z).1, ?_⟩, fun z => ⟨(h4 z).1, (h4 z).2, ?_⟩, h5⟩
  · rw [hb, z, if_pos rfl, (h3 z).2]
  · rw [hb, z, if_neg (by decide)]
theorem pv_SWr {vl el es cs b : Int32} {pl ss sp : Nat → Int32} {NV : Nat} (hw : vl ||| el = 0) : pv_SW vl el es cs b pl ss sp NV es cs b pl := by
  intro i hi n hn
  have z : (bt vl (8 * i + n) || bt el (8 * i + n)) = false := by rw [← b_or, hw, b_0]
  have z1 : bt vl (8 * i + n) = false := by revert z; cases bt vl (8 * i + n) <;> simp
  have z2 : bt el (8 * i + n) = false := by revert z; cases bt el (8 * i + n) <;> simp
  rw [z1, z2]
  exact ⟨fun z => absurd z (by decide), fun _ => ⟨rfl, rfl⟩, fun z => absurd z (by decide), fun _ => ⟨rfl, rfl, rfl⟩, rfl⟩
/-- what stepNarrow does -/
def pv_SN (xl pl ps0 po0 b0 st0 : Int32) (ss sp : Nat → Int32) (ps po b st : Int32) : Prop := ∀ i, i < 4 → ∀ n, n < 7 → bt ps (8 * i + n) = (if bt xl (8 * i + n) then (decide (5 ≤ pv_ct ss sp (8 * i + n) (nI 1)) || decide (5 ≤ pv_ct ss sp (8 * i + n) (nI 0))) else bt ps0 (8 * i + n)) ∧ bt po (8 * i + n) = (if bt xl (8 * i + n) then decide (5 ≤ pv_ct ss sp (8 * i + n) (nI 1)) else bt po0 (8 * i + n)) ∧ bt b (8 * i + n) = (if bt pl (8 * i + n) then (decide (3 ≤ pv_ct ss sp (8 * i + n) (nI 1)) || (bt b0 (8 * i + n) && !decide (3 ≤ pv_ct ss sp (8 * i + n) (nI 0)))) else bt b0 (8 * i + n)) ∧ bt st (8 * i + n) = (if bt pl (8 * i + n) then (if bt b (8 * i + n) then decide (5 ≤ pv_ct ss sp (8 * i + n) (nI 1)) else decide (5 ≤ pv_ct ss sp (8 * i + n) (nI 0))) else bt st0 (8 * i + n))
theorem pv_SNr {xl pl ps po b st : Int32} {ss sp : Nat → Int32} (hw : xl ||| pl = 0) : pv_SN xl pl ps po b st ss sp ps po b st := by
  intro i hi n hn
  have z : (bt xl (8 * i + n) || bt pl (8 * i + n)) = false := by rw [← b_or, hw, b_0]
  have z1 : bt xl (8 * i + n) = false := by revert z; cases bt xl (8 * i + n) <;> simp
  have z2 : bt pl (8 * i + n) = false := by revert z; cases bt pl (8 * i + n) <;> simp
  rw [z1, z2]
  simp only [Bool.false_eq_true, if_false, and_self]
theorem pv_SNx {xl pl ps po b st s0 s1 s2 t0 t1 t2 : Int32} {ss sp : Nat → Int32} (h1 : pv_CS ss sp (nI 1) s0 s1 s2) (h0 : pv_CS ss sp (nI 0) t0 t1 t2) : pv_SN xl pl ps po b st ss sp (pv_mrg ps ((s2 &&& (s1 ||| s0)) ||| (t2 &&& (t1 ||| t0))) xl) (pv_mrg po (s2 &&& (s1 ||| s0)) xl) (pv_mrg b ((s2 ||| (s1 &&& s0)) ||| (b &&& ((t2 ||| (t1 &&& t0)) ^^^ (-1)))) pl) (pv_mrg st ((((s2 ||| (s1 &&& s0)) ||| (b &&& ((t2 ||| (t1 &&& t0)) ^^^ (-1)))) &&& (s2 &&& (s1 ||| s0))) ||| ((((s2 ||| (s1 &&& s0)) ||| (b &&& ((t2 ||| (t1 &&& t0)) ^^^ (-1)))) ^^^ (-1)) &&& (t2 &&& (t1 ||| t0)))) pl) := by
  intro i hi n hn
  have hl : 8 * i + n < 32 := by omega
  have c1 : pv_v3 s0 s1 s2 (8 * i + n) = pv_ct ss sp (8 * i + n) (nI 1) := h1 i hi n hn
  have c0 : pv_v3 t0 t1 t2 (8 * i + n) = pv_ct ss sp (8 * i + n) (nI 0) := h0 i hi n hn
  have nx : bt ((s2 ||| (s1 &&& s0)) ||| (b &&& ((t2 ||| (t1 &&& t0)) ^^^ (-1)))) (8 * i + n) = (decide (3 ≤ pv_ct ss sp (8 * i + n) (nI 1)) || (bt b (8 * i + n) && !decide (3 ≤ pv_ct ss sp (8 * i + n) (nI 0)))) := by
    rw [b_or, b_and, pv_not _ hl, pv_three, pv_three, c1, c0]
  have f1 : bt (s2 &&& (s1 ||| s0)) (8 * i + n) = decide (5 ≤ pv_ct ss sp (8 * i + n) (nI 1)) := by rw [pv_five, c1]
  have f0 : bt (t2 &&& (t1 ||| t0)) (8 * i + n) = decide (5 ≤ pv_ct ss sp (8 * i + n) (nI 0)) := by rw [pv_five, c0]
  generalize (s2 ||| (s1 &&& s0)) ||| (b &&& ((t2 ||| (t1 &&& t0)) ^^^ (-1))) = N at nx ⊢
  generalize s2 &&& (s1 ||| s0) = F1 at f1 ⊢
  generalize t2 &&& (t1 ||| t0) = F0 at f0 ⊢
  unfold pv_mrg
  refine ⟨?_, ?_, ?_, ?_⟩
  · rw [pv_mg _ _ _ hl, b_or, f1, f0]
  · rw [pv_mg _ _ _ hl, f1]
  · rw [pv_mg _ _ _ hl, nx]
  · rw [pv_mg _ _ _ hl, pv_mg _ _ _ hl]
    cases bt pl (8 * i + n)
    · rfl
    · rw [if_pos rfl, if_pos rfl, if_pos rfl, b_or, b_and, b_and, pv_not _ hl, f1, f0]
      cases bt N (8 * i + n) <;> simp
/-- what stepKing does -/
def pv_any (p : Nat → Bool) : Nat → Bool
  | 0 => false
  | i + 1 => pv_any p i || p i
def pv_orW (g : Nat → Int32) : Nat → Int32
  | 0 => 0
  | i + 1 => pv_orW g i ||| g i
theorem pv_orb (g : Nat → Int32) (l : Nat) : ∀ i, bt (pv_orW g i) l = pv_any (fun f => bt (g f) l) i
  | 0 => b_0 l
  | i + 1 => by show bt (pv_orW g i ||| g i) l = (pv_any _ i || _); rw [b_or, pv_orb g l i]
def pv_SK (kl st b0 : Int32) (ss sp : Nat → Int32) (b : Int32) : Prop := ∀ i, i < 4 → ∀ n, n < 7 → bt b (8 * i + n) = if ((bt kl (8 * i + n) && pv_any (fun f => bt (ss f) (8 * i + n)) 7) && !bt st (8 * i + n)) then pv_any (fun f => bt (sp (4 * f)) (8 * i + n)) 7 else bt b0 (8 * i + n)
theorem pv_SKr {kl st b : Int32} {ss sp : Nat → Int32} (hw : kl = 0) : pv_SK kl st b ss sp b := by
  intro i hi n hn
  rw [hw, b_0]; rfl
theorem pv_SKx {kl st b : Int32} {ss sp : Nat → Int32} : pv_SK kl st b ss sp (pv_mrg b (pv_orW (fun f => sp (4 * f)) 7) ((kl &&& pv_orW ss 7) &&& (st ^^^ (-1)))) := by
  intro i hi n hn
  unfold pv_mrg
  rw [pv_mg _ _ _ (by omega), b_and, b_and, pv_not _ (by omega), pv_orb, pv_orb]
section
variable {f_allLanes f_firstLanes f_oddLanes f_sevenNodes f_instances f_values f_defaultValue f_firstKing f_tainted f_echoSome f_candidateSome f_bits f_proposalSome f_proposalOne f_strong f_corrupted f_valueLanes f_echoLanes f_exchangeLanes f_proposeLanes f_kingLanes f_wideLanes f_narrowLanes f_runningLanes f_kingBits f_dueSome f_sum0 f_sum1 f_sum2 f_ledgerHead f_ledgerSize : Int32} {a_rounds a_planes a_policies a_dictSet a_dictSome a_dictPlanes a_splitPlanes a_duePlanes a_sentSome a_sentPlanes a_match a_ledgerInstance a_ledgerValue a_ledgerTainted : Nat → Int32}
theorem xw_sw {post : SX → Prop} {NV : Nat} (hN : NV ≤ 16) (h : ∀ es cs b pl m s0 s1 s2, pv_SW f_valueLanes f_echoLanes f_echoSome f_candidateSome f_bits a_planes a_sentSome a_sentPlanes NV es cs b pl → post (f_allLanes, f_firstLanes, f_oddLanes, f_sevenNodes, f_instances, nI NV, f_defaultValue, f_firstKing, f_tainted, es, cs, b, f_proposalSome, f_proposalOne, f_strong, f_corrupted, f_valueLanes, f_echoLanes, f_exchangeLanes, f_proposeLanes, f_kingLanes, f_wideLanes, f_narrowLanes, f_runningLanes, f_kingBits, f_dueSome, s0, s1, s2, f_ledgerHead, f_ledgerSize, a_rounds, pl, a_policies, a_dictSet, a_dictSome, a_dictPlanes, a_splitPlanes, a_duePlanes, a_sentSome, a_sentPlanes, m, a_ledgerInstance, a_ledgerValue, a_ledgerTainted)) : wpX_stepWide post (f_allLanes, f_firstLanes, f_oddLanes, f_sevenNodes, f_instances, nI NV, f_defaultValue, f_firstKing, f_tainted, f_echoSome, f_candidateSome, f_bits, f_proposalSome, f_proposalOne, f_strong, f_corrupted, f_valueLanes, f_echoLanes, f_exchangeLanes, f_proposeLanes, f_kingLanes, f_wideLanes, f_narrowLanes, f_runningLanes, f_kingBits, f_dueSome, f_sum0, f_sum1, f_sum2, f_ledgerHead, f_ledgerSize, a_rounds, a_planes, a_policies, a_dictSet, a_dictSome, a_dictPlanes, a_splitPlanes, a_duePlanes, a_sentSome, a_sentPlanes, a_match, a_ledgerInstance, a_ledgerValue, a_ledgerTainted) := by
  intro es1 e1 cs1 e2
  subst e1 e2
  refine xw_wv (F := 1) (V := nI 0) (by decide) ?_
  refine xw_wv (F := 2) (V := nI 0) (by decide) ?_
  refine pv_l10 (fun n v b0 b1 b2 es cs pl m s0 s1 s2 => wX_stepWide_59 post n b0 b1 b2 (nI v) f_allLanes f_firstLanes f_oddLanes f_sevenNodes f_instances (nI NV) f_defaultValue f_firstKing f_tainted es cs f_bits f_proposalSome f_proposalOne f_strong f_corrupted f_valueLanes f_echoLanes f_exchangeLanes f_proposeLanes f_kingLanes f_wideLanes f_narrowLanes f_runningLanes f_kingBits f_dueSome s0 s1 s2 f_ledgerHead f_ledgerSize a_rounds pl a_policies a_dictSet a_dictSome a_dictPlanes a_splitPlanes a_duePlanes a_sentSome a_sentPlanes m a_ledgerInstance a_ledgerValue a_ledgerTainted) (fun v b0 b1 b2 es cs pl m s0 s1 s2 => pv_SWI f_valueLanes f_echoLanes f_echoSome f_candidateSome a_planes a_sentSome a_sentPlanes v b0 b1 b2 es cs pl) NV 0 0 0 _ _ _ _ _ _ _ (pv_SWI0 _ _ _ _ _ _ _) ?_ ?_
  · intro n b0 b1 b2 es cs pl m s0 s1 s2 H
    exact br_t (nI_le (Nat.le_refl _) (by omega)) (h _ _ _ _ _ _ _ _ (pv_SWe H))
  · intro n v b0 b1 b2 es cs pl m s0 s1 s2 hv H K
    refine br_f (nI_ge hv (by omega)) (xw_cc (Or.inr ⟨v, by omega, rfl⟩) ?_)
    intro m' t0 t1 t2 HC x6 e6 es' ees
    refine xw_wv (F := 1) (by decide) ?_
    intro x7 e7 x8 e8 x9 e9 cs' ecs
    refine xw_wv (F := 2) (by decide) ?_
    intro x4 e4
    obtain rfl := e4.trans (nI_1 v)
    subst e6 ees e7 e8 e9 ecs
    exact K _ _ _ _ _ _ _ _ _ _ (pv_SWIs (by omega) H HC)
theorem xw_sn {post : SX → Prop} (h : ∀ ps po b st m s0 s1 s2, pv_SN f_exchangeLanes f_proposeLanes f_proposalSome f_proposalOne f_bits f_strong a_sentSome a_sentPlanes ps po b st → post (f_allLanes, f_firstLanes, f_oddLanes, f_sevenNodes, f_instances, f_values, f_defaultValue, f_firstKing, f_tainted, f_echoSome, f_candidateSome, b, ps, po, st, f_corrupted, f_valueLanes, f_echoLanes, f_exchangeLanes, f_proposeLanes, f_kingLanes, f_wideLanes, f_narrowLanes, f_runningLanes, f_kingBits, f_dueSome, s0, s1, s2, f_ledgerHead, f_ledgerSize, a_rounds, a_planes, a_policies, a_dictSet, a_dictSome, a_dictPlanes, a_splitPlanes, a_duePlanes, a_sentSome, a_sentPlanes, m, a_ledgerInstance, a_ledgerValue, a_ledgerTainted)) : wpX_stepNarrow post (f_allLanes, f_firstLanes, f_oddLanes, f_sevenNodes, f_instances, f_values, f_defaultValue, f_firstKing, f_tainted, f_echoSome, f_candidateSome, f_bits, f_proposalSome, f_proposalOne, f_strong, f_corrupted, f_valueLanes, f_echoLanes, f_exchangeLanes, f_proposeLanes, f_kingLanes, f_wideLanes, f_narrowLanes, f_runningLanes, f_kingBits, f_dueSome, f_sum0, f_sum1, f_sum2, f_ledgerHead, f_ledgerSize, a_rounds, a_planes, a_policies, a_dictSet, a_dictSome, a_dictPlanes, a_splitPlanes, a_duePlanes, a_sentSome, a_sentPlanes, a_match, a_ledgerInstance, a_ledgerValue, a_ledgerTainted) := by
  unfold wpX_stepNarrow
  refine xw_cc (c := nI 1) (Or.inr ⟨1, by decide, rfl⟩) ?_
  intro m s0 s1 s2 H1
  refine xw_cc (c := nI 0) (Or.inr ⟨0, by decide, rfl⟩) ?_
  intro m' t0 t1 t2 H0 x5 e5 x6 e6
  subst e5 e6
  exact h _ _ _ _ _ _ _ _ (pv_SNx H1 H0)
theorem xw_sk {post : SX → Prop} (h : ∀ b, pv_SK f_kingLanes f_strong f_bits a_sentSome a_sentPlanes b → post (f_allLanes, f_firstLanes, f_oddLanes, f_sevenNodes, f_instances, f_values, f_defaultValue, f_firstKing, f_tainted, f_echoSome, f_candidateSome, b, f_proposalSome, f_proposalOne, f_strong, f_corrupted, f_valueLanes, f_echoLanes, f_exchangeLanes, f_proposeLanes, f_kingLanes, f_wideLanes, f_narrowLanes, f_runningLanes, f_kingBits, f_dueSome, f_sum0, f_sum1, f_sum2, f_ledgerHead, f_ledgerSize, a_rounds, a_planes, a_policies, a_dictSet, a_dictSome, a_dictPlanes, a_splitPlanes, a_duePlanes, a_sentSome, a_sentPlanes, a_match, a_ledgerInstance, a_ledgerValue, a_ledgerTainted)) : wpX_stepKing post (f_allLanes, f_firstLanes, f_oddLanes, f_sevenNodes, f_instances, f_values, f_defaultValue, f_firstKing, f_tainted, f_echoSome, f_candidateSome, f_bits, f_proposalSome, f_proposalOne, f_strong, f_corrupted, f_valueLanes, f_echoLanes, f_exchangeLanes, f_proposeLanes, f_kingLanes, f_wideLanes, f_narrowLanes, f_runningLanes, f_kingBits, f_dueSome, f_sum0, f_sum1, f_sum2, f_ledgerHead, f_ledgerSize, a_rounds, a_planes, a_policies, a_dictSet, a_dictSome, a_dictPlanes, a_splitPlanes, a_duePlanes, a_sentSome, a_sentPlanes, a_match, a_ledgerInstance, a_ledgerValue, a_ledgerTainted) := by
  refine pv_l2 (fun n i x y => wX_stepKing_6 post f_allLanes f_firstLanes f_oddLanes f_sevenNodes f_instances f_values f_defaultValue f_firstKing f_tainted f_echoSome f_candidateSome f_bits f_proposalSome f_proposalOne f_strong f_corrupted f_valueLanes f_echoLanes f_exchangeLanes f_proposeLanes f_kingLanes f_wideLanes f_narrowLanes f_runningLanes f_kingBits f_dueSome f_sum0 f_sum1 f_sum2 f_ledgerHead f_ledgerSize a_rounds a_planes a_policies a_dictSet a_dictSome a_dictPlanes a_splitPlanes a_duePlanes a_sentSome a_sentPlanes a_match a_ledgerInstance a_ledgerValue a_ledgerTainted n x y (nI i)) (fun i x y => x = pv_orW a_sentSome i ∧ y = pv_orW (fun f => a_sentPlanes (4 * f)) i) 7 0 0 ⟨rfl, rfl⟩ ?_ ?_
  · rintro n x y ⟨rfl, rfl⟩
    refine br_t pv_77 ?_
    intro z ez
    subst ez
    exact h _ pv_SKx
  · rintro n i x y hi ⟨rfl, rfl⟩ K
    refine br_f (pv_n7 hi) ⟨vp_in_nI hi (by decide), fun x' ex => ⟨by rw [pv_4']; exact vp_in_nI (by omega) (by decide), fun y' ey z ez => ?_⟩⟩
    obtain rfl := ez.trans (nI_1 i)
    rw [nI_clamp (by omega : i < 2 ^ 31)] at ex
    rw [pv_4', nI_clamp (by omega : 4 * i < 2 ^ 31)] at ey
    exact K x' y' ⟨ex, ey⟩
end
end
section
/-! the ledger; the end of a round; tick -/
abbrev pv_Lg : Type := Nat × (Nat → Int32) × (Nat → Int32) × (Nat → Int32)
def pv_push (L : pv_Lg) (a b c : Int32) : pv_Lg := if L.1 = 16 then (16, (fun k => if k = 15 then a else L.2.1 (k + 1)), (fun k => if k = 15 then b else L.2.2.1 (k + 1)), (fun k => if k = 15 then c else L.2.2.2 (k + 1))) else (L.1 + 1, (fun k => if k = L.1 then a else L.2.1 k), (fun k => if k = L.1 then b else L.2.2.1 k), (fun k => if k = L.1 then c else L.2.2.2 k))
def pv_XL (L : pv_Lg) (hd sz : Int32) (li lv lt : Nat → Int32) : Prop := ∃ h, h < 16 ∧ hd = nI h ∧ L.1 ≤ 16 ∧ sz = nI L.1 ∧ ∀ k, k < L.1 → li ((h + k) % 16) = L.2.1 k ∧ lv ((h + k) % 16) = L.2.2.1 k ∧ lt ((h + k) % 16) = L.2.2.2 k
theorem pv_and15 (n : Nat) (h : n < 2 ^ 31) : nI n &&& 15 = nI (n % 16) := pk_andN (m := 15) (by omega) 4 (by decide)
theorem pv_XLf {L : pv_Lg} {h : Nat} {li lv lt : Nat → Int32} (h16 : h < 16) (hc : L.1 = 16) (H : ∀ k, k < L.1 → li ((h + k) % 16) = L.2.1 k ∧ lv ((h + k) % 16) = L.2.2.1 k ∧ lt ((h + k) % 16) = L.2.2.2 k) (a b c : Int32) : pv_XL (pv_push L a b c) (nI ((h + 1) % 16)) (nI 16) (upd li ((h + L.1) % 16) a) (upd lv ((h + L.1) % 16) b) (upd lt ((h + L.1) % 16) c) := by
  have es : (h + L.1) % 16 = h := by omega
  unfold pv_push
  rw [if_pos hc, es]
  refine ⟨(h + 1) % 16, Nat.mod_lt _ (by decide), rfl, Nat.le_refl _, rfl, fun k hk => ?_⟩
  have hk' : k < 16 := hk
  show upd li h a (((h + 1) % 16 + k) % 16) = (if k = 15 then a else L.2.1 (k + 1)) ∧ upd lv h b (((h + 1) % 16 + k) % 16) = (if k = 15 then b else L.2.2.1 (k + 1)) ∧ upd lt h c (((h + 1) % 16 + k) % 16) = (if k = 15 then c else L.2.2.2 (k + 1))
  by_cases z : k = 15
  · rw [show ((h + 1) % 16 + k) % 16 = h by omega, pk_us, pk_us, pk_us, if_pos z, if_pos z, if_pos z]
    exact ⟨rfl, rfl, rfl⟩
  · have e : ((h + 1) % 16 + k) % 16 = (h + (k + 1)) % 16 := by omega
    have ne : (h + (k + 1)) % 16 ≠ h := by omega
    rw [e, pk_un ne, pk_un ne, pk_un ne, if_neg z, if_neg z, if_neg z]
    exact H (k + 1) (by omega)
theorem pv_XLn {L : pv_Lg} {h : Nat} {li lv lt : Nat → Int32} (h16 : h < 16) (hc : L.1 ≤ 16) (hn : ¬ L.1 = 16) (H : ∀ k, k < L.1 → li ((h + k) % 16) = L.2.1 k ∧ lv ((h + k) % 16) = L.2.2.1 k ∧ lt ((h + k) % 16) = L.2.2.2 k) (a b c : Int32) : pv_XL (pv_push L a b c) (nI h) (nI (L.1 + 1)) (upd li ((h + L.1) % 16) a) (upd lv ((h + L.1) % 16) b) (upd lt ((h + L.1) % 16) c) := by
  unfold pv_push
  rw [if_neg hn]
  refine ⟨h, h16, rfl, (by omega : L.1 + 1 ≤ 16), rfl, fun k hk => ?_⟩
  have hk' : k < L.1 + 1 := hk
  show upd li ((h + L.1) % 16) a ((h + k) % 16) = (if k = L.1 then a else L.2.1 k) ∧ upd lv ((h + L.1) % 16) b ((h + k) % 16) = (if k = L.1 then b else L.2.2.1 k) ∧ upd lt ((h + L.1) % 16) c ((h + k) % 16) = (if k = L.1 then c else L.2.2.2 k)
  by_cases z : k = L.1
  · rw [z, pk_us, pk_us, pk_us, if_pos rfl, if_pos rfl, if_pos rfl]
    exact ⟨rfl, rfl, rfl⟩
  · have ne : (h + k) % 16 ≠ (h + L.1) % 16 := by omega
    rw [pk_un ne, pk_un ne, pk_un ne, if_neg z, if_neg z, if_neg z]
    exact H k (by omega)
/-- the least node at or above 7 - d whose bit is clear; 7 if there is none -/
def pv_lw (t : Int32) : Nat → Nat
  | 0 => 7
  | d + 1 => if bt t (6 - d) then pv_lw t d else 6 - d
def pv_l0 (x : Nat) : Nat := if x = 7 then 0 else x
theorem pv_lw_le (t : Int32) : ∀ d, pv_lw t d ≤ 7
  | 0 => Nat.le_refl _
  | d + 1 => by
    show (if _ then _ else _) ≤ 7
    split
    · exact pv_lw_le t d
    · exact Nat.le_trans (Nat.sub_le 6 d) (by decide)
theorem pv_l0_lt (t : Int32) (d : Nat) : pv_l0 (pv_lw t d) < 7 := by
  have := pv_lw_le t d
  unfold pv_l0
  split
  · decide
  · omega
def pv_tw (t : Int32) (i : Nat) : Int32 := ((t.toUInt32 >>> ((8 * nI i).toUInt32 &&& Int32.toUInt32 31)).toInt32) &&& 127
def pv_vl (bits cand : Int32) (planes : Nat → Int32) (D tn : Int32) (i : Nat) : Int32 := pv_hx bits cand planes D (8 * i + pv_l0 (pv_lw (pv_tw tn i) 7))
def pv_lgs (rd val tn : Nat → Int32) (L : pv_Lg) : Nat → pv_Lg
  | 0 => L
  | i + 1 => if rd i = 10 then pv_push (pv_lgs rd val tn L i) (nI i) (val i) (tn i) else pv_lgs rd val tn L i
def pv_r1 (rd : Nat → Int32) (i : Nat) : Nat → Int32 := fun j => if j < i ∧ pv_ir (rd j) = true then rd j + 1 else rd j
theorem pv_r10 (rd : Nat → Int32) : pv_r1 rd 0 = rd := funext fun j => if_neg (by omega)
theorem pv_r1r (rd : Nat → Int32) (i : Nat) : pv_r1 rd i i = rd i := if_neg (by omega)
theorem pv_r1y (rd : Nat → Int32) {i : Nat} (h : pv_ir (rd i) = true) : upd (pv_r1 rd i) i (rd i + 1) = pv_r1 rd (i + 1) := by
  funext j
  unfold upd pv_r1
  by_cases c : j = i
  · subst c; rw [if_pos rfl, if_pos ⟨by omega, h⟩]
  · rw [if_neg c]
    by_cases z : j < i ∧ pv_ir (rd j) = true
    · rw [if_pos z, if_pos ⟨by omega, z.2⟩]
    · rw [if_neg z, if_neg (fun y => z ⟨by omega, y.2⟩)]
theorem pv_r1n (rd : Nat → Int32) {i : Nat} (h : pv_ir (rd i) = false) : pv_r1 rd i = pv_r1 rd (i + 1) := by
  funext j
  unfold pv_r1
  by_cases z : j < i ∧ pv_ir (rd j) = true
  · rw [if_pos z, if_pos ⟨by omega, z.2⟩]
  · rw [if_neg z, if_neg (fun y => z ⟨?_, y.2⟩)]
    have : j ≠ i := fun e => by have := y.2; rw [e, h] at this; exact absurd this (by decide)
    omega
theorem pv_r1k {rd : Nat → Int32} (hk : ∀ i, i < 4 → pv_rk (rd i)) (m : Nat) : ∀ i, i < 4 → pv_rk (pv_r1 rd m i) := by
  intro i hi
  unfold pv_r1
  split
  · rename_i c
    obtain ⟨R, hR, e⟩ := pv_ir_t (hk i hi) c.2
    rw [e, nI_1]
    exact Or.inr ⟨R + 1, by omega, rfl⟩
  · exact hk i hi
section
variable {f_allLanes f_firstLanes f_oddLanes f_sevenNodes f_instances f_values f_defaultValue f_firstKing f_tainted f_echoSome f_candidateSome f_bits f_proposalSome f_proposalOne f_strong f_corrupted f_valueLanes f_echoLanes f_exchangeLanes f_proposeLanes f_kingLanes f_wideLanes f_narrowLanes f_runningLanes f_kingBits f_dueSome f_sum0 f_sum1 f_sum2 f_ledgerHead f_ledgerSize : Int32} {a_rounds a_planes a_policies a_dictSet a_dictSome a_dictPlanes a_splitPlanes a_duePlanes a_sentSome a_sentPlanes a_match a_ledgerInstance a_ledgerValue a_ledgerTainted : Nat → Int32}
theorem xw_ae {post : SX → Prop} {i : Nat} {L : pv_Lg} (hi : i < 4) (HL : pv_XL L f_ledgerHead f_ledgerSize a_ledgerInstance a_ledgerValue a_ledgerTainted) (h : ∀ hd sz li lv lt, pv_XL (pv_push L (nI i) (pv_vl f_bits f_candidateSome a_planes f_defaultValue f_tainted i) (pv_tw f_tainted i)) hd sz li lv lt → post (f_allLanes, f_firstLanes, f_oddLanes, f_sevenNodes, f_instances, f_values, f_defaultValue, f_firstKing, f_tainted, f_echoSome, f_candidateSome, f_bits, f_proposalSome, f_proposalOne, f_strong, f_corrupted, f_valueLanes, f_echoLanes, f_exchangeLanes, f_proposeLanes, f_kingLanes, f_wideLanes, f_narrowLanes, f_runningLanes, f_kingBits, f_dueSome, f_sum0, f_sum1, f_sum2, hd, sz, a_rounds, a_planes, a_policies, a_dictSet, a_dictSome, a_dictPlanes, a_splitPlanes, a_duePlanes, a_sentSome, a_sentPlanes, a_match, li, lv, lt)) : wpX_addEntry post (f_allLanes, f_firstLanes, f_oddLanes, f_sevenNodes, f_instances, f_values, f_defaultValue, f_firstKing, f_tainted, f_echoSome, f_candidateSome, f_bits, f_proposalSome, f_proposalOne, f_strong, f_corrupted, f_valueLanes, f_echoLanes, f_exchangeLanes, f_proposeLanes, f_kingLanes, f_wideLanes, f_narrowLanes, f_runningLanes, f_kingBits, f_dueSome, f_sum0, f_sum1, f_sum2, f_ledgerHead, f_ledgerSize, a_rounds, a_planes, a_policies, a_dictSet, a_dictSome, a_dictPlanes, a_splitPlanes, a_duePlanes, a_sentSome, a_sentPlanes, a_match, a_ledgerInstance, a_ledgerValue, a_ledgerTainted) (nI i) := by
  intro t et
  have et' : t = pv_tw f_tainted i := et
  clear et
  subst et'
  obtain ⟨hh, h16, e1, hc, e2, Hk⟩ := HL
  have e6 : (6 : Int32) = nI 7 + (-1) := by decide +kernel
  rw [e6]
  refine ⟨8, pk_loopD (fun n m s => wX_addEntry_19 post (nI i) (pv_tw f_tainted i) f_allLanes f_firstLanes f_oddLanes f_sevenNodes f_instances f_values f_defaultValue f_firstKing f_tainted f_echoSome f_candidateSome f_bits f_proposalSome f_proposalOne f_strong f_corrupted f_valueLanes f_echoLanes f_exchangeLanes f_proposeLanes f_kingLanes f_wideLanes f_narrowLanes f_runningLanes f_kingBits f_dueSome f_sum0 f_sum1 f_sum2 f_ledgerHead f_ledgerSize a_rounds a_planes a_policies a_dictSet a_dictSome a_dictPlanes a_splitPlanes a_duePlanes a_sentSome a_sentPlanes a_match a_ledgerInstance a_ledgerValue a_ledgerTainted n s (nI m + (-1))) (fun m s => m ≤ 7 ∧ s = nI (pv_l0 (pv_lw (pv_tw f_tainted i) (7 - m)))) ?_ ?_ 7 0 ⟨Nat.le_refl _, rfl⟩⟩
  · rintro n s ⟨_, rfl⟩
    refine br_t (by decide) ?_
    intro x4 e4
    have hl0 := pv_l0_lt (pv_tw f_tainted i) (7 - 0)
    rw [e1, e2, nI_add, pv_and15 _ (by omega)] at e4
    have hm : (hh + L.1) % 16 < 16 := Nat.mod_lt _ (by decide)
    have hcl : (nI ((hh + L.1) % 16)).toNatClampNeg = (hh + L.1) % 16 := nI_clamp (by omega)
    subst e4
    have hv : vp_in (nI ((hh + L.1) % 16)) 16 := vp_in_nI hm (by decide)
    refine ⟨hv, fun li eli => ?_⟩
    rw [pv_8]
    refine xw_hx (by omega) ⟨hv, fun lv elv => ⟨hv, fun lt elt => ?_⟩⟩
    rw [hcl] at eli elv elt
    refine br_c (fun z => ?_) (fun z => ?_)
    · intro hd ehd
      rw [e2] at z
      have z' : L.1 = 16 := (nI_eq (b := 16) (by omega) (by decide)).mp z
      rw [e1, nI_1, pv_and15 _ (by omega)] at ehd
      subst ehd eli elv elt
      refine h _ _ _ _ _ ?_
      rw [e2, z]
      exact pv_XLf h16 z' Hk _ _ _
    · intro sz esz
      rw [e2] at z
      have z' : ¬ L.1 = 16 := fun y => z (by rw [y]; rfl)
      rw [e2, nI_1] at esz
      subst esz eli elv elt
      refine h _ _ _ _ _ ?_
      rw [e1]
      exact pv_XLn h16 hc z' Hk _ _ _
  · rintro n m s ⟨hm, rfl⟩ K
    have hd : 7 - m = (7 - (m + 1)) + 1 := by omega
    have h6 : 6 - (7 - (m + 1)) = m := by omega
    show wX_addEntry_19 post (nI i) (pv_tw f_tainted i) f_allLanes f_firstLanes f_oddLanes f_sevenNodes f_instances f_values f_defaultValue f_firstKing f_tainted f_echoSome f_candidateSome f_bits f_proposalSome f_proposalOne f_strong f_corrupted f_valueLanes f_echoLanes f_exchangeLanes f_proposeLanes f_kingLanes f_wideLanes f_narrowLanes f_runningLanes f_kingBits f_dueSome f_sum0 f_sum1 f_sum2 f_ledgerHead f_ledgerSize a_rounds a_planes a_policies a_dictSet a_dictSome a_dictPlanes a_splitPlanes a_duePlanes a_sentSome a_sentPlanes a_match a_ledgerInstance a_ledgerValue a_ledgerTainted (n + 1) _ (nI (m + 1) + (-1))
    rw [pk_m1]
    refine br_f (nI_pos (by omega)) (pv_b0 (by omega) (fun hb y ey => ?_) (fun hb y ey => ?_))
    · subst ey
      refine K _ ⟨by omega, ?_⟩
      rw [hd]
      show _ = nI (pv_l0 (if bt _ (6 - (7 - (m + 1))) then _ else 6 - (7 - (m + 1))))
      rw [h6, hb, if_neg (by decide)]
      unfold pv_l0
      rw [if_neg (by omega)]
    · subst ey
      refine K _ ⟨by omega, ?_⟩
      rw [hd]
      show _ = nI (pv_l0 (if bt _ (6 - (7 - (m + 1))) then _ else 6 - (7 - (m + 1))))
      rw [h6, hb, if_pos rfl]
theorem xw_fin {post : Int32 → SX → Prop} {NI FK : Nat} {L : pv_Lg} (hN : NI ≤ 4) (hF : FK < 7) (hk : ∀ i, i < 4 → pv_rk (a_rounds i)) (HL : pv_XL L f_ledgerHead f_ledgerSize a_ledgerInstance a_ledgerValue a_ledgerTainted)
    (h : ∀ v e x p k b hd sz li lv lt, pv_LN (pv_r1 a_rounds NI) FK NI v e x p k b → pv_XL (pv_lgs a_rounds (pv_vl f_bits f_candidateSome a_planes f_defaultValue f_tainted) (pv_tw f_tainted) L NI) hd sz li lv lt → post (nI (pv_cn (fun j => pv_ir (a_rounds j)) NI)) (f_allLanes, f_firstLanes, f_oddLanes, f_sevenNodes, nI NI, f_values, f_defaultValue, nI FK, f_tainted, f_echoSome, f_candidateSome, f_bits, f_proposalSome, f_proposalOne, f_strong, f_corrupted, v, e, x, p, k, v ||| e, (x ||| p) ||| k, (v ||| e) ||| ((x ||| p) ||| k), b, f_dueSome, f_sum0, f_sum1, f_sum2, hd, sz, pv_r1 a_rounds NI, a_planes, a_policies, pv_mk f_runningLanes a_dictSet 7, pv_mk f_runningLanes a_dictSome 7, pv_mk f_runningLanes a_dictPlanes 28, a_splitPlanes, a_duePlanes, a_sentSome, a_sentPlanes, a_match, li, lv, lt)) : wpX_finishRounds post (f_allLanes, f_firstLanes, f_oddLanes, f_sevenNodes, nI NI, f_values, f_defaultValue, nI FK, f_tainted, f_echoSome, f_candidateSome, f_bits, f_proposalSome, f_proposalOne, f_strong, f_corrupted, f_valueLanes, f_echoLanes, f_exchangeLanes, f_proposeLanes, f_kingLanes, f_wideLanes, f_narrowLanes, f_runningLanes, f_kingBits, f_dueSome, f_sum0, f_sum1, f_sum2, f_ledgerHead, f_ledgerSize, a_rounds, a_planes, a_policies, a_dictSet, a_dictSome, a_dictPlanes, a_splitPlanes, a_duePlanes, a_sentSome, a_sentPlanes, a_match, a_ledgerInstance, a_ledgerValue, a_ledgerTainted) := by
  unfold wpX_finishRounds
  refine xw_wd ?_
  refine pv_l7 (fun n i x1 rd hd sz li lv lt => wX_finishRounds_12 post n x1 (nI i) f_allLanes f_firstLanes f_oddLanes f_sevenNodes (nI NI) f_values f_defaultValue (nI FK) f_tainted f_echoSome f_candidateSome f_bits f_proposalSome f_proposalOne f_strong f_corrupted f_valueLanes f_echoLanes f_exchangeLanes f_proposeLanes f_kingLanes f_wideLanes f_narrowLanes f_runningLanes f_kingBits f_dueSome f_sum0 f_sum1 f_sum2 hd sz rd a_planes a_policies (pv_mk f_runningLanes a_dictSet 7) (pv_mk f_runningLanes a_dictSome 7) (pv_mk f_runningLanes a_dictPlanes 28) a_splitPlanes a_duePlanes a_sentSome a_sentPlanes a_match li lv lt) (fun i x1 rd hd sz li lv lt => x1 = nI (pv_cn (fun j => pv_ir (a_rounds j)) i) ∧ rd = pv_r1 a_rounds i ∧ pv_XL (pv_lgs a_rounds (pv_vl f_bits f_candidateSome a_planes f_defaultValue f_tainted) (pv_tw f_tainted) L i) hd sz li lv lt) NI 0 a_rounds f_ledgerHead f_ledgerSize a_ledgerInstance a_ledgerValue a_ledgerTainted ⟨rfl, (pv_r10 _).symm, HL⟩ ?_ ?_
  · rintro n x1 rd hd sz li lv lt ⟨rfl, rfl, H⟩
    refine br_t (nI_le (Nat.le_refl _) (by omega)) (xw_sl hN hF (pv_r1k hk NI) ?_)
    intro v e x p k b HLN
    exact h v e x p k b hd sz li lv lt HLN H
  · rintro n i x1 rd hd sz li lv lt hi ⟨rfl, rfl, H⟩ K
    have hi4 : i < 4 := by omega
    refine br_f (nI_ge hi (by omega)) (xw_run hi4 (pv_r1k hk i i hi4) (fun hr => br_f (by decide) ?_) (fun hr => br_t rfl ?_))
    · rw [pv_r1r] at hr
      obtain ⟨R, hR, eR⟩ := pv_ir_t (hk i hi4) hr
      have hv : vp_in (nI i) 4 := vp_in_nI hi4 (by decide)
      have hc : (nI i).toNatClampNeg = i := nI_clamp (by omega)
      intro y ey
      refine ⟨hv, hv, fun rd' erd => ⟨hv, ?_⟩⟩
      rw [hc, pv_r1r, pv_r1y _ hr] at erd
      subst erd
      have ey' : y = nI (pv_cn (fun j => pv_ir (a_rounds j)) (i + 1)) := by
        rw [ey, nI_1]
        show _ = nI (pv_cn _ i + (pv_ir (a_rounds i)).toNat)
        rw [hr]; rfl
      have er : pv_r1 a_rounds (i + 1) (nI i).toNatClampNeg = nI (R + 1) := by
        rw [hc, ← nI_1, ← eR]
        exact if_pos ⟨by omega, hr⟩
      rw [er]
      refine pk_eq (R + 1) 11 (fun z => xw_ae hi4 H ?_) (fun z => ?_)
      · intro hd' sz' li' lv' lt' H'
        intro z2 ez
        obtain rfl := ez.trans (nI_1 i)
        refine K _ _ _ _ _ _ _ ⟨ey', rfl, ?_⟩
        show pv_XL (if a_rounds i = 10 then _ else _) _ _ _ _ _
        rw [if_pos (by rw [eR, show R = 10 by omega]; rfl)]
        exact H'
      · intro z2 ez
        obtain rfl := ez.trans (nI_1 i)
        refine K _ _ _ _ _ _ _ ⟨ey', rfl, ?_⟩
        show pv_XL (if a_rounds i = 10 then _ else _) _ _ _ _ _
        rw [if_neg (by rw [eR]; exact fun y => z (by have := (nI_eq (b := 10) (by omega) (by decide)).mp y; omega))]
        exact H
    · rw [pv_r1r] at hr
      intro z2 ez
      obtain rfl := ez.trans (nI_1 i)
      refine K _ _ _ _ _ _ _ ⟨?_, pv_r1n _ hr, ?_⟩
      · show _ = nI (pv_cn _ i + (pv_ir (a_rounds i)).toNat)
        rw [hr]; rfl
      · show pv_XL (if a_rounds i = 10 then _ else _) _ _ _ _ _
        rw [if_neg (fun y => by rw [y] at hr; exact absurd hr (by decide))]
        exact H
theorem xw_t40 {post : Int32 → SX → Prop} {NI FK : Nat} {L : pv_Lg} (hN : NI ≤ 4) (hF : FK < 7) (hk : ∀ i, i < 4 → pv_rk (a_rounds i)) (HL : pv_XL L f_ledgerHead f_ledgerSize a_ledgerInstance a_ledgerValue a_ledgerTainted)
    (h : ∀ b3 v e x p k b hd sz li lv lt, pv_SK f_kingLanes f_strong f_bits a_sentSome a_sentPlanes b3 → pv_LN (pv_r1 a_rounds NI) FK NI v e x p k b → pv_XL (pv_lgs a_rounds (pv_vl b3 f_candidateSome a_planes f_defaultValue f_tainted) (pv_tw f_tainted) L NI) hd sz li lv lt → post (nI (pv_cn (fun j => pv_ir (a_rounds j)) NI)) (f_allLanes, f_firstLanes, f_oddLanes, f_sevenNodes, nI NI, f_values, f_defaultValue, nI FK, f_tainted, f_echoSome, f_candidateSome, b3, f_proposalSome, f_proposalOne, f_strong, f_corrupted, v, e, x, p, k, v ||| e, (x ||| p) ||| k, (v ||| e) ||| ((x ||| p) ||| k), b, f_dueSome, f_sum0, f_sum1, f_sum2, hd, sz, pv_r1 a_rounds NI, a_planes, a_policies, pv_mk f_runningLanes a_dictSet 7, pv_mk f_runningLanes a_dictSome 7, pv_mk f_runningLanes a_dictPlanes 28, a_splitPlanes, a_duePlanes, a_sentSome, a_sentPlanes, a_match, li, lv, lt)) : wX_tick_40 post f_allLanes f_firstLanes f_oddLanes f_sevenNodes (nI NI) f_values f_defaultValue (nI FK) f_tainted f_echoSome f_candidateSome f_bits f_proposalSome f_proposalOne f_strong f_corrupted f_valueLanes f_echoLanes f_exchangeLanes f_proposeLanes f_kingLanes f_wideLanes f_narrowLanes f_runningLanes f_kingBits f_dueSome f_sum0 f_sum1 f_sum2 f_ledgerHead f_ledgerSize a_rounds a_planes a_policies a_dictSet a_dictSome a_dictPlanes a_splitPlanes a_duePlanes a_sentSome a_sentPlanes a_match a_ledgerInstance a_ledgerValue a_ledgerTainted := by
  unfold wX_tick_40
  refine br_c (fun z => ?_) (fun z => ?_)
  · unfold wX_tick_51
    refine xw_fin hN hF hk HL ?_
    intro v e x p k b hd sz li lv lt H1 H2
    exact h f_bits v e x p k b hd sz li lv lt (pv_SKr z) H1 H2
  · refine xw_sk ?_
    intro b3 HK
    show wX_tick_51 post f_allLanes f_firstLanes f_oddLanes f_sevenNodes (nI NI) f_values f_defaultValue (nI FK) f_tainted f_echoSome f_candidateSome b3 f_proposalSome f_proposalOne f_strong f_corrupted f_valueLanes f_echoLanes f_exchangeLanes f_proposeLanes f_kingLanes f_wideLanes f_narrowLanes f_runningLanes f_kingBits f_dueSome f_sum0 f_sum1 f_sum2 f_ledgerHead f_ledgerSize a_rounds a_planes a_policies a_dictSet a_dictSome a_dictPlanes a_splitPlanes a_duePlanes a_sentSome a_sentPlanes a_match a_ledgerInstance a_ledgerValue a_ledgerTainted
    unfold wX_tick_51
    refine xw_fin hN hF hk HL ?_
    intro v e x p k b hd sz li lv lt H1 H2
    exact h b3 v e x p k b hd sz li lv lt HK H1 H2
theorem xw_t24 {post : Int32 → SX → Prop} {NI FK : Nat} {L : pv_Lg} (hN : NI ≤ 4) (hF : FK < 7) (hk : ∀ i, i < 4 → pv_rk (a_rounds i)) (HL : pv_XL L f_ledgerHead f_ledgerSize a_ledgerInstance a_ledgerValue a_ledgerTainted)
    (h : ∀ ps po b2 st b3 m s0 s1 s2 v e x p k b hd sz li lv lt, pv_SN f_exchangeLanes f_proposeLanes f_proposalSome f_proposalOne f_bits f_strong a_sentSome a_sentPlanes ps po b2 st → pv_SK f_kingLanes st b2 a_sentSome a_sentPlanes b3 → pv_LN (pv_r1 a_rounds NI) FK NI v e x p k b → pv_XL (pv_lgs a_rounds (pv_vl b3 f_candidateSome a_planes f_defaultValue f_tainted) (pv_tw f_tainted) L NI) hd sz li lv lt → post (nI (pv_cn (fun j => pv_ir (a_rounds j)) NI)) (f_allLanes, f_firstLanes, f_oddLanes, f_sevenNodes, nI NI, f_values, f_defaultValue, nI FK, f_tainted, f_echoSome, f_candidateSome, b3, ps, po, st, f_corrupted, v, e, x, p, k, v ||| e, (x ||| p) ||| k, (v ||| e) ||| ((x ||| p) ||| k), b, f_dueSome, s0, s1, s2, hd, sz, pv_r1 a_rounds NI, a_planes, a_policies, pv_mk f_runningLanes a_dictSet 7, pv_mk f_runningLanes a_dictSome 7, pv_mk f_runningLanes a_dictPlanes 28, a_splitPlanes, a_duePlanes, a_sentSome, a_sentPlanes, m, li, lv, lt)) : wX_tick_24 post f_allLanes f_firstLanes f_oddLanes f_sevenNodes (nI NI) f_values f_defaultValue (nI FK) f_tainted f_echoSome f_candidateSome f_bits f_proposalSome f_proposalOne f_strong f_corrupted f_valueLanes f_echoLanes f_exchangeLanes f_proposeLanes f_kingLanes f_wideLanes f_narrowLanes f_runningLanes f_kingBits f_dueSome f_sum0 f_sum1 f_sum2 f_ledgerHead f_ledgerSize a_rounds a_planes a_policies a_dictSet a_dictSome a_dictPlanes a_splitPlanes a_duePlanes a_sentSome a_sentPlanes a_match a_ledgerInstance a_ledgerValue a_ledgerTainted := by
  unfold wX_tick_24
  refine br_c (fun z => ?_) (fun z => ?_)
  · refine xw_t40 hN hF hk HL ?_
    intro b3 v e x p k b hd sz li lv lt HK H1 H2
    exact h _ _ _ _ _ _ _ _ _ _ _ _ _ _ _ _ _ _ _ _ (pv_SNr z) HK H1 H2
  · refine xw_sn ?_
    intro ps po b2 st m s0 s1 s2 HS
    refine xw_t40 hN hF hk HL ?_
    intro b3 v e x p k b hd sz li lv lt HK H1 H2
    exact h _ _ _ _ _ _ _ _ _ _ _ _ _ _ _ _ _ _ _ _ HS HK H1 H2
theorem xw_tick {post : Int32 → SX → Prop} {NI NV FK : Nat} {L : pv_Lg} (hN : NI ≤ 4) (hV : 2 ≤ NV) (hV2 : NV ≤ 16) (hF : FK < 7) (hk : ∀ i, i < 4 → pv_rk (a_rounds i)) (HL : pv_XL L f_ledgerHead f_ledgerSize a_ledgerInstance a_ledgerValue a_ledgerTainted)
    (h0 : f_runningLanes = 0 → post 0 (f_allLanes, f_firstLanes, f_oddLanes, f_sevenNodes, nI NI, nI NV, f_defaultValue, nI FK, f_tainted, f_echoSome, f_candidateSome, f_bits, f_proposalSome, f_proposalOne, f_strong, f_corrupted, f_valueLanes, f_echoLanes, f_exchangeLanes, f_proposeLanes, f_kingLanes, f_valueLanes ||| f_echoLanes, f_narrowLanes, f_runningLanes, f_kingBits, f_dueSome, f_sum0, f_sum1, f_sum2, f_ledgerHead, f_ledgerSize, a_rounds, a_planes, a_policies, a_dictSet, a_dictSome, a_dictPlanes, a_splitPlanes, a_duePlanes, a_sentSome, a_sentPlanes, a_match, a_ledgerInstance, a_ledgerValue, a_ledgerTainted))
    (h : ¬ f_runningLanes = 0 → ∀ ss sp es cs b1 pl ps po b2 st b3 d1 d2 m s0 s1 s2 v e x p k b hd sz li lv lt, pv_FA (pv_ds f_valueLanes f_echoLanes f_echoSome f_exchangeLanes f_kingBits f_proposalSome f_proposeLanes) f_corrupted f_runningLanes f_kingLanes f_kingBits (f_valueLanes ||| f_echoLanes) f_narrowLanes a_policies a_dictSet a_dictSome a_dictPlanes (pv_dp a_planes a_duePlanes f_valueLanes f_echoLanes f_exchangeLanes f_kingBits f_proposeLanes f_bits f_proposalOne) a_splitPlanes NV 7 ss sp → pv_SW f_valueLanes f_echoLanes f_echoSome f_candidateSome f_bits a_planes ss sp NV es cs b1 pl → pv_SN f_exchangeLanes f_proposeLanes f_proposalSome f_proposalOne b1 f_strong ss sp ps po b2 st → pv_SK f_kingLanes st b2 ss sp b3 → pv_LN (pv_r1 a_rounds NI) FK NI v e x p k b → pv_XL (pv_lgs a_rounds (pv_vl b3 cs pl f_defaultValue f_tainted) (pv_tw f_tainted) L NI) hd sz li lv lt → post (nI (pv_cn (fun j => pv_ir (a_rounds j)) NI)) (f_allLanes, f_firstLanes, f_oddLanes, f_sevenNodes, nI NI, nI NV, f_defaultValue, nI FK, f_tainted, es, cs, b3, ps, po, st, f_corrupted, v, e, x, p, k, v ||| e, (x ||| p) ||| k, (v ||| e) ||| ((x ||| p) ||| k), b, d1, s0, s1, s2, hd, sz, pv_r1 a_rounds NI, pl, a_policies, pv_mk f_runningLanes a_dictSet 7, pv_mk f_runningLanes a_dictSome 7, pv_mk f_runningLanes a_dictPlanes 28, a_splitPlanes, d2, ss, sp, m, li, lv, lt)) : wpX_tick post (f_allLanes, f_firstLanes, f_oddLanes, f_sevenNodes, nI NI, nI NV, f_defaultValue, nI FK, f_tainted, f_echoSome, f_candidateSome, f_bits, f_proposalSome, f_proposalOne, f_strong, f_corrupted, f_valueLanes, f_echoLanes, f_exchangeLanes, f_proposeLanes, f_kingLanes, f_valueLanes ||| f_echoLanes, f_narrowLanes, f_runningLanes, f_kingBits, f_dueSome, f_sum0, f_sum1, f_sum2, f_ledgerHead, f_ledgerSize, a_rounds, a_planes, a_policies, a_dictSet, a_dictSome, a_dictPlanes, a_splitPlanes, a_duePlanes, a_sentSome, a_sentPlanes, a_match, a_ledgerInstance, a_ledgerValue, a_ledgerTainted) := by
  unfold wpX_tick
  refine br_c (fun z => h0 z) (fun z => xw_fa hV hV2 ?_)
  intro ss sp HA
  refine br_c (fun y => ?_) (fun y => ?_)
  · refine xw_t24 hN hF hk HL ?_
    intro ps po b2 st b3 m s0 s1 s2 v e x p k b hd sz li lv lt HS HK H1 H2
    exact h z _ _ _ _ _ _ _ _ _ _ _ _ _ _ _ _ _ _ _ _ _ _ _ _ _ _ _ _ HA (pv_SWr y) HS HK H1 H2
  · refine xw_sw hV2 ?_
    intro es cs b1 pl m' s0' s1' s2' HW
    refine xw_t24 hN hF hk HL ?_
    intro ps po b2 st b3 m s0 s1 s2 v e x p k b hd sz li lv lt HS HK H1 H2
    exact h z _ _ _ _ _ _ _ _ _ _ _ _ _ _ _ _ _ _ _ _ _ _ _ _ _ _ _ _ HA HW HS HK H1 H2
end
end
section
/-! the reference, walked -/
def pv_mx (i n k : Nat) : Nat := (i * 7 + n) * 6 + k
def pv_dx (i f r : Nat) : Nat := (i * 7 + f) * 7 + r
def pv_sz (NV R : Nat) : Nat := if R ≤ 1 then NV else 2
theorem pv_szo_R {NV R : Nat} (hR : R < 12) : pv_szo NV (nI R) = nI (pv_sz NV R) := by
  unfold pv_szo pv_sz
  by_cases c : R ≤ 1
  · have a1 : ¬ 1 < nI R := nI_nlt (a := 1) c (by decide)
    rw [if_neg a1, if_pos c]
  · have a1 : 1 < nI R := nI_lt (a := 1) (by omega) (by omega)
    rw [if_pos a1, if_neg c]; rfl
theorem pv_i76 (i n : Nat) : (nI i * 7 + nI n) * 6 = nI (pv_mx i n 0) := by
  show (nI i * nI 7 + nI n) * nI 6 = _
  rw [pk_mul, nI_add, pk_mul]; rfl
theorem pv_i77 (i f r : Nat) : (nI i * 7 + nI f) * 7 + nI r = nI (pv_dx i f r) := by
  show (nI i * nI 7 + nI f) * nI 7 + nI r = _
  rw [pk_mul, nI_add, pk_mul, nI_add]; rfl
theorem pv_i7 (f r : Nat) : nI f * 7 + nI r = nI (f * 7 + r) := by
  show nI f * nI 7 + nI r = _
  rw [pk_mul, nI_add]
theorem pv_i49 (f r : Nat) : nI f * 49 + nI r = nI (f * 49 + r) := by
  show nI f * nI 49 + nI r = _
  rw [pk_mul, nI_add]
theorem pv_mk_lt {i n k : Nat} (hi : i < 4) (hn : n < 7) (hk : k < 6) : pv_mx i n k < 168 := by unfold pv_mx; omega
theorem pv_inM {i n k : Nat} {x : Int32} (hi : i < 4) (hn : n < 7) (hk : k < 6) (hx : x = nI (pv_mx i n k)) : vp_in x 168 := by
  subst hx; exact vp_in_nI (pv_mk_lt hi hn hk) (by decide)
theorem pv_clM {i n k : Nat} {x : Int32} (hi : i < 4) (hn : n < 7) (hk : k < 6) (hx : x = nI (pv_mx i n k)) : x.toNatClampNeg = pv_mx i n k := by
  subst hx; exact nI_clamp (by have := pv_mk_lt hi hn hk; omega)
theorem pv_aM (i n k : Nat) : nI (pv_mx i n 0) + nI k = nI (pv_mx i n k) := by rw [nI_add]; rfl
theorem pv_inD {i f r : Nat} {x : Int32} (hi : i < 4) (hf : f < 7) (hr : r < 7) (hx : x = nI (pv_dx i f r)) : vp_in x 196 := by
  subst hx; exact vp_in_nI (by unfold pv_dx; omega) (by decide)
theorem pv_clD {i f r : Nat} {x : Int32} (hi : i < 4) (hf : f < 7) (hr : r < 7) (hx : x = nI (pv_dx i f r)) : x.toNatClampNeg = pv_dx i f r := by
  subst hx; exact nI_clamp (by unfold pv_dx; omega)
def pv_due (mem : Nat → Int32) (FK i f R : Nat) : Int32 := if R = 0 then mem (pv_mx i f 0) else if R = 1 then mem (pv_mx i f 1) else if pv_ik (nI R) then (if f = pv_kg FK i R then mem (pv_mx i f 3) else -1) else if (R - 2) % 3 = 0 then mem (pv_mx i f 3) else mem (pv_mx i f 4)
def pv_snt (mem dic pol : Nat → Int32) (NV FK i f r R : Nat) : Int32 :=
  if pv_ik (nI R) = true ∧ f ≠ pv_kg FK i R then -1
  else if pol f = -1 then pv_due mem FK i f R
  else if dic (pv_dx i f r) = -2 then (if pol f = 1 then -1 else if pol f = 2 then nI (r % pv_sz NV R) else if pol f = 3 then (if pv_due mem FK i f R = -1 then 0 else (pv_due mem FK i f R + 1) - (pv_due mem FK i f R + 1) / nI (pv_sz NV R) * nI (pv_sz NV R)) else pv_due mem FK i f R)
  else dic (pv_dx i f r)
def pv_hy (mem : Nat → Int32) (D : Int32) (i n : Nat) : Int32 := if mem (pv_mx i n 3) = 1 then (if mem (pv_mx i n 2) = -1 then D else mem (pv_mx i n 2)) else D
def pv_yc (msg : Nat → Int32) (r : Nat) (c : Int32) : Nat := pv_cn (fun f => decide (msg (f * 7 + r) = c)) 7
theorem pv_yc_le (msg : Nat → Int32) (r : Nat) (c : Int32) : pv_yc msg r c ≤ 7 := pv_cn_le _ _
theorem pv_cb_le {cn : Nat → Nat} (h : ∀ w, cn w ≤ 7) : ∀ v, (pv_cb cn v).1 ≤ 7
  | 0 => by show 0 ≤ 7; omega
  | v + 1 => by
    show (if _ then _ else _ : Nat × Int32).1 ≤ 7
    split
    · exact h v
    · exact pv_cb_le h v
theorem pv_uu (a : Nat → Int32) (k : Nat) (x y : Int32) : upd (upd a k x) k y = upd a k y := by
  funext j
  by_cases c : j = k
  · subst c; rw [pk_us, pk_us]
  · rw [pk_un c, pk_un c, pk_un c]
section
variable {g_ins g_val g_def g_fk g_bc : Int32} {b_rd b_tn b_mem b_dic b_pol b_book b_msg : Nat → Int32}
theorem yw_biY {post : Int32 → Prop} {NI i : Nat} (hN : NI ≤ 4) (hi : i < NI) (h : post 0) : wpY_badInstance post (nI NI, g_val, g_def, g_fk, g_bc, b_rd, b_tn, b_mem, b_dic, b_pol, b_book, b_msg) (nI i) :=
  br_f (nI_pos (by omega)) (br_t (nI_lt hi (by omega)) h)
theorem yw_biN {post : Int32 → Prop} {NI : Nat} {p : Int32} (hb : pv_badI NI p) (h : post 1) : wpY_badInstance post (nI NI, g_val, g_def, g_fk, g_bc, b_rd, b_tn, b_mem, b_dic, b_pol, b_book, b_msg) p := by
  rcases hb with z | ⟨z, y⟩
  · exact br_t z h
  · exact br_f z (br_f y h)
theorem yw_bnY {post : Int32 → Prop} {n : Nat} (hn : n < 7) (h : post 0) : wpY_badNode post (g_ins, g_val, g_def, g_fk, g_bc, b_rd, b_tn, b_mem, b_dic, b_pol, b_book, b_msg) (nI n) :=
  br_f (nI_pos (by omega)) (br_t (nI_le (b := 6) (by omega) (by decide)) h)
theorem yw_bnN {post : Int32 → Prop} {p : Int32} (hb : pv_badN p) (h : post 1) : wpY_badNode post (g_ins, g_val, g_def, g_fk, g_bc, b_rd, b_tn, b_mem, b_dic, b_pol, b_book, b_msg) p := by
  rcases hb with z | ⟨z, y⟩
  · exact br_t z h
  · exact br_f z (br_f y h)
theorem yw_clp {post : Int32 → Prop} {p lo hi : Int32} (h : post (pv_clp p lo hi)) : wpY_clamp post p lo hi := by
  unfold pv_clp at h
  refine br_c (fun z => br_c (fun y => ?_) (fun y => ?_)) (fun z => ?_)
  · rw [if_pos z, if_pos y] at h; exact h
  · rw [if_pos z, if_neg y] at h; exact h
  · rw [if_neg z] at h; exact h
theorem yw_run {post : Int32 → Prop} {i : Nat} (hi : i < 4) (hk : pv_rk (b_rd i)) (h1 : pv_ir (b_rd i) = true → post 1) (h0 : pv_ir (b_rd i) = false → post 0) : wpY_running post (g_ins, g_val, g_def, g_fk, g_bc, b_rd, b_tn, b_mem, b_dic, b_pol, b_book, b_msg) (nI i) := by
  have hv : vp_in (nI i) 4 := vp_in_nI hi (by decide)
  refine And.intro hv ?_
  rw [nI_clamp (by omega : i < 2 ^ 31)]
  rcases hk with e | ⟨R, hR, e⟩
  · rw [e] at h0 ⊢
    exact br_t (by decide) (h0 (by decide))
  · rw [e, pv_irI R hR] at h0 h1
    rw [e]
    refine br_f (nI_pos (by omega)) ⟨hv, pk_lt 10 R (fun z => h0 (decide_eq_false (by omega))) (fun z => h1 (decide_eq_true (by omega)))⟩
theorem yw_hb {post : Int32 → Prop} {i : Nat} (hi : i < 4) (hk : pv_rk (b_rd i)) (h1 : ¬ b_rd i < 2 → post 1) (h0 : b_rd i < 2 → post 0) : wpY_hasBits post (g_ins, g_val, g_def, g_fk, g_bc, b_rd, b_tn, b_mem, b_dic, b_pol, b_book, b_msg) (nI i) := by
  have hv : vp_in (nI i) 4 := vp_in_nI hi (by decide)
  refine And.intro hv ?_
  rw [nI_clamp (by omega : i < 2 ^ 31)]
  refine br_c h0 (fun z => ⟨hv, br_f ?_ (h1 z)⟩)
  rcases hk with e | ⟨R, hR, e⟩
  · rw [e]; decide
  · rw [e]; exact nI_nlt (a := 11) (by omega) (by decide)
theorem yw_kgo {post : Int32 → Prop} {FK i : Nat} (hi : i < 4) (h : post (pv_kgo FK i (b_rd i))) : wpY_kingOf post (g_ins, g_val, g_def, nI FK, g_bc, b_rd, b_tn, b_mem, b_dic, b_pol, b_book, b_msg) (nI i) := by
  have hv : vp_in (nI i) 4 := vp_in_nI hi (by decide)
  refine And.intro hv ?_
  rw [nI_clamp (by omega : i < 2 ^ 31)]
  unfold pv_kgo at h
  refine br_c (fun z => ?_) (fun z => ⟨hv, br_c (fun y => ⟨hv, by decide, by decide, ?_⟩) (fun y => ?_)⟩)
  · rw [if_pos z] at h; exact h
  · rw [if_neg z, if_pos y] at h; exact h
  · rw [if_neg z, if_neg y] at h; exact h
theorem yw_szo {post : Int32 → Prop} {NV i : Nat} (hi : i < 4) (h : post (pv_szo NV (b_rd i))) : wpY_sizeOf post (g_ins, nI NV, g_def, g_fk, g_bc, b_rd, b_tn, b_mem, b_dic, b_pol, b_book, b_msg) (nI i) := by
  have hv : vp_in (nI i) 4 := vp_in_nI hi (by decide)
  refine And.intro hv ?_
  rw [nI_clamp (by omega : i < 2 ^ 31)]
  unfold pv_szo at h
  refine br_c (fun z => ?_) (fun z => ?_)
  · rw [if_pos z] at h; exact h
  · rw [if_neg z] at h; exact h
theorem yw_kr {post : Int32 → Prop} {i : Nat} (hi : i < 4) (h1 : pv_ik (b_rd i) = true → post 1) (h0 : pv_ik (b_rd i) = false → post 0) : wpY_kingRound post (g_ins, g_val, g_def, g_fk, g_bc, b_rd, b_tn, b_mem, b_dic, b_pol, b_book, b_msg) (nI i) := by
  have hv : vp_in (nI i) 4 := vp_in_nI hi (by decide)
  refine And.intro hv ?_
  rw [nI_clamp (by omega : i < 2 ^ 31)]
  unfold pv_ik at h1 h0
  refine br_c (fun z => h1 (by rw [z]; rfl)) (fun z => ⟨hv, br_c (fun y => h1 (by rw [y]; rfl)) (fun y => ⟨hv, br_c (fun w => h1 (by rw [w]; rfl)) (fun w => h0 ?_)⟩)⟩)
  rw [decide_eq_false z, decide_eq_false y, decide_eq_false w]; rfl
theorem yw_due {post : Int32 → Prop} {FK i f R : Nat} (hi : i < 4) (hf : f < 7) (hF : FK < 7) (hR : b_rd i = nI R) (hR11 : R < 11) (h : post (pv_due b_mem FK i f R)) : wpY_due post (g_ins, g_val, g_def, nI FK, g_bc, b_rd, b_tn, b_mem, b_dic, b_pol, b_book, b_msg) (nI i) (nI f) := by
  have hv : vp_in (nI i) 4 := vp_in_nI hi (by decide)
  have hc : (nI i).toNatClampNeg = i := nI_clamp (by omega)
  have k0 : (nI (pv_mx i f 0) + 0).toNatClampNeg = pv_mx i f 0 := pv_clM hi hf (k := 0) (by decide) (pv_aM i f 0)
  have k1 : (nI (pv_mx i f 0) + 1).toNatClampNeg = pv_mx i f 1 := pv_clM hi hf (k := 1) (by decide) (pv_aM i f 1)
  have k3 : (nI (pv_mx i f 0) + 3).toNatClampNeg = pv_mx i f 3 := pv_clM hi hf (k := 3) (by decide) (pv_aM i f 3)
  have k4 : (nI (pv_mx i f 0) + 4).toNatClampNeg = pv_mx i f 4 := pv_clM hi hf (k := 4) (by decide) (pv_aM i f 4)
  intro x3 e3
  rw [pv_i76] at e3
  subst e3
  unfold pv_due at h
  refine ⟨hv, ?_⟩
  rw [hc, hR]
  refine pk_eq R 0 (fun z => ⟨pv_inM hi hf (k := 0) (by decide) (pv_aM i f 0), ?_⟩) (fun z => ⟨hv, pk_eq R 1 (fun y => ⟨pv_inM hi hf (k := 1) (by decide) (pv_aM i f 1), ?_⟩) (fun y => yw_kr hi (fun hk => br_f (by decide) (yw_kgo hi ?_)) (fun hk => br_t rfl ⟨hv, by decide, ?_⟩))⟩)
  · rw [if_pos z] at h
    rw [k0]; exact h
  · rw [if_neg z, if_pos y] at h
    rw [k1]; exact h
  · rw [hR] at hk
    rw [if_neg z, if_neg y, if_pos hk] at h
    rw [hR, pv_kgo_R hF hi (by omega) hR11]
    have := pv_kg_lt FK i R
    refine pk_eq f (pv_kg FK i R) (fun w => ⟨pv_inM hi hf (k := 3) (by decide) (pv_aM i f 3), ?_⟩) (fun w => ?_)
    · rw [if_pos w] at h
      rw [k3]; exact h
    · rw [if_neg w] at h; exact h
  · rw [hR] at hk
    rw [if_neg z, if_neg y, hk, if_neg (by decide)] at h
    rw [pv_stepI (by omega) hR11]
    refine pk_eq ((R - 2) % 3) 0 (fun w => ⟨pv_inM hi hf (k := 3) (by decide) (pv_aM i f 3), ?_⟩) (fun w => ⟨pv_inM hi hf (k := 4) (by decide) (pv_aM i f 4), ?_⟩)
    · rw [if_pos w] at h
      rw [k3]; exact h
    · rw [if_neg w] at h
      rw [k4]; exact h
theorem yw_s19 {post : Int32 → Prop} {NV FK i f r R : Nat} (hi : i < 4) (hf : f < 7) (hr : r < 7) (hF : FK < 7) (hV : 2 ≤ NV) (hV2 : NV ≤ 16) (hR : b_rd i = nI R) (hR11 : R < 11) (h : post (if b_pol f = -1 then pv_due b_mem FK i f R else if b_dic (pv_dx i f r) = -2 then (if b_pol f = 1 then -1 else if b_pol f = 2 then nI (r % pv_sz NV R) else if b_pol f = 3 then (if pv_due b_mem FK i f R = -1 then 0 else (pv_due b_mem FK i f R + 1) - (pv_due b_mem FK i f R + 1) / nI (pv_sz NV R) * nI (pv_sz NV R)) else pv_due b_mem FK i f R) else b_dic (pv_dx i f r))) : wY_sent_19 post (nI i) (nI f) (nI r) g_ins (nI NV) g_def (nI FK) g_bc b_rd b_tn b_mem b_dic b_pol b_book b_msg := by
  unfold wY_sent_19
  have hv : vp_in (nI f) 7 := vp_in_nI hf (by decide)
  have hc : (nI f).toNatClampNeg = f := nI_clamp (by omega)
  have hs : 0 < pv_sz NV R ∧ pv_sz NV R ≤ 16 := by unfold pv_sz; split <;> omega
  refine yw_due hi hf hF hR hR11 ⟨hv, ?_⟩
  rw [hc]
  generalize pv_due b_mem FK i f R = du at h ⊢
  refine br_c (fun z => ?_) (fun z => ⟨pv_inD hi hf hr (pv_i77 i f r), fun d ed => ?_⟩)
  · rw [if_pos z] at h; exact h
  rw [pv_clD hi hf hr (pv_i77 i f r)] at ed
  rw [if_neg z] at h
  rw [← ed] at h
  refine br_c (fun y => yw_szo hi ⟨hv, ?_⟩) (fun y => ?_)
  · rw [if_pos y] at h
    rw [hR, pv_szo_R (by omega)]
    refine br_c (fun p1 => ?_) (fun p1 => ⟨hv, br_c (fun p2 => ⟨nI_ne0 hs.1 (by omega), ?_⟩) (fun p2 => ⟨hv, br_c (fun p3 => br_c (fun w => ?_) (fun w => ⟨nI_ne0 hs.1 (by omega), ?_⟩)) (fun p3 => ?_)⟩)⟩)
    · rw [if_pos p1] at h; exact h
    · rw [if_neg p1, if_pos p2] at h
      rw [pk_rem (by omega) hs.1 (by omega)]; exact h
    · rw [if_neg p1, if_neg p2, if_pos p3, if_pos w] at h; exact h
    · rw [if_neg p1, if_neg p2, if_pos p3, if_neg w] at h; exact h
    · rw [if_neg p1, if_neg p2, if_neg p3] at h; exact h
  · rw [if_neg y] at h; exact h
theorem yw_snt {post : Int32 → Prop} {NV FK i f r R : Nat} (hi : i < 4) (hf : f < 7) (hr : r < 7) (hF : FK < 7) (hV : 2 ≤ NV) (hV2 : NV ≤ 16) (hR : b_rd i = nI R) (hR11 : R < 11) (h : post (pv_snt b_mem b_dic b_pol NV FK i f r R)) : wpY_sent post (g_ins, nI NV, g_def, nI FK, g_bc, b_rd, b_tn, b_mem, b_dic, b_pol, b_book, b_msg) (nI i) (nI f) (nI r) := by
  unfold wpY_sent
  unfold pv_snt at h
  refine yw_kr hi (fun hk => br_f (by decide) (yw_kgo hi ?_)) (fun hk => br_t rfl ?_)
  · rw [hR] at hk
    have h2 : 2 ≤ R := by
      rcases R with _ | _ | R
      · exact absurd hk (by decide)
      · exact absurd hk (by decide)
      · omega
    have := pv_kg_lt FK i R
    rw [hR, pv_kgo_R hF hi h2 hR11]
    refine pk_eq f (pv_kg FK i R) (fun w => ?_) (fun w => ?_)
    · rw [if_neg (fun z => z.2 w)] at h
      exact yw_s19 hi hf hr hF hV hV2 hR hR11 h
    · rw [if_pos ⟨hk, w⟩] at h; exact h
  · rw [hR] at hk
    rw [if_neg (fun z => by rw [hk] at z; exact absurd z.1 (by decide))] at h
    exact yw_s19 hi hf hr hF hV hV2 hR hR11 h
theorem yw_ct {post : Int32 → Prop} {r : Nat} (hr : r < 7) {c : Int32} (h : post (nI (pv_yc b_msg r c))) : wpY_count post (g_ins, g_val, g_def, g_fk, g_bc, b_rd, b_tn, b_mem, b_dic, b_pol, b_book, b_msg) (nI r) c := by
  refine pv_l1 (fun n i x => wY_count_5 post (nI r) c g_ins g_val g_def g_fk g_bc b_rd b_tn b_mem b_dic b_pol b_book b_msg n x (nI i)) (fun i x => x = nI (pv_cn (fun f => decide (b_msg (f * 7 + r) = c)) i)) 7 0 rfl ?_ ?_
  · intro n x hx
    subst hx
    exact br_t pv_77 h
  · intro n i x hi hx K
    subst hx
    refine br_f (pv_n7 hi) ⟨by rw [pv_i7]; exact vp_in_nI (by omega) (by decide), ?_⟩
    rw [pv_i7, nI_clamp (by omega : i * 7 + r < 2 ^ 31)]
    refine br_c (fun z x' ex y ey => ?_) (fun z y ey => ?_)
    · obtain rfl := ey.trans (nI_1 i)
      refine K x' ?_
      rw [ex, nI_1]
      show _ = nI (_ + (decide _).toNat)
      rw [decide_eq_true z]; rfl
    · obtain rfl := ey.trans (nI_1 i)
      refine K _ ?_
      show _ = nI (_ + (decide _).toNat)
      rw [decide_eq_false z]; rfl
theorem yw_hy {post : Int32 → Prop} {i n : Nat} (hi : i < 4) (hn : n < 7) (h : post (pv_hy b_mem g_def i n)) : wpY_heldBy post (g_ins, g_val, g_def, g_fk, g_bc, b_rd, b_tn, b_mem, b_dic, b_pol, b_book, b_msg) (nI i) (nI n) := by
  intro x3 e3
  rw [pv_i76] at e3
  subst e3
  unfold pv_hy at h
  refine ⟨pv_inM hi hn (k := 3) (by decide) (pv_aM i n 3), ?_⟩
  have c3 : (nI (pv_mx i n 0) + 3).toNatClampNeg = pv_mx i n 3 := pv_clM hi hn (k := 3) (by decide) (pv_aM i n 3)
  have c2 : (nI (pv_mx i n 0) + 2).toNatClampNeg = pv_mx i n 2 := pv_clM hi hn (k := 2) (by decide) (pv_aM i n 2)
  have v2 : vp_in (nI (pv_mx i n 0) + 2) 168 := pv_inM hi hn (k := 2) (by decide) (pv_aM i n 2)
  rw [c3]
  refine br_c (fun z => ⟨v2, ?_⟩) (fun z => ?_)
  · rw [if_pos z] at h
    rw [c2]
    refine br_c (fun y => ?_) (fun y => ⟨v2, ?_⟩)
    · rw [if_pos y] at h; exact h
    · rw [if_neg y] at h; exact h
  · rw [if_neg z] at h; exact h
end
end
section
/-! the reference's rounds -/
/-- the counts of the messages to r -/
def pv_yn (msg : Nat → Int32) (r : Nat) : Nat → Nat := fun w => pv_yc msg r (nI w)
def pv_b1f (c : Bool) : Int32 := if c then 1 else 0
def pv_rcv (mem msg : Nat → Int32) (NV FK i r R : Nat) : Nat → Int32 :=
  if R = 0 then upd mem (pv_mx i r 1) (pv_ec (pv_yn msg r) NV)
  else if R = 1 then upd (upd mem (pv_mx i r 2) (pv_cb (pv_yn msg r) NV).2) (pv_mx i r 3) (pv_b1f (decide (5 ≤ (pv_cb (pv_yn msg r) NV).1)))
  else if pv_ik (nI R) then (if mem (pv_mx i r 5) = 0 ∧ msg (pv_kg FK i R * 7 + r) ≠ -1 then upd mem (pv_mx i r 3) (msg (pv_kg FK i R * 7 + r)) else mem)
  else if (R - 2) % 3 = 0 then upd mem (pv_mx i r 4) (if 5 ≤ pv_yn msg r 1 then 1 else if 5 ≤ pv_yn msg r 0 then 0 else -1)
  else upd (if 3 ≤ pv_yn msg r 1 then upd mem (pv_mx i r 3) 1 else if 3 ≤ pv_yn msg r 0 then upd mem (pv_mx i r 3) 0 else mem) (pv_mx i r 5) (pv_b1f (if (if 3 ≤ pv_yn msg r 1 then 1 else if 3 ≤ pv_yn msg r 0 then 0 else mem (pv_mx i r 3)) = 1 then decide (5 ≤ pv_yn msg r 1) else decide (5 ≤ pv_yn msg r 0)))
def pv_rci (mem msg : Nat → Int32) (NV FK i R : Nat) : Nat → Nat → Int32
  | 0 => mem
  | r + 1 => pv_rcv (pv_rci mem msg NV FK i R r) msg NV FK i r R
section
variable {g_ins g_val g_def g_fk g_bc : Int32} {b_rd b_tn b_mem b_dic b_pol b_book b_msg : Nat → Int32}
theorem yw_r328 {post : SY → Prop} {i r c : Nat} (hi : i < 4) (hr : r < 7) (hc : c ≤ 7) (h : post (g_ins, g_val, g_def, g_fk, g_bc, b_rd, b_tn, upd b_mem (pv_mx i r 5) (pv_b1f (decide (5 ≤ c))), b_dic, b_pol, b_book, b_msg)) : wY_receive_328 post (nI (pv_mx i r 0)) (nI c) g_ins g_val g_def g_fk g_bc b_rd b_tn b_mem b_dic b_pol b_book b_msg := by
  have c5 : (nI (pv_mx i r 0) + 5).toNatClampNeg = pv_mx i r 5 := pv_clM hi hr (k := 5) (by decide) (pv_aM i r 5)
  have v5 : vp_in (nI (pv_mx i r 0) + 5) 168 := pv_inM hi hr (k := 5) (by decide) (pv_aM i r 5)
  unfold wY_receive_328
  refine pk_lt c 5 (fun z => ⟨v5, fun a ea => ?_⟩) (fun z => ⟨v5, fun a ea => ?_⟩)
  · rw [c5] at ea
    subst ea
    rw [decide_eq_false (by omega)] at h; exact h
  · rw [c5] at ea
    subst ea
    rw [decide_eq_true z] at h; exact h
theorem yw_r309 {post : SY → Prop} {i r c d : Nat} (hi : i < 4) (hr : r < 7) (hc : c ≤ 7) (hd : d ≤ 7) (h : post (g_ins, g_val, g_def, g_fk, g_bc, b_rd, b_tn, upd b_mem (pv_mx i r 5) (pv_b1f (if b_mem (pv_mx i r 3) = 1 then decide (5 ≤ c) else decide (5 ≤ d))), b_dic, b_pol, b_book, b_msg)) : wY_receive_309 post (nI (pv_mx i r 0)) (nI c) (nI d) g_ins g_val g_def g_fk g_bc b_rd b_tn b_mem b_dic b_pol b_book b_msg := by
  have c3 : (nI (pv_mx i r 0) + 3).toNatClampNeg = pv_mx i r 3 := pv_clM hi hr (k := 3) (by decide) (pv_aM i r 3)
  have v3 : vp_in (nI (pv_mx i r 0) + 3) 168 := pv_inM hi hr (k := 3) (by decide) (pv_aM i r 3)
  unfold wY_receive_309
  refine ⟨v3, ?_⟩
  rw [c3]
  refine br_c (fun z => yw_r328 hi hr hc ?_) (fun z => yw_r328 hi hr hd ?_)
  · rw [if_pos z] at h; exact h
  · rw [if_neg z] at h; exact h
theorem yw_rcv {post : SY → Prop} {NV FK i r R : Nat} (hi : i < 4) (hr : r < 7) (hF : FK < 7) (hV2 : NV ≤ 16) (hR : b_rd i = nI R) (hR11 : R < 11) (h : post (g_ins, nI NV, g_def, nI FK, g_bc, b_rd, b_tn, pv_rcv b_mem b_msg NV FK i r R, b_dic, b_pol, b_book, b_msg)) : wpY_receive post (g_ins, nI NV, g_def, nI FK, g_bc, b_rd, b_tn, b_mem, b_dic, b_pol, b_book, b_msg) (nI i) (nI r) := by
  have hv : vp_in (nI i) 4 := vp_in_nI hi (by decide)
  have hc : (nI i).toNatClampNeg = i := nI_clamp (by omega)
  have v (k : Nat) (hk : k < 6) : vp_in (nI (pv_mx i r 0) + nI k) 168 := pv_inM hi hr hk (pv_aM i r k)
  have cl (k : Nat) (hk : k < 6) : (nI (pv_mx i r 0) + nI k).toNatClampNeg = pv_mx i r k := pv_clM hi hr hk (pv_aM i r k)
  have c1 : (nI (pv_mx i r 0) + 1).toNatClampNeg = pv_mx i r 1 := cl 1 (by decide)
  have c2 : (nI (pv_mx i r 0) + 2).toNatClampNeg = pv_mx i r 2 := cl 2 (by decide)
  have c3 : (nI (pv_mx i r 0) + 3).toNatClampNeg = pv_mx i r 3 := cl 3 (by decide)
  have c4 : (nI (pv_mx i r 0) + 4).toNatClampNeg = pv_mx i r 4 := cl 4 (by decide)
  have c5 : (nI (pv_mx i r 0) + 5).toNatClampNeg = pv_mx i r 5 := cl 5 (by decide)
  have hn (w : Nat) : pv_yn b_msg r w ≤ 7 := pv_yc_le _ _ _
  have n1 := hn 1
  have n0 := hn 0
  intro x3 e3
  rw [pv_i76] at e3
  subst e3
  refine yw_ct (c := nI 1) hr (yw_ct (c := nI 0) hr ⟨hv, ?_⟩)
  rw [hc, hR]
  unfold pv_rcv at h
  refine pk_eq R 0 (fun z => ⟨v 1 (by decide), fun m1 em => ?_⟩) (fun z => ⟨hv, pk_eq R 1 (fun y => ?_) (fun y => yw_kr hi (fun hk => br_f (by decide) (yw_kgo hi ?_)) (fun hk => br_t rfl ⟨hv, by decide, ?_⟩))⟩)
  · rw [if_pos z] at h
    rw [c1] at em
    subst em
    refine pv_l1 (fun n w s => wY_receive_47 post (nI r) (nI (pv_mx i r 0)) g_ins (nI NV) g_def (nI FK) g_bc n (nI w) b_rd b_tn s b_dic b_pol b_book b_msg) (fun w s => s = upd b_mem (pv_mx i r 1) (pv_ec (pv_yn b_msg r) w)) NV _ rfl ?_ ?_
    · intro n s hs
      subst hs
      exact br_t (nI_le (Nat.le_refl _) (by omega)) h
    · intro n w s hw hs K
      subst hs
      have nw : pv_yc b_msg r (nI w) ≤ 7 := hn w
      refine br_f (nI_ge hw (by omega)) (yw_ct hr (pk_lt (pv_yc b_msg r (nI w)) 5 (fun q => ?_) (fun q => ⟨v 1 (by decide), fun m1 em => ?_⟩)))
      · intro x ex
        obtain rfl := ex.trans (nI_1 w)
        refine K _ ?_
        show _ = upd b_mem _ (if 5 ≤ pv_yc b_msg r (nI w) then _ else _)
        rw [if_neg (by omega)]
      · intro x ex
        obtain rfl := ex.trans (nI_1 w)
        refine K _ ?_
        rw [em, c1, pv_uu]
        show _ = upd b_mem _ (if 5 ≤ pv_yc b_msg r (nI w) then _ else _)
        rw [if_pos q]
  · rw [if_neg z, if_pos y] at h
    refine pv_l2 (fun n w x6 x7 => wY_receive_105 post (nI r) (nI (pv_mx i r 0)) g_ins (nI NV) g_def (nI FK) g_bc b_rd b_tn b_mem b_dic b_pol b_book b_msg n x6 x7 (nI w)) (fun w x6 x7 => x6 = (pv_cb (pv_yn b_msg r) w).2 ∧ x7 = nI (pv_cb (pv_yn b_msg r) w).1) NV (-1) 0 ⟨rfl, rfl⟩ ?_ ?_
    · rintro n x6 x7 ⟨rfl, rfl⟩
      have hb := pv_cb_le hn NV
      refine br_t (nI_le (Nat.le_refl _) (by omega)) ⟨v 2 (by decide), fun m1 em => ?_⟩
      rw [c2] at em
      subst em
      refine pk_lt (pv_cb (pv_yn b_msg r) NV).1 5 (fun q => ⟨v 3 (by decide), fun m2 em => ?_⟩) (fun q => ⟨v 3 (by decide), fun m2 em => ?_⟩)
      · rw [c3] at em
        subst em
        rw [decide_eq_false (by omega)] at h; exact h
      · rw [c3] at em
        subst em
        rw [decide_eq_true q] at h; exact h
    · rintro n w x6 x7 hw ⟨rfl, rfl⟩ K
      have hb := pv_cb_le hn w
      have nw : pv_yc b_msg r (nI w) ≤ 7 := hn w
      refine br_f (nI_ge hw (by omega)) (yw_ct hr (pk_le (pv_yc b_msg r (nI w)) (pv_cb (pv_yn b_msg r) w).1 (fun q => ?_) (fun q => ?_)))
      · intro x ex
        obtain rfl := ex.trans (nI_1 w)
        refine K _ _ ?_
        show _ = (if (pv_cb (pv_yn b_msg r) w).1 < pv_yc b_msg r (nI w) then _ else _ : Nat × Int32).2 ∧ _ = nI (if (pv_cb (pv_yn b_msg r) w).1 < pv_yc b_msg r (nI w) then _ else _ : Nat × Int32).1
        rw [if_neg (by omega)]
        exact ⟨rfl, rfl⟩
      · intro x ex
        obtain rfl := ex.trans (nI_1 w)
        refine K _ _ ?_
        show _ = (if (pv_cb (pv_yn b_msg r) w).1 < pv_yc b_msg r (nI w) then _ else _ : Nat × Int32).2 ∧ _ = nI (if (pv_cb (pv_yn b_msg r) w).1 < pv_yc b_msg r (nI w) then _ else _ : Nat × Int32).1
        rw [if_pos q]
        exact ⟨rfl, rfl⟩
  · rw [hR] at hk
    have hkg := pv_kg_lt FK i R
    rw [hR, pv_kgo_R hF hi (by omega) hR11]
    rw [if_neg z, if_neg y, if_pos hk] at h
    refine ⟨by rw [pv_i7]; exact vp_in_nI (by omega) (by decide), fun m em => ?_⟩
    rw [pv_i7, nI_clamp (by omega : pv_kg FK i R * 7 + r < 2 ^ 31)] at em
    rw [← em] at h
    refine ⟨v 5 (by decide), ?_⟩
    rw [c5]
    refine br_c (fun s0 => br_c (fun m1 => ?_) (fun m1 => ⟨v 3 (by decide), fun m2 em2 => ?_⟩)) (fun s0 => ?_)
    · rw [if_neg (fun q => q.2 m1)] at h; exact h
    · rw [if_pos ⟨s0, m1⟩] at h
      rw [c3] at em2
      subst em2
      exact h
    · rw [if_neg (fun q => s0 q.1)] at h; exact h
  · rw [hR] at hk
    rw [if_neg z, if_neg y, hk, if_neg (by decide)] at h
    rw [pv_stepI (by omega) hR11]
    refine pk_eq ((R - 2) % 3) 0 (fun q => ?_) (fun q => ?_)
    · rw [if_pos q] at h
      refine pk_lt (pv_yn b_msg r 1) 5 (fun f1 => pk_lt (pv_yn b_msg r 0) 5 (fun f0 => ⟨v 4 (by decide), fun m1 em => ?_⟩) (fun f0 => ⟨v 4 (by decide), fun m1 em => ?_⟩)) (fun f1 => ⟨v 4 (by decide), fun m1 em => ?_⟩)
      · rw [if_neg (by omega), if_neg (by omega)] at h
        rw [c4] at em; subst em; exact h
      · rw [if_neg (by omega), if_pos f0] at h
        rw [c4] at em; subst em; exact h
      · rw [if_pos f1] at h
        rw [c4] at em; subst em; exact h
    · rw [if_neg q] at h
      refine pk_lt (pv_yn b_msg r 1) 3 (fun f1 => pk_lt (pv_yn b_msg r 0) 3 (fun f0 => yw_r309 hi hr n1 n0 ?_) (fun f0 => ⟨v 3 (by decide), fun m1 em => yw_r309 hi hr n1 n0 ?_⟩)) (fun f1 => ⟨v 3 (by decide), fun m1 em => yw_r309 hi hr n1 n0 ?_⟩)
      · have g1 : ¬ 3 ≤ pv_yn b_msg r 1 := by omega
        have g0 : ¬ 3 ≤ pv_yn b_msg r 0 := by omega
        rw [if_neg g1, if_neg g0, if_neg g1, if_neg g0] at h
        exact h
      · have g1 : ¬ 3 ≤ pv_yn b_msg r 1 := by omega
        rw [if_neg g1, if_pos f0, if_neg g1, if_pos f0] at h
        rw [c3] at em; subst em
        rw [pk_us]; exact h
      · rw [if_pos f1, if_pos f1] at h
        rw [c3] at em; subst em
        rw [pk_us]; exact h
end
/-! the book -/
def pv_YL (L : pv_Lg) (bc : Int32) (book : Nat → Int32) : Prop := L.1 ≤ 16 ∧ bc = nI L.1 ∧ ∀ k, k < L.1 → book (k * 3) = L.2.1 k ∧ book (k * 3 + 1) = L.2.2.1 k ∧ book (k * 3 + 2) = L.2.2.2 k
theorem pv_YLn {L : pv_Lg} {book : Nat → Int32} (hn : ¬ L.1 = 16) (hc : L.1 ≤ 16) (H : ∀ k, k < L.1 → book (k * 3) = L.2.1 k ∧ book (k * 3 + 1) = L.2.2.1 k ∧ book (k * 3 + 2) = L.2.2.2 k) (a b c : Int32) : pv_YL (pv_push L a b c) (nI (L.1 + 1)) (upd (upd (upd book (L.1 * 3) a) (L.1 * 3 + 1) b) (L.1 * 3 + 2) c) := by
  unfold pv_push
  rw [if_neg hn]
  refine ⟨(by omega : L.1 + 1 ≤ 16), rfl, fun k hk => ?_⟩
  have hk' : k < L.1 + 1 := hk
  show _ = (if k = L.1 then a else L.2.1 k) ∧ _ = (if k = L.1 then b else L.2.2.1 k) ∧ _ = (if k = L.1 then c else L.2.2.2 k)
  by_cases z : k = L.1
  · subst z
    rw [if_pos rfl, if_pos rfl, if_pos rfl, pk_un (by omega), pk_un (by omega), pk_us, pk_un (by omega), pk_us, pk_us]
    exact ⟨rfl, rfl, rfl⟩
  · rw [if_neg z, if_neg z, if_neg z, pk_un (by omega), pk_un (by omega), pk_un (by omega), pk_un (by omega), pk_un (by omega), pk_un (by omega), pk_un (by omega), pk_un (by omega), pk_un (by omega)]
    exact H k (by omega)
theorem pv_YLf {L : pv_Lg} {book : Nat → Int32} (hc : L.1 = 16) (H : ∀ k, k < L.1 → book (k * 3) = L.2.1 k ∧ book (k * 3 + 1) = L.2.2.1 k ∧ book (k * 3 + 2) = L.2.2.2 k) (a b c : Int32) : pv_YL (pv_push L a b c) (nI 16) (upd (upd (upd (pv_mm (fun j => book (j + 3)) book 45) (15 * 3) a) (15 * 3 + 1) b) (15 * 3 + 2) c) := by
  unfold pv_push
  rw [if_pos hc]
  refine ⟨Nat.le_refl _, rfl, fun k hk => ?_⟩
  have hk' : k < 16 := hk
  show _ = (if k = 15 then a else L.2.1 (k + 1)) ∧ _ = (if k = 15 then b else L.2.2.1 (k + 1)) ∧ _ = (if k = 15 then c else L.2.2.2 (k + 1))
  by_cases z : k = 15
  · subst z
    rw [if_pos rfl, if_pos rfl, if_pos rfl, pk_un (by omega), pk_un (by omega), pk_us, pk_un (by omega), pk_us, pk_us]
    exact ⟨rfl, rfl, rfl⟩
  · have g (j : Nat) (hj : j < 45) : pv_mm (fun j => book (j + 3)) book 45 j = book (j + 3) := if_pos hj
    rw [if_neg z, if_neg z, if_neg z, pk_un (by omega), pk_un (by omega), pk_un (by omega), pk_un (by omega), pk_un (by omega), pk_un (by omega), pk_un (by omega), pk_un (by omega), pk_un (by omega), g _ (by omega), g _ (by omega), g _ (by omega)]
    have := H (k + 1) (by omega)
    rw [show k * 3 + 3 = (k + 1) * 3 by omega, show k * 3 + 1 + 3 = (k + 1) * 3 + 1 by omega, show k * 3 + 2 + 3 = (k + 1) * 3 + 2 by omega]
    exact this
def pv_vy (mem : Nat → Int32) (D t : Int32) (i d : Nat) : Int32 := if pv_lw t d = 7 then D else pv_hy mem D i (pv_lw t d)
section
variable {g_ins g_val g_def g_fk g_bc : Int32} {b_rd b_tn b_mem b_dic b_pol b_book b_msg : Nat → Int32}
theorem yw_e51 {post : SY → Prop} {i c : Nat} (hi : i < 4) (hc : c < 16) (h : post (g_ins, g_val, g_def, g_fk, nI (c + 1), b_rd, b_tn, b_mem, b_dic, b_pol, upd (upd (upd b_book (c * 3) (nI i)) (c * 3 + 1) (pv_vy b_mem g_def (b_tn i) i 7)) (c * 3 + 2) (b_tn i), b_msg)) : ∃ n, wY_enter_51 post (nI i) g_ins g_val g_def g_fk (nI c) b_rd b_tn b_mem b_dic b_pol b_book b_msg n g_def 6 := by
  have e6 : (6 : Int32) = nI 7 + (-1) := by decide +kernel
  have hv : vp_in (nI i) 4 := vp_in_nI hi (by decide)
  have hcl : (nI i).toNatClampNeg = i := nI_clamp (by omega)
  rw [e6]
  refine ⟨8, pk_loopD (fun n m s => wY_enter_51 post (nI i) g_ins g_val g_def g_fk (nI c) b_rd b_tn b_mem b_dic b_pol b_book b_msg n s (nI m + (-1))) (fun m s => m ≤ 7 ∧ s = pv_vy b_mem g_def (b_tn i) i (7 - m)) ?_ ?_ 7 g_def ⟨Nat.le_refl _, rfl⟩⟩
  · rintro n s ⟨_, rfl⟩
    have e0 : nI c * 3 + 0 = nI (c * 3) := by show nI c * nI 3 + nI 0 = _; rw [pk_mul, nI_add]; rfl
    have e1 : nI c * 3 + 1 = nI (c * 3 + 1) := by show nI c * nI 3 + nI 1 = _; rw [pk_mul, nI_add]
    have e2 : nI c * 3 + 2 = nI (c * 3 + 2) := by show nI c * nI 3 + nI 2 = _; rw [pk_mul, nI_add]
    refine br_t (by decide) ⟨by rw [e0]; exact vp_in_nI (by omega) (by decide), fun k0 f0 => ⟨by rw [e1]; exact vp_in_nI (by omega) (by decide), fun k1 f1 => ⟨hv, by rw [e2]; exact vp_in_nI (by omega) (by decide), fun k2 f2 b fb => ?_⟩⟩⟩
    rw [e0, nI_clamp (by omega : c * 3 < 2 ^ 31)] at f0
    rw [e1, nI_clamp (by omega : c * 3 + 1 < 2 ^ 31)] at f1
    rw [e2, nI_clamp (by omega : c * 3 + 2 < 2 ^ 31), hcl] at f2
    rw [nI_1] at fb
    subst f0 f1 f2 fb
    exact h
  · rintro n m s ⟨hm, rfl⟩ K
    have hd : 7 - m = (7 - (m + 1)) + 1 := by omega
    have h6 : 6 - (7 - (m + 1)) = m := by omega
    show wY_enter_51 post (nI i) g_ins g_val g_def g_fk (nI c) b_rd b_tn b_mem b_dic b_pol b_book b_msg (n + 1) _ (nI (m + 1) + (-1))
    rw [pk_m1]
    refine br_f (nI_pos (by omega)) ⟨hv, ?_⟩
    rw [hcl]
    refine pv_c0 (by omega) (fun hb => yw_hy hi (by omega) (fun y ey => ?_)) (fun hb y ey => ?_)
    · subst ey
      refine K _ ⟨by omega, ?_⟩
      rw [hd]
      unfold pv_vy
      have e : pv_lw (b_tn i) ((7 - (m + 1)) + 1) = m := by
        show (if bt (b_tn i) (6 - (7 - (m + 1))) then pv_lw (b_tn i) (7 - (m + 1)) else 6 - (7 - (m + 1))) = m
        rw [h6, hb]; rfl
      rw [e, if_neg (by omega)]
    · subst ey
      refine K _ ⟨by omega, ?_⟩
      rw [hd]
      unfold pv_vy
      have e : pv_lw (b_tn i) ((7 - (m + 1)) + 1) = pv_lw (b_tn i) (7 - (m + 1)) := by
        show (if bt (b_tn i) (6 - (7 - (m + 1))) then pv_lw (b_tn i) (7 - (m + 1)) else 6 - (7 - (m + 1))) = _
        rw [h6, hb]; rfl
      rw [e]
theorem yw_en {post : SY → Prop} {i : Nat} {L : pv_Lg} (hi : i < 4) (HL : pv_YL L g_bc b_book) (h : ∀ bc book, pv_YL (pv_push L (nI i) (pv_vy b_mem g_def (b_tn i) i 7) (b_tn i)) bc book → post (g_ins, g_val, g_def, g_fk, bc, b_rd, b_tn, b_mem, b_dic, b_pol, book, b_msg)) : wpY_enter post (g_ins, g_val, g_def, g_fk, g_bc, b_rd, b_tn, b_mem, b_dic, b_pol, b_book, b_msg) (nI i) := by
  obtain ⟨hc, e, H⟩ := HL
  subst e
  unfold wpY_enter
  refine pk_eq L.1 16 (fun z => ?_) (fun z => ?_)
  · refine pv_l1 (fun n j s => wY_enter_11 post (nI i) g_ins g_val g_def g_fk (nI L.1) n (nI j) b_rd b_tn b_mem b_dic b_pol s b_msg) (fun j s => s = pv_mm (fun j => b_book (j + 3)) b_book j) 45 b_book (pv_mm0 _ _).symm ?_ ?_
    · intro n s hs
      subst hs
      refine br_t (by decide +kernel) ?_
      exact yw_e51 (c := 15) hi (by decide) (h _ _ (pv_YLf z H _ _ _))
    · intro n j s hj hs K
      subst hs
      have e3 : nI j + 3 = nI (j + 3) := nI_add j 3
      refine br_f (nI_ge (b := 45) hj (by decide)) ⟨by rw [e3]; exact vp_in_nI (by omega) (by decide), vp_in_nI (by omega) (by decide), fun k ek x ex => ?_⟩
      obtain rfl := ex.trans (nI_1 j)
      refine K k ?_
      rw [ek, e3, nI_clamp (by omega : j + 3 < 2 ^ 31), nI_clamp (by omega : j < 2 ^ 31)]
      exact pv_mms _ _ _ (if_neg (by omega))
  · exact yw_e51 hi (by omega) (h _ _ (pv_YLn z hc H _ _ _))
/-- the messages of one round -/
def pv_MS (mem dic pol : Nat → Int32) (NV FK i R m : Nat) (msg : Nat → Int32) : Prop := ∀ f, f < m → ∀ r, r < 7 → msg (f * 7 + r) = pv_snt mem dic pol NV FK i f r R
theorem yw_co {post : SY → Prop} {NV FK i R : Nat} {L : pv_Lg} (hi : i < 4) (hF : FK < 7) (hV : 2 ≤ NV) (hV2 : NV ≤ 16) (hR : b_rd i = nI R) (hR11 : R < 11) (HL : pv_YL L g_bc b_book)
    (h : ∀ msg bc book, pv_MS b_mem b_dic b_pol NV FK i R 7 msg → pv_YL (if R = 10 then pv_push L (nI i) (pv_vy (pv_rci b_mem msg NV FK i R 7) g_def (b_tn i) i 7) (b_tn i) else L) bc book → post (g_ins, nI NV, g_def, nI FK, bc, upd b_rd i (b_rd i + 1), b_tn, pv_rci b_mem msg NV FK i R 7, pv_bl (i * 49) (fun _ => -2) b_dic 49, b_pol, book, msg)) : wpY_carryOut post (g_ins, nI NV, g_def, nI FK, g_bc, b_rd, b_tn, b_mem, b_dic, b_pol, b_book, b_msg) (nI i) := by
  have hv : vp_in (nI i) 4 := vp_in_nI hi (by decide)
  have hc : (nI i).toNatClampNeg = i := nI_clamp (by omega)
  refine pv_l1 (fun n f s => wY_carryOut_2 post (nI i) g_ins (nI NV) g_def (nI FK) g_bc n (nI f) b_rd b_tn b_mem b_dic b_pol b_book s) (fun f s => pv_MS b_mem b_dic b_pol NV FK i R f s) 7 b_msg (fun f hf => by omega) ?_ ?_
  · intro n msg HM
    refine br_t pv_77 ?_
    refine pv_l1 (fun n r s => wY_carryOut_48 post (nI i) n (nI r) g_ins (nI NV) g_def (nI FK) g_bc b_rd b_tn s b_dic b_pol b_book msg) (fun r s => s = pv_rci b_mem msg NV FK i R r) 7 b_mem rfl ?_ ?_
    · intro n s hs
      subst hs
      refine br_t pv_77 ?_
      refine pv_l1 (fun n k s => wY_carryOut_68 post (nI i) g_ins (nI NV) g_def (nI FK) g_bc n (nI k) b_rd b_tn (pv_rci b_mem msg NV FK i R 7) s b_pol b_book msg) (fun k s => s = pv_bl (i * 49) (fun _ => -2) b_dic k) 49 b_dic (pv_bl0 _ _ _).symm ?_ ?_
      · intro n s hs
        subst hs
        refine br_t (by decide +kernel) ⟨hv, hv, fun rd' erd => ⟨hv, ?_⟩⟩
        rw [hc] at erd
        subst erd
        have er : upd b_rd i (b_rd i + 1) (nI i).toNatClampNeg = nI (R + 1) := by rw [hc, pk_us, hR, nI_1]
        rw [er]
        refine pk_eq (R + 1) 11 (fun z => yw_en hi HL ?_) (fun z => ?_)
        · intro bc book HB
          refine h _ _ _ HM ?_
          rw [if_pos (by omega)]
          exact HB
        · refine h _ _ _ HM ?_
          rw [if_neg (by omega)]
          exact HL
      · intro n k s hk hs K
        subst hs
        refine br_f (nI_ge (b := 49) hk (by decide)) ⟨by rw [pv_i49]; exact vp_in_nI (by omega) (by decide), fun d ed x ex => ?_⟩
        obtain rfl := ex.trans (nI_1 k)
        refine K d ?_
        rw [ed, pv_i49, nI_clamp (by omega : i * 49 + k < 2 ^ 31)]
        exact pv_bls _ _ _ _ rfl
    · intro n r s hr hs K
      subst hs
      refine br_f (pv_n7 hr) (yw_rcv hi hr hF hV2 hR hR11 ?_)
      intro x ex
      obtain rfl := ex.trans (nI_1 r)
      exact K _ rfl
  · intro n f msg hf HM K
    refine br_f (pv_n7 hf) ?_
    refine pv_l1 (fun m r s => wY_carryOut_10 post (wY_carryOut_2 post (nI i) g_ins (nI NV) g_def (nI FK) g_bc n) (nI i) (nI f) g_ins (nI NV) g_def (nI FK) g_bc m (nI r) b_rd b_tn b_mem b_dic b_pol b_book s) (fun r s => pv_MS b_mem b_dic b_pol NV FK i R f s ∧ ∀ q, q < r → s (f * 7 + q) = pv_snt b_mem b_dic b_pol NV FK i f q R) 7 msg ⟨HM, fun q hq => by omega⟩ ?_ ?_
    · rintro m s ⟨H1, H2⟩
      refine br_t pv_77 (fun x ex => ?_)
      obtain rfl := ex.trans (nI_1 f)
      refine K s ?_
      intro g hg r hr
      by_cases c : g = f
      · subst c; exact H2 r hr
      · exact H1 g (by omega) r hr
    · rintro m r s hr ⟨H1, H2⟩ K2
      refine br_f (pv_n7 hr) (yw_snt hi hf hr hF hV hV2 hR hR11 ⟨by rw [pv_i7]; exact vp_in_nI (by omega) (by decide), fun s' es x ex => ?_⟩)
      obtain rfl := ex.trans (nI_1 r)
      rw [pv_i7, nI_clamp (by omega : f * 7 + r < 2 ^ 31)] at es
      subst es
      refine K2 _ ⟨fun g hg q hq => ?_, fun q hq => ?_⟩
      · rw [pk_un (by omega)]; exact H1 g hg q hq
      · by_cases c : q = r
        · subst c; rw [pk_us]
        · rw [pk_un (by omega)]; exact H2 q (by omega)
end
end
section
/-! one round of one node, and the messages -/
def pv_md (s o : Bool) (v : Nat) : Int32 := if s then pv_ms o v else -2
/-- one node's memories -/
def pv_R1 (NV : Nat) (x : Int32) (m : Nat → Int32) (I : Nat) (eS : Bool) (E : Nat) (cS : Bool) (C : Nat) (b pS pO s : Bool) : Prop :=
  (m 0 = nI I ∧ I < NV) ∧ (x = 1 → m 1 = pv_ms eS E ∧ (eS = true → E < NV)) ∧ (¬ x < 2 → m 2 = pv_ms cS C ∧ m 3 = pv_b1f b) ∧ (pv_ip x = true → m 4 = pv_ms pS pO.toNat) ∧ (pv_ik x = true → m 5 = pv_b1f s)
def pv_nw (NV R : Nat) (cn : Nat → Nat) (mk : Int32) (m : Nat → Int32) : Nat → Int32 := fun k =>
  if R = 0 then (if k = 1 then pv_ec cn NV else m k)
  else if R = 1 then (if k = 3 then pv_b1f (decide (5 ≤ (pv_cb cn NV).1)) else if k = 2 then (pv_cb cn NV).2 else m k)
  else if pv_ik (nI R) then (if m 5 = 0 ∧ mk ≠ -1 then (if k = 3 then mk else m k) else m k)
  else if (R - 2) % 3 = 0 then (if k = 4 then (if 5 ≤ cn 1 then 1 else if 5 ≤ cn 0 then 0 else -1) else m k)
  else (if k = 5 then pv_b1f (if (if 3 ≤ cn 1 then 1 else if 3 ≤ cn 0 then 0 else m 3) = 1 then decide (5 ≤ cn 1) else decide (5 ≤ cn 0)) else if k = 3 then (if 3 ≤ cn 1 then 1 else if 3 ≤ cn 0 then 0 else m 3) else m k)
theorem pv_mx_ne {i n k j : Nat} (h : k ≠ j) : pv_mx i n k ≠ pv_mx i n j := by unfold pv_mx; omega
theorem pv_rcv_nw (mem msg : Nat → Int32) (NV FK i r R : Nat) {k : Nat} : pv_rcv mem msg NV FK i r R (pv_mx i r k) = pv_nw NV R (pv_yn msg r) (msg (pv_kg FK i R * 7 + r)) (fun k => mem (pv_mx i r k)) k := by
  have u (a : Nat → Int32) (j : Nat) (x : Int32) : upd a (pv_mx i r j) x (pv_mx i r k) = if k = j then x else a (pv_mx i r k) := by
    by_cases c : k = j
    · rw [if_pos c, c, pk_us]
    · rw [if_neg c, pk_un (pv_mx_ne c)]
  unfold pv_rcv pv_nw
  dsimp only
  by_cases z : R = 0
  · rw [if_pos z, if_pos z, u]
  rw [if_neg z, if_neg z]
  by_cases y : R = 1
  · rw [if_pos y, if_pos y, u, u]
  rw [if_neg y, if_neg y]
  by_cases w : pv_ik (nI R) = true
  · rw [if_pos w, if_pos w]
    by_cases q : mem (pv_mx i r 5) = 0 ∧ msg (pv_kg FK i R * 7 + r) ≠ -1
    · rw [if_pos q, if_pos q, u]
    · rw [if_neg q, if_neg q]
  rw [if_neg w, if_neg w]
  by_cases q : (R - 2) % 3 = 0
  · rw [if_pos q, if_pos q, u]
  rw [if_neg q, if_neg q, u]
  by_cases c5 : k = 5
  · rw [if_pos c5, if_pos c5]
  rw [if_neg c5, if_neg c5]
  by_cases a1 : 3 ≤ pv_yn msg r 1
  · rw [if_pos a1, if_pos a1, u]
  rw [if_neg a1, if_neg a1]
  by_cases a0 : 3 ≤ pv_yn msg r 0
  · rw [if_pos a0, if_pos a0, u]
  rw [if_neg a0, if_neg a0]
  by_cases c3 : k = 3
  · rw [if_pos c3, c3]
  · rw [if_neg c3]
theorem pv_rcv_o (mem msg : Nat → Int32) (NV FK i r R : Nat) {j : Nat} (h : ∀ k, k < 6 → j ≠ pv_mx i r k) : pv_rcv mem msg NV FK i r R j = mem j := by
  have u (a : Nat → Int32) (k : Nat) (hk : k < 6) (x : Int32) : upd a (pv_mx i r k) x j = a j := pk_un (h k hk)
  unfold pv_rcv
  split
  · rw [u _ _ (by decide)]
  split
  · rw [u _ _ (by decide), u _ _ (by decide)]
  split
  · split
    · rw [u _ _ (by decide)]
    · rfl
  split
  · rw [u _ _ (by decide)]
  rw [u _ _ (by decide)]
  split
  · rw [u _ _ (by decide)]
  split
  · rw [u _ _ (by decide)]
  · rfl
theorem pv_rci_o (mem msg : Nat → Int32) (NV FK i R : Nat) {j : Nat} : ∀ m, (∀ r, r < m → ∀ k, k < 6 → j ≠ pv_mx i r k) → pv_rci mem msg NV FK i R m j = mem j
  | 0, _ => rfl
  | m + 1, h => by
    show pv_rcv _ msg NV FK i m R j = mem j
    rw [pv_rcv_o _ _ _ _ _ _ _ (h m (by omega)), pv_rci_o mem msg NV FK i R m (fun r hr => h r (by omega))]
theorem pv_rci_v (mem msg : Nat → Int32) (NV FK i R : Nat) {r k : Nat} (hk : k < 6) : ∀ m, r < m → m ≤ 7 → pv_rci mem msg NV FK i R m (pv_mx i r k) = pv_nw NV R (pv_yn msg r) (msg (pv_kg FK i R * 7 + r)) (fun k => mem (pv_mx i r k)) k
  | 0, h, _ => by omega
  | m + 1, h, h7 => by
    show pv_rcv _ msg NV FK i m R _ = _
    by_cases c : r = m
    · subst c
      rw [pv_rcv_nw]
      unfold pv_nw
      dsimp only
      have g (q : Nat) (hq : q < 6) : pv_rci mem msg NV FK i R r (pv_mx i r q) = mem (pv_mx i r q) := pv_rci_o _ _ _ _ _ _ r (fun p hp j hj => by unfold pv_mx; omega)
      simp only [g k hk, g 5 (by decide), g 3 (by decide)]
    · rw [pv_rcv_o _ _ _ _ _ _ _ (fun j hj => by unfold pv_mx; omega)]
      exact pv_rci_v mem msg NV FK i R hk m (by omega) (by omega)
theorem pv_ec_b {cn : Nat → Nat} {s : Bool} {P : Nat} (hP : P < 16) : ∀ {N : Nat}, N ≤ 16 → pv_ms s P = pv_ec cn N → s = true → P < N
  | 0, _, h, hs => by
    subst hs
    exact absurd h (pv_nIm1 (by omega))
  | N + 1, hN, h, hs => by
    have h' : pv_ms s P = if 5 ≤ cn N then nI N else pv_ec cn N := h
    by_cases c : 5 ≤ cn N
    · rw [if_pos c] at h'
      subst hs
      have : P = N := (nI_eq (by omega) (by omega)).mp h'
      omega
    · rw [if_neg c] at h'
      have := pv_ec_b hP (by omega) h' hs
      omega
theorem pv_b1f0 (s : Bool) : pv_b1f s = 0 ↔ s = false := by cases s <;> decide
theorem pv_ms_m1 {S : Bool} {P : Nat} (hP : P < 16) : pv_ms S P = -1 ↔ S = false := by
  cases S
  · exact ⟨fun _ => rfl, fun _ => rfl⟩
  · exact ⟨fun z => absurd z (pv_nIm1 (by omega)), fun z => absurd z (by decide)⟩
theorem pv_nx1 : ∀ R, R < 11 → (R = 0 → pv_ip (nI (R + 1)) = false ∧ pv_ik (nI (R + 1)) = false ∧ nI (R + 1) = 1 ∧ nI (R + 1) < 2) ∧ (R = 1 → pv_ip (nI (R + 1)) = false ∧ pv_ik (nI (R + 1)) = false) ∧ (1 ≤ R → ¬ nI (R + 1) = 1) ∧ (2 ≤ R → ¬ nI R < 2) := by decide +kernel
theorem pv_nx2 : ∀ R, R < 11 → 2 ≤ R → ((R - 2) % 3 = 0 → pv_ik (nI (R + 1)) = false) ∧ ((R - 2) % 3 = 1 → pv_ip (nI (R + 1)) = false) ∧ ((R - 2) % 3 = 2 → pv_ip (nI (R + 1)) = false ∧ pv_ik (nI (R + 1)) = false) := by decide +kernel
theorem pv_step1 {NV R : Nat} {m : Nat → Int32} {I E C I' E' C' P : Nat} {eS cS b pS pO s eS' cS' b1 b2 b3 pS' pO' s' S : Bool} {cn : Nat → Nat} (hR : R < 11) (hV : NV ≤ 16) (hE : E' < 16) (hP : P < 16)
    (H : pv_R1 NV (nI R) m I eS E cS C b pS pO s)
    (w1 : pv_iv (nI R) = true → pv_ms eS' E' = pv_ec cn NV)
    (w3 : pv_ie (nI R) = true → pv_ms cS' C' = (pv_cb cn NV).2 ∧ b1 = decide (5 ≤ (pv_cb cn NV).1)) (w4 : pv_ie (nI R) = false → cS' = cS ∧ C' = C ∧ b1 = b) (w5 : I' = I)
    (n1 : pS' = if pv_ix (nI R) then (decide (5 ≤ cn 1) || decide (5 ≤ cn 0)) else pS) (n2 : pO' = if pv_ix (nI R) then decide (5 ≤ cn 1) else pO)
    (n3 : b2 = if pv_ip (nI R) then (decide (3 ≤ cn 1) || (b1 && !decide (3 ≤ cn 0))) else b1) (n4 : s' = if pv_ip (nI R) then (if b2 then decide (5 ≤ cn 1) else decide (5 ≤ cn 0)) else s)
    (k1 : pv_ik (nI R) = true → b3 = if (S && !s') then decide (P % 2 = 1) else b2) (k2 : pv_ik (nI R) = false → b3 = b2) (k3 : 2 ≤ R → S = true → P < 2) :
    pv_R1 NV (nI (R + 1)) (pv_nw NV R cn (pv_ms S P) m) I' eS' E' cS' C' b3 pS' pO' s' := by
  obtain ⟨⟨h0, h0'⟩, h1, h2, h4, h5⟩ := H
  obtain ⟨x0, x1, x2, x3⟩ := pv_nx1 R hR
  subst w5
  by_cases z0 : R = 0
  · obtain ⟨a1, a2, a3, a4⟩ := x0 z0
    subst z0
    refine ⟨⟨h0, h0'⟩, fun _ => ⟨(w1 (by decide)).symm, pv_ec_b hE hV (w1 (by decide))⟩, fun z => absurd a4 z, fun z => ?_, fun z => ?_⟩
    · rw [a1] at z; exact absurd z (by decide)
    · rw [a2] at z; exact absurd z (by decide)
  by_cases z1 : R = 1
  · obtain ⟨a1, a2⟩ := x1 z1
    subst z1
    obtain ⟨c1, c2⟩ := w3 (by decide)
    have e2 : b2 = b1 := n3.trans (if_neg (by decide))
    have e3 : b3 = b2 := k2 (by decide)
    refine ⟨⟨h0, h0'⟩, fun z => absurd z (x2 (by decide)), fun _ => ⟨c1.symm, ?_⟩, fun z => ?_, fun z => ?_⟩
    · rw [e3, e2, c2]; rfl
    · rw [a1] at z; exact absurd z (by decide)
    · rw [a2] at z; exact absurd z (by decide)
  have hR2 : 2 ≤ R := by omega
  obtain ⟨y1, y2, y3⟩ := pv_nx2 R hR hR2
  obtain ⟨m2, m3⟩ := h2 (x3 hR2)
  by_cases q0 : (R - 2) % 3 = 0
  · obtain ⟨b1', b2', b3', b4', b5'⟩ := pv_kd2 R hR hR2 q0
    rw [b5'] at k2
    rw [b4'] at n3 n4
    rw [b3'] at n1 n2
    obtain ⟨c1, c2, c3⟩ := w4 b2'
    have e2 : b2 = b1 := n3.trans (if_neg (by decide))
    have e3 : b3 = b2 := k2 rfl
    have en : ∀ k, pv_nw NV R cn (pv_ms S P) m k = if k = 4 then (if 5 ≤ cn 1 then 1 else if 5 ≤ cn 0 then 0 else -1) else m k := by
      intro k
      unfold pv_nw
      rw [if_neg z0, if_neg z1, b5', if_neg (by decide), if_pos q0]
    refine ⟨⟨(en 0).trans h0, h0'⟩, fun z => absurd z (x2 (by omega)), fun _ => ⟨?_, ?_⟩, fun _ => ?_, fun z => ?_⟩
    · rw [en, c1, c2]; exact m2
    · rw [en, e3, e2, c3]; exact m3
    · rw [en, if_pos rfl, n1, n2, if_pos rfl, if_pos rfl]
      by_cases f1 : 5 ≤ cn 1
      · rw [if_pos f1, decide_eq_true f1]; rfl
      · rw [if_neg f1, decide_eq_false f1]
        by_cases f0 : 5 ≤ cn 0
        · rw [if_pos f0, decide_eq_true f0]; rfl
        · rw [if_neg f0, decide_eq_false f0]; rfl
    · rw [y1 q0] at z; exact absurd z (by decide)
  by_cases q1 : (R - 2) % 3 = 1
  · obtain ⟨b1', b2', b3', b4', b5'⟩ := pv_kd3 R hR hR2 q1
    rw [b5'] at k2
    rw [b4'] at n3 n4
    obtain ⟨c1, c2, c3⟩ := w4 b2'
    have e3 : b3 = b2 := k2 rfl
    rw [if_pos rfl, c3] at n3
    rw [if_pos rfl] at n4
    have en : ∀ k, pv_nw NV R cn (pv_ms S P) m k = if k = 5 then pv_b1f (if (if 3 ≤ cn 1 then 1 else if 3 ≤ cn 0 then 0 else m 3) = 1 then decide (5 ≤ cn 1) else decide (5 ≤ cn 0)) else if k = 3 then (if 3 ≤ cn 1 then 1 else if 3 ≤ cn 0 then 0 else m 3) else m k := by
      intro k
      unfold pv_nw
      rw [if_neg z0, if_neg z1, b5', if_neg (by decide), if_neg q0]
    have e3' : (if 3 ≤ cn 1 then 1 else if 3 ≤ cn 0 then 0 else m 3) = pv_b1f b2 := by
      rw [n3, m3]
      by_cases f1 : 3 ≤ cn 1
      · rw [if_pos f1, decide_eq_true f1]; rfl
      · rw [if_neg f1, decide_eq_false f1]
        by_cases f0 : 3 ≤ cn 0
        · rw [if_pos f0, decide_eq_true f0]; cases b <;> rfl
        · rw [if_neg f0, decide_eq_false f0]; cases b <;> rfl
    refine ⟨⟨(en 0).trans h0, h0'⟩, fun z => absurd z (x2 (by omega)), fun _ => ⟨?_, ?_⟩, fun z => ?_, fun _ => ?_⟩
    · rw [en, c1, c2]; exact m2
    · rw [en, if_neg (by decide), if_pos rfl, e3', e3]
    · rw [y2 q1] at z; exact absurd z (by decide)
    · rw [en, if_pos rfl, e3', n4]
      cases b2
      · rw [if_neg (by decide), if_neg (by decide)]
      · rw [if_pos (by decide), if_pos rfl]
  · obtain ⟨b1', b2', b3', b4', b5'⟩ := pv_kd4 R hR hR2 q0 q1
    obtain ⟨d1, d2⟩ := y3 (by omega)
    rw [b4'] at n3 n4
    obtain ⟨c1, c2, c3⟩ := w4 b2'
    have e2 : b2 = b1 := n3.trans (if_neg (by decide))
    have es : s' = s := n4.trans (if_neg (by decide))
    have hk := k1 b5'
    have hs5 := h5 b5'
    have en : ∀ k, pv_nw NV R cn (pv_ms S P) m k = if m 5 = 0 ∧ pv_ms S P ≠ -1 then (if k = 3 then pv_ms S P else m k) else m k := by
      intro k
      unfold pv_nw
      rw [if_neg z0, if_neg z1, if_pos b5']
    have e0 : ∀ k, k ≠ 3 → pv_nw NV R cn (pv_ms S P) m k = m k := by
      intro k hk3
      rw [en, if_neg hk3]
      split <;> rfl
    refine ⟨⟨(e0 0 (by decide)).trans h0, h0'⟩, fun z => absurd z (x2 (by omega)), fun _ => ⟨?_, ?_⟩, fun z => ?_, fun z => ?_⟩
    · rw [e0 2 (by decide), c1, c2]; exact m2
    · rw [en, if_pos rfl, hk, e2, c3, es, hs5, m3]
      cases hs : s
      · cases hS : S
        · rw [if_neg (fun z => z.2 rfl)]; rfl
        · have hP2 := k3 hR2 hS
          rw [if_pos ⟨by decide, (fun z => absurd ((pv_ms_m1 hP).mp z) (by decide))⟩]
          show nI P = _
          have : P = 0 ∨ P = 1 := by omega
          rcases this with e | e
          · rw [e]; rfl
          · rw [e]; rfl
      · rw [if_neg (fun z => absurd z.1 (by decide))]
        cases S <;> rfl
    · rw [d1] at z; exact absurd z (by decide)
    · rw [d2] at z; exact absurd z (by decide)
end
section
/-! the messages of both sides are the same -/
/-- the lane bits of an agreement in round R -/
theorem pv_lnb {rd : Nat → Int32} {FK NI i R : Nat} {v e x p k b : Int32} (H : pv_LN rd FK NI v e x p k b) (hi : i < NI) (h4 : NI ≤ 4) (hF : FK < 7) (hR : rd i = nI R) (hR11 : R < 11) {n : Nat} (hn : n < 7) :
    bt v (8 * i + n) = pv_iv (nI R) ∧ bt e (8 * i + n) = pv_ie (nI R) ∧ bt x (8 * i + n) = pv_ix (nI R) ∧ bt p (8 * i + n) = pv_ip (nI R) ∧ bt k (8 * i + n) = pv_ik (nI R) ∧ bt b (8 * i + n) = (pv_ik (nI R) && decide (n = pv_kg FK i R)) := by
  obtain ⟨h1, h2, h3, h4', h5, h6⟩ := H
  have g (p : Int32 → Bool) (w : Int32) (h : pv_L1 rd NI p w) : bt w (8 * i + n) = p (nI R) := by
    rw [h i (by omega) n (by omega), decide_eq_true hi, decide_eq_true hn, hR]; rfl
  refine ⟨g _ _ h1, g _ _ h2, g _ _ h3, g _ _ h4', g _ _ h5, ?_⟩
  rw [h6 i (by omega) n (by omega), decide_eq_true hi, hR, Bool.true_and]
  cases hk : pv_ik (nI R)
  · rfl
  · have h2 : 2 ≤ R := by
      rcases R with _ | _ | R
      · exact absurd hk (by decide)
      · exact absurd hk (by decide)
      · omega
    have hkg := pv_kg_lt FK i R
    rw [pv_kgI hF (by omega) h2 hR11, Bool.true_and, Bool.true_and]
    by_cases c : n = pv_kg FK i R
    · rw [decide_eq_true c, c, decide_eq_true rfl]
    · rw [decide_eq_false c, decide_eq_false (fun z => c ((nI_eq (by omega) (by omega)).mp z))]
def pv_RM (NV : Nat) (x : Int32) (i : Nat) (es cs b ps po st : Int32) (pl mem : Nat → Int32) : Prop := ∀ n, n < 7 → pv_R1 NV x (fun k => mem (pv_mx i n k)) (pv_rd pl 0 (8 * i + n)) (bt es (8 * i + n)) (pv_rd pl 4 (8 * i + n)) (bt cs (8 * i + n)) (pv_rd pl 8 (8 * i + n)) (bt b (8 * i + n)) (bt ps (8 * i + n)) (bt po (8 * i + n)) (bt st (8 * i + n))
def pv_RD (x : Int32) (i : Nat) (dset dsome dpl dic : Nat → Int32) : Prop := ∀ f, f < 7 → ∀ n, n < 7 → dic (pv_dx i f n) = pv_md (bt (dset f) (8 * i + n)) (bt (dsome f) (8 * i + n)) (pv_rd dpl (4 * f) (8 * i + n)) ∧ (¬ x < 2 → bt (dset f) (8 * i + n) = true → bt (dsome f) (8 * i + n) = true → pv_rd dpl (4 * f) (8 * i + n) < 2)
def pv_RC (cor : Int32) (xpol ypol : Nat → Int32) : Prop := (∀ n, n < 7 → bt cor n = !decide (ypol n = -1)) ∧ (∀ n, 7 ≤ n → bt cor n = false) ∧ (∀ n, n < 7 → ypol n ≠ -1 → xpol n = ypol n) ∧ pv_cn (fun n => bt cor n) 7 ≤ 2
theorem pv_nlt2 {R : Nat} (h : 2 ≤ R) (hR : R < 12) : ¬ nI R < 2 := nI_nlt (b := 2) h (by omega)
theorem pv_ft : ¬ false = true := by decide
theorem pv_dueM {NV FK NI i f R : Nat} {rd pl a mem : Nat → Int32} {v e x p k kb es cs b ps po st : Int32} (HL : pv_LN rd FK NI v e x p k kb) (hi : i < NI) (h4 : NI ≤ 4) (hF : FK < 7) (hV : 2 ≤ NV) (hR : rd i = nI R) (hR11 : R < 11) (hf : f < 7) (HM : pv_RM NV (rd i) i es cs b ps po st pl mem) :
    pv_ms (bt (pv_ds v e es x kb ps p) (8 * i + f)) (pv_rd (pv_dp pl a v e x kb p b po) 0 (8 * i + f)) = pv_due mem FK i f R ∧ (bt (pv_ds v e es x kb ps p) (8 * i + f) = true → pv_rd (pv_dp pl a v e x kb p b po) 0 (8 * i + f) < pv_sz NV R) ∧ (pv_ik (nI R) = true → f ≠ pv_kg FK i R → pv_rd (pv_dp pl a v e x kb p b po) 0 (8 * i + f) = 0) := by
  obtain ⟨l1, l2, l3, l4, l5, l6⟩ := pv_lnb HL hi h4 hF hR hR11 hf
  obtain ⟨⟨m0, m0'⟩, m1, m2, m4, m5⟩ := HM f hf
  rw [hR] at m1 m2 m4 m5
  have es1 : bt (pv_ds v e es x kb ps p) (8 * i + f) = (((bt v (8 * i + f) || (bt es (8 * i + f) && bt e (8 * i + f))) || (bt x (8 * i + f) || bt kb (8 * i + f))) || (bt ps (8 * i + f) && bt p (8 * i + f))) := by
    unfold pv_ds
    simp only [b_or, b_and]
  rw [es1, pv_dp_rd, l1, l2, l3, l4, l6]
  unfold pv_due
  have one : ∀ c : Bool, pv_e c false false false < 2 := by decide
  have oneV : ∀ c : Bool, nI (pv_e c false false false) = pv_b1f c := by decide
  have oneT : ∀ c : Bool, pv_e c false false false = c.toNat := by decide
  by_cases z0 : R = 0
  · subst z0
    obtain ⟨c1, c2, c3, c4, c5⟩ := pv_kd0
    rw [c1, c2, c3, c4, c5, if_pos rfl]
    simp only [Bool.and_true, Bool.and_false, Bool.or_false, Bool.true_or, Bool.false_and]
    exact ⟨m0.symm, fun _ => m0', fun z => absurd z (by decide)⟩
  by_cases z1 : R = 1
  · subst z1
    obtain ⟨c1, c2, c3, c4, c5⟩ := pv_kd1
    obtain ⟨m1a, m1b⟩ := m1 rfl
    rw [c1, c2, c3, c4, c5, if_neg (by decide : ¬ 1 = 0), if_pos rfl]
    simp only [Bool.and_true, Bool.and_false, Bool.or_false, Bool.false_or, Bool.false_and]
    exact ⟨m1a.symm, m1b, fun z => absurd z (by decide)⟩
  have hR2 : 2 ≤ R := by omega
  obtain ⟨m2a, m2b⟩ := m2 (pv_nlt2 hR2 (by omega))
  have hsz : pv_sz NV R = 2 := by unfold pv_sz; rw [if_neg (by omega)]
  rw [if_neg z0, if_neg z1, hsz]
  by_cases q0 : (R - 2) % 3 = 0
  · obtain ⟨c1, c2, c3, c4, c5⟩ := pv_kd2 R hR11 hR2 q0
    rw [c1, c2, c3, c4, c5, if_neg pv_ft, if_pos q0]
    simp only [Bool.and_true, Bool.and_false, Bool.or_false, Bool.false_or, Bool.or_true, Bool.false_and, Bool.true_or]
    exact ⟨(oneV _).trans m2b.symm, fun _ => one _, fun z => absurd z (by decide)⟩
  by_cases q1 : (R - 2) % 3 = 1
  · obtain ⟨c1, c2, c3, c4, c5⟩ := pv_kd3 R hR11 hR2 q1
    rw [c4] at m4
    rw [c1, c2, c3, c4, c5, if_neg pv_ft, if_neg q0]
    simp only [Bool.and_true, Bool.and_false, Bool.or_false, Bool.false_or, Bool.or_true, Bool.false_and, Bool.true_or]
    rw [oneT]
    exact ⟨(m4 rfl).symm, fun _ => by cases bt po (8 * i + f) <;> decide, fun z => absurd z (by decide)⟩
  · obtain ⟨c1, c2, c3, c4, c5⟩ := pv_kd4 R hR11 hR2 q0 q1
    rw [c1, c2, c3, c4, c5, if_pos (rfl : true = true)]
    simp only [Bool.and_true, Bool.and_false, Bool.or_false, Bool.false_or, Bool.true_and]
    by_cases kk : f = pv_kg FK i R
    · rw [decide_eq_true kk, if_pos kk]
      simp only [Bool.and_true]
      exact ⟨(oneV _).trans m2b.symm, fun _ => one _, fun _ z => absurd kk z⟩
    · rw [decide_eq_false kk, if_neg kk]
      simp only [Bool.and_false]
      exact ⟨rfl, fun z => absurd z (by decide), fun _ _ => rfl⟩
theorem pv_incM {NV R P : Nat} {S : Bool} {du : Int32} (hV : 2 ≤ NV) (hV2 : NV ≤ 16) (hR : R < 11) (hd : pv_ms S P = du) (hP : S = true → P < pv_sz NV R) (hP16 : P < 16) : nI (pv_inc S P NV (decide (R ≤ 1)) (decide (2 ≤ R))) = (if du = -1 then 0 else (du + 1) - (du + 1) / nI (pv_sz NV R) * nI (pv_sz NV R)) ∧ (2 ≤ R → pv_inc S P NV (decide (R ≤ 1)) (decide (2 ≤ R)) < 2) := by
  subst hd
  cases S
  · rw [if_pos (show pv_ms false P = -1 from rfl)]
    exact ⟨rfl, fun _ => by show 0 < 2; decide⟩
  · have hp := hP rfl
    have hs : 0 < pv_sz NV R ∧ pv_sz NV R ≤ 16 := by unfold pv_sz; split <;> omega
    rw [if_neg (fun z => absurd ((pv_ms_m1 hP16).mp z) (by decide))]
    show nI (pv_inc true P NV _ _) = (nI P + 1) - (nI P + 1) / _ * _ ∧ _
    rw [nI_1, pk_rem (by omega) hs.1 (by omega)]
    unfold pv_inc
    unfold pv_sz at hp ⊢
    by_cases c : R ≤ 1
    · rw [if_pos c] at hp ⊢
      rw [decide_eq_true c, decide_eq_false (by omega : ¬ 2 ≤ R)]
      refine ⟨congrArg nI ?_, fun z => by omega⟩
      by_cases e : P = NV - 1
      · rw [decide_eq_true e]
        show 0 = _
        rw [show P + 1 = NV by omega, Nat.mod_self]
      · rw [decide_eq_false e]
        simp only [Bool.and_true, Bool.and_false, Bool.or_false, Bool.false_and, Bool.not_false, Bool.true_and]
        rw [if_pos trivial, Nat.mod_eq_of_lt (by omega : P + 1 < 16), Nat.mod_eq_of_lt (by omega : P + 1 < NV)]
    · rw [if_neg c] at hp ⊢
      rw [decide_eq_false c, decide_eq_true (by omega : 2 ≤ R)]
      have : P = 0 ∨ P = 1 := by omega
      rw [Bool.and_false, Bool.and_true, Bool.false_or, Bool.true_and]
      rcases this with e | e
      · subst e; exact ⟨rfl, fun _ => by decide⟩
      · subst e; exact ⟨rfl, fun _ => by decide⟩
theorem pv_wdb : ∀ R, R < 11 → (pv_iv (nI R) || pv_ie (nI R)) = decide (R ≤ 1) ∧ ((pv_ix (nI R) || pv_ip (nI R)) || pv_ik (nI R)) = decide (2 ≤ R) := by decide +kernel
theorem pv_o2 : ∀ n, n < 7 → pv_e (decide (n % 2 = 1)) false false false = n % 2 := by decide
theorem pv_msgM {NV FK NI i f n R : Nat} {rd pl a mem dic ypol xpol dset dsome dpl sw : Nat → Int32} {v e x p k kb es cs b ps po st cor : Int32} {ss sp : Nat → Int32} (HL : pv_LN rd FK NI v e x p k kb) (hi : i < NI) (h4 : NI ≤ 4) (hF : FK < 7) (hV : 2 ≤ NV) (hV2 : NV ≤ 16) (hR : rd i = nI R) (hR11 : R < 11) (hf : f < 7) (hn : n < 7) (HM : pv_RM NV (rd i) i es cs b ps po st pl mem) (HD : pv_RD (rd i) i dset dsome dpl dic) (HC : pv_RC cor xpol ypol) (HS : pv_rd sw 0 (8 * i + n) = n % NV)
    (hS : bt (ss f) (8 * i + n) = pv_sS (pv_ds v e es x kb ps p) cor ((v ||| e) ||| ((x ||| p) ||| k)) k kb xpol dset dsome f i n)
    (hP : pv_rd sp (4 * f) (8 * i + n) = pv_sP (pv_ds v e es x kb ps p) cor ((v ||| e) ||| ((x ||| p) ||| k)) k kb (v ||| e) ((x ||| p) ||| k) xpol dset dpl (pv_dp pl a v e x kb p b po) sw NV f i n) :
    pv_M ss sp f (8 * i + n) = pv_snt mem dic ypol NV FK i f n R ∧ (2 ≤ R → bt (ss f) (8 * i + n) = true → pv_rd sp (4 * f) (8 * i + n) < 2) ∧ (pv_ik (nI R) = true → f ≠ pv_kg FK i R → pv_rd sp (4 * f) (8 * i + n) = 0) := by
  obtain ⟨D1, D2, D3⟩ := pv_dueM (a := a) HL hi h4 hF hV hR hR11 hf HM
  obtain ⟨l1, l2, l3, l4, l5, l6⟩ := pv_lnb HL hi h4 hF hR hR11 hn
  obtain ⟨_, _, _, _, _, lk⟩ := pv_lnb HL hi h4 hF hR hR11 hf
  obtain ⟨d1, d2⟩ := HD f hf n hn
  rw [hR] at d2
  obtain ⟨C1, _, C3, _⟩ := HC
  obtain ⟨w1, w2⟩ := pv_wdb R hR11
  have bw : bt (v ||| e) (8 * i + n) = decide (R ≤ 1) := by rw [b_or, l1, l2, w1]
  have bn : bt ((x ||| p) ||| k) (8 * i + n) = decide (2 ≤ R) := by rw [b_or, b_or, l3, l4, l5, w2]
  have br : bt ((v ||| e) ||| ((x ||| p) ||| k)) (8 * i + n) = true := by
    rw [b_or, bw, bn]
    by_cases c : R ≤ 1
    · rw [decide_eq_true c]; rfl
    · rw [decide_eq_true (by omega : 2 ≤ R)]; simp
  have hP16 := pv_rd_lt (pv_dp pl a v e x kb p b po) 0 (8 * i + f)
  unfold pv_M
  rw [hS, hP]
  unfold pv_sS pv_sP pv_snt
  rw [br, l5, lk]
  generalize bt (pv_ds v e es x kb ps p) (8 * i + f) = S0 at D1 D2 ⊢
  generalize pv_rd (pv_dp pl a v e x kb p b po) 0 (8 * i + f) = P0 at D1 D2 D3 hP16 ⊢
  have hc := C1 f hf
  by_cases hy : ypol f = -1
  · rw [decide_eq_true hy] at hc
    rw [hc, if_neg (by decide), if_neg (by decide), if_pos hy]
    refine ⟨?_, fun h2 hs => ?_, D3⟩
    · by_cases q : pv_ik (nI R) = true ∧ f ≠ pv_kg FK i R
      · rw [if_pos q, D1]
        have h2 : ¬ R = 0 ∧ ¬ R = 1 := ⟨fun z => by rw [z] at q; exact absurd q.1 (by decide), fun z => by rw [z] at q; exact absurd q.1 (by decide)⟩
        unfold pv_due
        rw [if_neg h2.1, if_neg h2.2, if_pos q.1, if_neg q.2]
      · rw [if_neg q, D1]
    · have := D2 hs
      unfold pv_sz at this
      rw [if_neg (by omega)] at this
      exact this
  · have hx := C3 f hf hy
    rw [decide_eq_false hy, Bool.not_false] at hc
    rw [hc, if_pos rfl, if_pos rfl, if_neg hy, hx]
    by_cases q : pv_ik (nI R) = true ∧ f ≠ pv_kg FK i R
    · rw [if_pos q, q.1, decide_eq_false q.2]
      simp only [Bool.not_true, Bool.and_false, Bool.or_false, Bool.false_eq_true, if_false]
      exact ⟨rfl, fun _ z => absurd z (by decide), by simp⟩
    · have al : ((true && !pv_ik (nI R)) || (pv_ik (nI R) && decide (f = pv_kg FK i R))) = true := by
        cases hk : pv_ik (nI R)
        · rfl
        · have : f = pv_kg FK i R := Classical.byContradiction (fun z => q ⟨hk, z⟩)
          rw [decide_eq_true this]; rfl
      rw [if_neg q, al, if_pos rfl, Bool.and_true]
      refine (fun (A : _ ∧ _) => (⟨A.1, A.2, fun z1 z2 => absurd ⟨z1, z2⟩ q⟩ : _ ∧ _ ∧ _)) ?_
      cases hset : bt (dset f) (8 * i + n)
      · rw [hset] at d1
        have d1' : dic (pv_dx i f n) = -2 := d1
        rw [if_neg pv_ft, if_neg pv_ft, if_pos d1']
        by_cases p1 : ypol f = 1
        · rw [if_pos p1, if_pos p1, if_pos p1]
          exact ⟨rfl, fun _ z => absurd z (by decide)⟩
        rw [if_neg p1, if_neg p1, if_neg p1]
        by_cases p2 : ypol f = 2
        · rw [if_pos p2, if_pos p2, if_pos p2]
          have hv : pv_spv sw (v ||| e) ((x ||| p) ||| k) i n = n % pv_sz NV R := by
            unfold pv_spv pv_sz
            rw [bw, bn]
            by_cases c : R ≤ 1
            · rw [decide_eq_true c, decide_eq_false (by omega : ¬ 2 ≤ R), if_pos c]
              simp only [Bool.and_true, Bool.and_false, Bool.or_false]
              exact HS
            · rw [decide_eq_false c, decide_eq_true (by omega : 2 ≤ R), if_neg c]
              simp only [Bool.and_true, Bool.and_false, Bool.false_or]
              exact pv_o2 n hn
          rw [hv]
          refine ⟨rfl, fun h2 _ => ?_⟩
          unfold pv_sz
          rw [if_neg (by omega)]
          omega
        rw [if_neg p2, if_neg p2, if_neg p2]
        by_cases p3 : ypol f = 3
        · rw [if_pos p3, if_pos p3, if_pos p3, bw, bn]
          obtain ⟨i1, i2⟩ := pv_incM hV hV2 hR11 D1 D2 hP16
          exact ⟨i1, fun h2 _ => i2 h2⟩
        · rw [if_neg p3, if_neg p3, if_neg p3]
          refine ⟨D1, fun h2 hs => ?_⟩
          have := D2 hs
          unfold pv_sz at this
          rw [if_neg (by omega)] at this
          exact this
      · rw [hset] at d1
        rw [if_pos rfl, if_pos rfl]
        have d1' : dic (pv_dx i f n) = pv_ms (bt (dsome f) (8 * i + n)) (pv_rd dpl (4 * f) (8 * i + n)) := d1
        have ne : ¬ dic (pv_dx i f n) = -2 := by
          have := pv_rd_lt dpl (4 * f) (8 * i + n)
          rw [d1']
          unfold pv_ms
          split
          · exact pv_nIm2 (by omega)
          · decide
        rw [if_neg ne, d1']
        exact ⟨rfl, fun h2 hs => d2 (pv_nlt2 h2 (by omega)) hset hs⟩
end
section
/-! the relation -/
def pv_RT (NI : Nat) (tn : Int32) (ytn : Nat → Int32) : Prop := ∀ i, i < NI → ytn i = pv_tw tn i ∧ pv_cn (fun n => bt (ytn i) n) 7 ≤ 2
def pv_N (NI NV D FK : Nat) : Prop := 1 ≤ NI ∧ NI ≤ 4 ∧ 2 ≤ NV ∧ NV ≤ 16 ∧ D < NV ∧ FK < 7
def pv_R (NI NV D FK : Nat) (L : pv_Lg) (f_tainted : Int32) (f_echoSome : Int32) (f_candidateSome : Int32) (f_bits : Int32) (f_proposalSome : Int32) (f_proposalOne : Int32) (f_strong : Int32) (f_corrupted : Int32) (f_valueLanes : Int32) (f_echoLanes : Int32) (f_exchangeLanes : Int32) (f_proposeLanes : Int32) (f_kingLanes : Int32) (f_kingBits : Int32) (f_ledgerHead : Int32) (f_ledgerSize : Int32) (a_rounds : Nat → Int32) (a_planes : Nat → Int32) (a_policies : Nat → Int32) (a_dictSet : Nat → Int32) (a_dictSome : Nat → Int32) (a_dictPlanes : Nat → Int32) (a_splitPlanes : Nat → Int32) (a_ledgerInstance : Nat → Int32) (a_ledgerValue : Nat → Int32) (a_ledgerTainted : Nat → Int32) (g_bc : Int32) (b_tn : Nat → Int32) (b_mem : Nat → Int32) (b_dic : Nat → Int32) (b_pol : Nat → Int32) (b_book : Nat → Int32) : Prop :=
  pv_N NI NV D FK ∧ (∀ i, i < 4 → pv_rk (a_rounds i)) ∧ (∀ i, i < NI → pv_RM NV (a_rounds i) i f_echoSome f_candidateSome f_bits f_proposalSome f_proposalOne f_strong a_planes b_mem) ∧ (∀ i, i < NI → pv_RD (a_rounds i) i a_dictSet a_dictSome a_dictPlanes b_dic) ∧ pv_RC f_corrupted a_policies b_pol ∧ pv_RT NI f_tainted b_tn ∧ pv_LN a_rounds FK NI f_valueLanes f_echoLanes f_exchangeLanes f_proposeLanes f_kingLanes f_kingBits ∧ (∀ i, i < 4 → ∀ n, n < 7 → pv_rd a_splitPlanes 0 (8 * i + n) = n % NV) ∧ pv_XL L f_ledgerHead f_ledgerSize a_ledgerInstance a_ledgerValue a_ledgerTainted ∧ pv_YL L g_bc b_book
/-- the two states are those of one run -/
def i_Rel (_ : Nat) (u : SX) (v : SY) : Prop := match u with
  | (f_allLanes, f_firstLanes, f_oddLanes, f_sevenNodes, f_instances, f_values, f_defaultValue, f_firstKing, f_tainted, f_echoSome, f_candidateSome, f_bits, f_proposalSome, f_proposalOne, f_strong, f_corrupted, f_valueLanes, f_echoLanes, f_exchangeLanes, f_proposeLanes, f_kingLanes, f_wideLanes, f_narrowLanes, f_runningLanes, f_kingBits, f_dueSome, f_sum0, f_sum1, f_sum2, f_ledgerHead, f_ledgerSize, a_rounds, a_planes, a_policies, a_dictSet, a_dictSome, a_dictPlanes, a_splitPlanes, a_duePlanes, a_sentSome, a_sentPlanes, a_match, a_ledgerInstance, a_ledgerValue, a_ledgerTainted) => match v with
    | (g_ins, g_val, g_def, g_fk, g_bc, b_rd, b_tn, b_mem, b_dic, b_pol, b_book, b_msg) => ∃ NI NV D FK : Nat, ∃ L : pv_Lg, (f_instances = nI NI ∧ f_values = nI NV ∧ f_defaultValue = nI D ∧ f_firstKing = nI FK) ∧ (g_ins = nI NI ∧ g_val = nI NV ∧ g_def = nI D ∧ g_fk = nI FK) ∧ (f_wideLanes = f_valueLanes ||| f_echoLanes ∧ f_narrowLanes = (f_exchangeLanes ||| f_proposeLanes) ||| f_kingLanes ∧ f_runningLanes = (f_valueLanes ||| f_echoLanes) ||| ((f_exchangeLanes ||| f_proposeLanes) ||| f_kingLanes)) ∧ a_rounds = b_rd ∧ pv_R NI NV D FK L f_tainted f_echoSome f_candidateSome f_bits f_proposalSome f_proposalOne f_strong f_corrupted f_valueLanes f_echoLanes f_exchangeLanes f_proposeLanes f_kingLanes f_kingBits f_ledgerHead f_ledgerSize a_rounds a_planes a_policies a_dictSet a_dictSome a_dictPlanes a_splitPlanes a_ledgerInstance a_ledgerValue a_ledgerTainted g_bc b_tn b_mem b_dic b_pol b_book
theorem i_up {k : Nat} {u : SX} {v : SY} (h : i_Rel k u v) : i_Rel (k + 5) u v := h
theorem pv_mkR {k NI NV D FK : Nat} {L : pv_Lg} {f_allLanes f_firstLanes f_oddLanes f_sevenNodes f_tainted f_echoSome f_candidateSome f_bits f_proposalSome f_proposalOne f_strong f_corrupted f_valueLanes f_echoLanes f_exchangeLanes f_proposeLanes f_kingLanes f_kingBits f_dueSome f_sum0 f_sum1 f_sum2 f_ledgerHead f_ledgerSize : Int32} {a_rounds a_planes a_policies a_dictSet a_dictSome a_dictPlanes a_splitPlanes a_duePlanes a_sentSome a_sentPlanes a_match a_ledgerInstance a_ledgerValue a_ledgerTainted : Nat → Int32} {g_bc : Int32} {b_tn b_mem b_dic b_pol b_book b_msg : Nat → Int32} (h : pv_R NI NV D FK L f_tainted f_echoSome f_candidateSome f_bits f_proposalSome f_proposalOne f_strong f_corrupted f_valueLanes f_echoLanes f_exchangeLanes f_proposeLanes f_kingLanes f_kingBits f_ledgerHead f_ledgerSize a_rounds a_planes a_policies a_dictSet a_dictSome a_dictPlanes a_splitPlanes a_ledgerInstance a_ledgerValue a_ledgerTainted g_bc b_tn b_mem b_dic b_pol b_book) : i_Rel k (f_allLanes, f_firstLanes, f_oddLanes, f_sevenNodes, nI NI, nI NV, nI D, nI FK, f_tainted, f_echoSome, f_candidateSome, f_bits, f_proposalSome, f_proposalOne, f_strong, f_corrupted, f_valueLanes, f_echoLanes, f_exchangeLanes, f_proposeLanes, f_kingLanes, f_valueLanes ||| f_echoLanes, (f_exchangeLanes ||| f_proposeLanes) ||| f_kingLanes, (f_valueLanes ||| f_echoLanes) ||| ((f_exchangeLanes ||| f_proposeLanes) ||| f_kingLanes), f_kingBits, f_dueSome, f_sum0, f_sum1, f_sum2, f_ledgerHead, f_ledgerSize, a_rounds, a_planes, a_policies, a_dictSet, a_dictSome, a_dictPlanes, a_splitPlanes, a_duePlanes, a_sentSome, a_sentPlanes, a_match, a_ledgerInstance, a_ledgerValue, a_ledgerTainted) (nI NI, nI NV, nI D, nI FK, g_bc, a_rounds, b_tn, b_mem, b_dic, b_pol, b_book, b_msg) := ⟨NI, NV, D, FK, L, ⟨rfl, rfl, rfl, rfl⟩, ⟨rfl, rfl, rfl, rfl⟩, ⟨rfl, rfl, rfl⟩, rfl, h⟩
theorem pv_el {k : Nat} {P : SX → SY → Prop} (h : ∀ NI NV D FK L f_allLanes f_firstLanes f_oddLanes f_sevenNodes f_tainted f_echoSome f_candidateSome f_bits f_proposalSome f_proposalOne f_strong f_corrupted f_valueLanes f_echoLanes f_exchangeLanes f_proposeLanes f_kingLanes f_kingBits f_dueSome f_sum0 f_sum1 f_sum2 f_ledgerHead f_ledgerSize a_rounds a_planes a_policies a_dictSet a_dictSome a_dictPlanes a_splitPlanes a_duePlanes a_sentSome a_sentPlanes a_match a_ledgerInstance a_ledgerValue a_ledgerTainted g_bc b_tn b_mem b_dic b_pol b_book b_msg, pv_R NI NV D FK L f_tainted f_echoSome f_candidateSome f_bits f_proposalSome f_proposalOne f_strong f_corrupted f_valueLanes f_echoLanes f_exchangeLanes f_proposeLanes f_kingLanes f_kingBits f_ledgerHead f_ledgerSize a_rounds a_planes a_policies a_dictSet a_dictSome a_dictPlanes a_splitPlanes a_ledgerInstance a_ledgerValue a_ledgerTainted g_bc b_tn b_mem b_dic b_pol b_book → P (f_allLanes, f_firstLanes, f_oddLanes, f_sevenNodes, nI NI, nI NV, nI D, nI FK, f_tainted, f_echoSome, f_candidateSome, f_bits, f_proposalSome, f_proposalOne, f_strong, f_corrupted, f_valueLanes, f_echoLanes, f_exchangeLanes, f_proposeLanes, f_kingLanes, f_valueLanes ||| f_echoLanes, (f_exchangeLanes ||| f_proposeLanes) ||| f_kingLanes, (f_valueLanes ||| f_echoLanes) ||| ((f_exchangeLanes ||| f_proposeLanes) ||| f_kingLanes), f_kingBits, f_dueSome, f_sum0, f_sum1, f_sum2, f_ledgerHead, f_ledgerSize, a_rounds, a_planes, a_policies, a_dictSet, a_dictSome, a_dictPlanes, a_splitPlanes, a_duePlanes, a_sentSome, a_sentPlanes, a_match, a_ledgerInstance, a_ledgerValue, a_ledgerTainted) (nI NI, nI NV, nI D, nI FK, g_bc, a_rounds, b_tn, b_mem, b_dic, b_pol, b_book, b_msg)) {u : SX} {v : SY} (I : i_Rel k u v) : P u v := by
  obtain ⟨f_allLanes, f_firstLanes, f_oddLanes, f_sevenNodes, f_instances, f_values, f_defaultValue, f_firstKing, f_tainted, f_echoSome, f_candidateSome, f_bits, f_proposalSome, f_proposalOne, f_strong, f_corrupted, f_valueLanes, f_echoLanes, f_exchangeLanes, f_proposeLanes, f_kingLanes, f_wideLanes, f_narrowLanes, f_runningLanes, f_kingBits, f_dueSome, f_sum0, f_sum1, f_sum2, f_ledgerHead, f_ledgerSize, a_rounds, a_planes, a_policies, a_dictSet, a_dictSome, a_dictPlanes, a_splitPlanes, a_duePlanes, a_sentSome, a_sentPlanes, a_match, a_ledgerInstance, a_ledgerValue, a_ledgerTainted⟩ := u
  obtain ⟨g_ins, g_val, g_def, g_fk, g_bc, b_rd, b_tn, b_mem, b_dic, b_pol, b_book, b_msg⟩ := v
  obtain ⟨NI, NV, D, FK, L, ⟨e1, e2, e3, e4⟩, ⟨e5, e6, e7, e8⟩, ⟨e9, e10, e11⟩, e12, H⟩ := I
  subst e1 e2 e3 e4 e5 e6 e7 e8 e9 e10 e11 e12
  exact h NI NV D FK L f_allLanes f_firstLanes f_oddLanes f_sevenNodes f_tainted f_echoSome f_candidateSome f_bits f_proposalSome f_proposalOne f_strong f_corrupted f_valueLanes f_echoLanes f_exchangeLanes f_proposeLanes f_kingLanes f_kingBits f_dueSome f_sum0 f_sum1 f_sum2 f_ledgerHead f_ledgerSize a_rounds a_planes a_policies a_dictSet a_dictSome a_dictPlanes a_splitPlanes a_duePlanes a_sentSome a_sentPlanes a_match a_ledgerInstance a_ledgerValue a_ledgerTainted g_bc b_tn b_mem b_dic b_pol b_book b_msg H
end
section
/-! tick -/
theorem pv_R1_cg {NV : Nat} {x : Int32} {m m' : Nat → Int32} {I E C : Nat} {eS cS b pS pO s : Bool} (h : pv_R1 NV x m I eS E cS C b pS pO s) (hm : ∀ k, k < 6 → m' k = m k) : pv_R1 NV x m' I eS E cS C b pS pO s := by
  obtain ⟨h0, h1, h2, h4, h5⟩ := h
  refine ⟨?_, ?_, ?_, ?_, ?_⟩
  · rw [hm 0 (by decide)]; exact h0
  · rw [hm 1 (by decide)]; exact h1
  · rw [hm 2 (by decide), hm 3 (by decide)]; exact h2
  · rw [hm 4 (by decide)]; exact h4
  · rw [hm 5 (by decide)]; exact h5
theorem pv_RM_m {NV : Nat} {x : Int32} {i : Nat} {es cs b ps po st : Int32} {pl mem mem' : Nat → Int32} (h : pv_RM NV x i es cs b ps po st pl mem) (hm : ∀ n, n < 7 → ∀ k, k < 6 → mem' (pv_mx i n k) = mem (pv_mx i n k)) : pv_RM NV x i es cs b ps po st pl mem' :=
  fun n hn => pv_R1_cg (h n hn) (fun k hk => hm n hn k hk)
theorem pv_RD_m {x : Int32} {i : Nat} {dset dsome dpl dic dic' : Nat → Int32} (h : pv_RD x i dset dsome dpl dic) (hm : ∀ f, f < 7 → ∀ n, n < 7 → dic' (pv_dx i f n) = dic (pv_dx i f n)) : pv_RD x i dset dsome dpl dic' :=
  fun f hf n hn => ⟨(hm f hf n hn).trans (h f hf n hn).1, (h f hf n hn).2⟩
theorem pv_any_1 {p : Nat → Bool} {g : Nat} : ∀ m, g < m → (∀ f, f < m → f ≠ g → p f = false) → pv_any p m = p g
  | 0, h, _ => by omega
  | m + 1, h, H => by
    show (pv_any p m || p m) = p g
    by_cases c : g = m
    · have z : ∀ q, q ≤ m → pv_any p q = false := by
        intro q
        induction q with
        | zero => intro _; rfl
        | succ q ih => intro hq; show (pv_any p q || p q) = false; rw [ih (by omega), H q (by omega) (by omega)]; rfl
      rw [z m (Nat.le_refl _), c]; rfl
    · rw [pv_any_1 m (by omega) (fun f hf hg => H f (by omega) hg), H m (by omega) (fun z => c z.symm)]
      cases p g <;> rfl
theorem pv_lw_ne {t : Int32} (h : pv_cn (fun n => bt t n) 7 ≤ 2) : pv_lw t 7 ≠ 7 := by
  revert h
  show (((((((0 + (bt t 0).toNat) + (bt t 1).toNat) + (bt t 2).toNat) + (bt t 3).toNat) + (bt t 4).toNat) + (bt t 5).toNat) + (bt t 6).toNat) ≤ 2 → (if bt t 0 then (if bt t 1 then (if bt t 2 then (if bt t 3 then (if bt t 4 then (if bt t 5 then (if bt t 6 then 7 else 6) else 5) else 4) else 3) else 2) else 1) else 0) ≠ 7
  generalize bt t 0 = a0
  generalize bt t 1 = a1
  generalize bt t 2 = a2
  generalize bt t 3 = a3
  generalize bt t 4 = a4
  generalize bt t 5 = a5
  generalize bt t 6 = a6
  revert a0 a1 a2 a3 a4 a5 a6
  decide +kernel
theorem pv_held {NV i n : Nat} {x D : Int32} {es cs b ps po st : Int32} {pl mem : Nat → Int32} (hn : n < 7) (hx : ¬ x < 2) (H : pv_RM NV x i es cs b ps po st pl mem) : pv_hy mem D i n = pv_hx b cs pl D (8 * i + n) := by
  obtain ⟨_, _, h2, _, _⟩ := H n hn
  obtain ⟨m2, m3⟩ := h2 hx
  have m2' : mem (pv_mx i n 2) = pv_ms (bt cs (8 * i + n)) (pv_rd pl 8 (8 * i + n)) := m2
  have m3' : mem (pv_mx i n 3) = pv_b1f (bt b (8 * i + n)) := m3
  have hl := pv_rd_lt pl 8 (8 * i + n)
  unfold pv_hy pv_hx
  rw [m2', m3', b_and]
  cases bt b (8 * i + n)
  · rw [if_neg (show ¬ pv_b1f false = 1 from by decide), Bool.false_and, if_neg pv_ft]
  · rw [if_pos (show pv_b1f true = 1 from rfl), Bool.true_and]
    cases bt cs (8 * i + n)
    · rw [if_pos (show pv_ms false (pv_rd pl 8 (8 * i + n)) = -1 from rfl), if_neg pv_ft]
    · rw [if_neg (show ¬ pv_ms true (pv_rd pl 8 (8 * i + n)) = -1 from fun z => absurd ((pv_ms_m1 hl).mp z) (by decide)), if_pos rfl]; rfl
theorem pv_valE {NV i : Nat} {x D tn : Int32} {es cs b ps po st : Int32} {pl mem ytn : Nat → Int32} (hx : ¬ x < 2) (H : pv_RM NV x i es cs b ps po st pl mem) (ht : ytn i = pv_tw tn i) (hc : pv_cn (fun n => bt (ytn i) n) 7 ≤ 2) : pv_vy mem D (ytn i) i 7 = pv_vl b cs pl D tn i := by
  have h7 := pv_lw_ne hc
  have hle := pv_lw_le (ytn i) 7
  unfold pv_vy pv_vl pv_l0
  rw [if_neg h7, ← ht, if_neg h7]
  exact pv_held (by omega) hx H
section
variable {NI NV FK : Nat} {rd pl a ypol xpol dset dsome dpl sw ss sp pl' : Nat → Int32} {v e x p k kb es cs b ps po st cor es' cs' b1 ps' po' b2 st' b3 : Int32}
theorem pv_RMs {i R : Nat} {mem dic msg : Nat → Int32} (HL : pv_LN rd FK NI v e x p k kb) (hi : i < NI) (h4 : NI ≤ 4) (hF : FK < 7) (hV : 2 ≤ NV) (hV2 : NV ≤ 16) (hR : rd i = nI R) (hR11 : R < 11) (HM : pv_RM NV (rd i) i es cs b ps po st pl mem) (HD : pv_RD (rd i) i dset dsome dpl dic) (HC : pv_RC cor xpol ypol) (HS : ∀ i, i < 4 → ∀ n, n < 7 → pv_rd sw 0 (8 * i + n) = n % NV)
    (FA : pv_FA (pv_ds v e es x kb ps p) cor ((v ||| e) ||| ((x ||| p) ||| k)) k kb (v ||| e) ((x ||| p) ||| k) xpol dset dsome dpl (pv_dp pl a v e x kb p b po) sw NV 7 ss sp) (SW : pv_SW v e es cs b pl ss sp NV es' cs' b1 pl') (SN : pv_SN x p ps po b1 st ss sp ps' po' b2 st') (SK : pv_SK k st' b2 ss sp b3) (MS : pv_MS mem dic ypol NV FK i R 7 msg) :
    pv_RM NV (nI (R + 1)) i es' cs' b3 ps' po' st' pl' (pv_rci mem msg NV FK i R 7) := by
  intro n hn
  have hl : 8 * i + n < 32 := by omega
  have i4 : i < 4 := by omega
  have hkg := pv_kg_lt FK i R
  obtain ⟨l1, l2, l3, l4, l5, _⟩ := pv_lnb HL hi h4 hF hR hR11 hn
  have hM (f : Nat) (hf : f < 7) := pv_msgM (n := n) HL hi h4 hF hV hV2 hR hR11 hf hn HM HD HC (HS i i4 n hn) (FA f hf i i4 n hn).1 (FA f hf i i4 n hn).2
  have hmsg (f : Nat) (hf : f < 7) : msg (f * 7 + n) = pv_M ss sp f (8 * i + n) := (MS f hf n hn).trans (hM f hf).1.symm
  have hcn : (fun w => pv_ct ss sp (8 * i + n) (nI w)) = pv_yn msg n := by
    funext w
    exact pv_cn_cg (fun f hf => by rw [hmsg f hf])
  have hcw (w : Nat) : pv_ct ss sp (8 * i + n) (nI w) = pv_yn msg n w := congrFun hcn w
  obtain ⟨s1, s2, s3, s4, s5⟩ := SW i i4 n hn
  rw [hcn, l1] at s1
  rw [hcn, l2] at s3
  rw [l2] at s4
  obtain ⟨t1, t2, t3, t4⟩ := SN i i4 n hn
  rw [hcw, hcw, l3] at t1
  rw [hcw, l3] at t2
  rw [hcw, hcw, l4] at t3
  rw [hcw, hcw, l4] at t4
  have u := SK i i4 n hn
  rw [l5] at u
  have hR1 := HM n hn
  rw [hR] at hR1
  have Z := pv_step1 (R := R) (cn := pv_yn msg n) (S := bt (ss (pv_kg FK i R)) (8 * i + n)) (P := pv_rd sp (4 * pv_kg FK i R) (8 * i + n)) (eS' := bt es' (8 * i + n)) (E' := pv_rd pl' 4 (8 * i + n)) (b3 := bt b3 (8 * i + n)) hR11 hV2 (pv_rd_lt _ _ _) (pv_rd_lt _ _ _) hR1 s1 s3 s4 s5 t1 t2 t3 t4 ?_ ?_ (hM _ hkg).2.1
  · refine pv_R1_cg Z (fun q hq => ?_)
    show pv_rci mem msg NV FK i R 7 (pv_mx i n q) = _
    rw [pv_rci_v mem msg NV FK i R hq 7 hn (Nat.le_refl _), hmsg _ hkg]
    rfl
  · intro hk
    rw [hk, Bool.true_and] at u
    have a1 : pv_any (fun f => bt (ss f) (8 * i + n)) 7 = bt (ss (pv_kg FK i R)) (8 * i + n) := by
      refine pv_any_1 7 hkg (fun f hf hg => ?_)
      have e1 := (hM f hf).1
      unfold pv_snt at e1
      rw [if_pos ⟨hk, hg⟩] at e1
      exact (pv_ms_m1 (pv_rd_lt _ _ _)).mp e1
    have a2 : pv_any (fun f => bt (sp (4 * f)) (8 * i + n)) 7 = decide (pv_rd sp (4 * pv_kg FK i R) (8 * i + n) % 2 = 1) := by
      rw [← pv_rd_o]
      refine pv_any_1 (p := fun f => bt (sp (4 * f)) (8 * i + n)) 7 hkg (fun f hf hg => ?_)
      show bt (sp (4 * f)) (8 * i + n) = false
      rw [pv_rd_o sp (4 * f), (hM f hf).2.2 hk hg]; rfl
    rw [a1, a2] at u
    exact u
  · intro hk
    rw [hk] at u
    exact u
theorem pv_RMn {i : Nat} {mem : Nat → Int32} (HL : pv_LN rd FK NI v e x p k kb) (hi : i < NI) (h4 : NI ≤ 4) (hr : pv_ir (rd i) = false) (HM : pv_RM NV (rd i) i es cs b ps po st pl mem)
    (SW : pv_SW v e es cs b pl ss sp NV es' cs' b1 pl') (SN : pv_SN x p ps po b1 st ss sp ps' po' b2 st') (SK : pv_SK k st' b2 ss sp b3) :
    pv_RM NV (rd i) i es' cs' b3 ps' po' st' pl' mem := by
  intro n hn
  have i4 : i < 4 := by omega
  obtain ⟨h1, h2, h3, h5, h6, _⟩ := HL
  obtain ⟨r1, r2, r3, r4, r5⟩ := pv_ir_f hr
  have g (q : Int32 → Bool) (w : Int32) (h : pv_L1 rd NI q w) (z : q (rd i) = false) : bt w (8 * i + n) = false := by
    rw [h i i4 n (by omega), z]; simp
  have l1 := g _ _ h1 r1
  have l2 := g _ _ h2 r2
  have l3 := g _ _ h3 r3
  have l4 := g _ _ h5 r4
  have l5 := g _ _ h6 r5
  obtain ⟨_, s2, _, s4, s5⟩ := SW i i4 n hn
  obtain ⟨t1, t2, t3, t4⟩ := SN i i4 n hn
  have u := SK i i4 n hn
  obtain ⟨z1, z2⟩ := s2 l1
  obtain ⟨z3, z4, z5⟩ := s4 l2
  rw [l3, if_neg (by decide)] at t1 t2
  rw [l4, if_neg (by decide)] at t3 t4
  rw [l5, Bool.false_and, Bool.false_and, if_neg (by decide)] at u
  have := HM n hn
  rw [s5, z1, z2, z3, z4, u, t3, z5, t1, t2, t4]
  exact this
theorem pv_RDs {i R : Nat} {dic : Nat → Int32} (HL : pv_LN rd FK NI v e x p k kb) (hi : i < NI) (h4 : NI ≤ 4) (hF : FK < 7) (hR : rd i = nI R) (hR11 : R < 11) (y : Int32) : pv_RD y i (pv_mk ((v ||| e) ||| ((x ||| p) ||| k)) dset 7) (pv_mk ((v ||| e) ||| ((x ||| p) ||| k)) dsome 7) (pv_mk ((v ||| e) ||| ((x ||| p) ||| k)) dpl 28) (pv_bl (i * 49) (fun _ => -2) dic 49) := by
  intro f hf n hn
  obtain ⟨l1, l2, l3, l4, l5, _⟩ := pv_lnb HL hi h4 hF hR hR11 hn
  obtain ⟨w1, w2⟩ := pv_wdb R hR11
  have br : bt ((v ||| e) ||| ((x ||| p) ||| k)) (8 * i + n) = true := by
    rw [b_or, b_or, b_or, b_or, l1, l2, l3, l4, l5, w1, w2]
    by_cases c : R ≤ 1
    · rw [decide_eq_true c]; rfl
    · rw [decide_eq_true (by omega : 2 ≤ R)]; simp
  have hs : bt (pv_mk ((v ||| e) ||| ((x ||| p) ||| k)) dset 7 f) (8 * i + n) = false := by rw [pv_mk_b _ _ hf (by omega), br, if_pos rfl]
  rw [hs]
  refine ⟨?_, fun _ z => absurd z (by decide)⟩
  rw [show pv_dx i f n = i * 49 + (f * 7 + n) by unfold pv_dx; omega, pv_blg (by omega)]
  rfl
theorem pv_RDn {i : Nat} {dic : Nat → Int32} (HL : pv_LN rd FK NI v e x p k kb) (hi : i < NI) (h4 : NI ≤ 4) (hr : pv_ir (rd i) = false) (HD : pv_RD (rd i) i dset dsome dpl dic) : pv_RD (rd i) i (pv_mk ((v ||| e) ||| ((x ||| p) ||| k)) dset 7) (pv_mk ((v ||| e) ||| ((x ||| p) ||| k)) dsome 7) (pv_mk ((v ||| e) ||| ((x ||| p) ||| k)) dpl 28) dic := by
  intro f hf n hn
  have i4 : i < 4 := by omega
  obtain ⟨h1, h2, h3, h5, h6, _⟩ := HL
  obtain ⟨r1, r2, r3, r4, r5⟩ := pv_ir_f hr
  have g (q : Int32 → Bool) (w : Int32) (h : pv_L1 rd NI q w) (z : q (rd i) = false) : bt w (8 * i + n) = false := by
    rw [h i i4 n (by omega), z]; simp
  have br : bt ((v ||| e) ||| ((x ||| p) ||| k)) (8 * i + n) = false := by
    rw [b_or, b_or, b_or, b_or, g _ _ h1 r1, g _ _ h2 r2, g _ _ h3 r3, g _ _ h5 r4, g _ _ h6 r5]; rfl
  rw [pv_mk_b _ _ hf (by omega), pv_mk_b _ _ hf (by omega), pv_mk_rd _ _ (by omega) (by omega), br, if_neg (by decide), if_neg (by decide), if_neg (by decide)]
  exact HD f hf n hn
/-- the reference's tick -/
theorem yw_tick {post : Int32 → SY → Prop} {D : Int32} {tn : Int32} {L : pv_Lg} {g_bc : Int32} {b_tn b_mem b_dic b_book b_msg : Nat → Int32} (HL : pv_LN rd FK NI v e x p k kb) (h4 : NI ≤ 4) (hF : FK < 7) (hV : 2 ≤ NV) (hV2 : NV ≤ 16) (hk : ∀ i, i < 4 → pv_rk (rd i)) (HM : ∀ i, i < NI → pv_RM NV (rd i) i es cs b ps po st pl b_mem) (HD : ∀ i, i < NI → pv_RD (rd i) i dset dsome dpl b_dic) (HC : pv_RC cor xpol ypol) (HT : pv_RT NI tn b_tn) (HS : ∀ i, i < 4 → ∀ n, n < 7 → pv_rd sw 0 (8 * i + n) = n % NV) (HY : pv_YL L g_bc b_book)
    (FA : pv_FA (pv_ds v e es x kb ps p) cor ((v ||| e) ||| ((x ||| p) ||| k)) k kb (v ||| e) ((x ||| p) ||| k) xpol dset dsome dpl (pv_dp pl a v e x kb p b po) sw NV 7 ss sp) (SW : pv_SW v e es cs b pl ss sp NV es' cs' b1 pl') (SN : pv_SN x p ps po b1 st ss sp ps' po' b2 st') (SK : pv_SK k st' b2 ss sp b3)
    (h : ∀ bc mem dic book msg, (∀ i, i < NI → pv_RM NV (pv_r1 rd NI i) i es' cs' b3 ps' po' st' pl' mem) → (∀ i, i < NI → pv_RD (pv_r1 rd NI i) i (pv_mk ((v ||| e) ||| ((x ||| p) ||| k)) dset 7) (pv_mk ((v ||| e) ||| ((x ||| p) ||| k)) dsome 7) (pv_mk ((v ||| e) ||| ((x ||| p) ||| k)) dpl 28) dic) → pv_YL (pv_lgs rd (pv_vl b3 cs' pl' D tn) (pv_tw tn) L NI) bc book → post (nI (pv_cn (fun j => pv_ir (rd j)) NI)) (nI NI, nI NV, D, nI FK, bc, pv_r1 rd NI, b_tn, mem, dic, ypol, book, msg)) :
    wpY_tick post (nI NI, nI NV, D, nI FK, g_bc, rd, b_tn, b_mem, b_dic, ypol, b_book, b_msg) := by
  refine pv_l7 (fun n i x1 r bc mem dic book msg => wY_tick_4 post n x1 (nI i) (nI NI) (nI NV) D (nI FK) bc r b_tn mem dic ypol book msg) (fun i x1 r bc mem dic book msg => x1 = nI (pv_cn (fun j => pv_ir (rd j)) i) ∧ r = pv_r1 rd i ∧ pv_YL (pv_lgs rd (pv_vl b3 cs' pl' D tn) (pv_tw tn) L i) bc book ∧ (∀ j, j < i → pv_RM NV (pv_r1 rd NI j) j es' cs' b3 ps' po' st' pl' mem ∧ pv_RD (pv_r1 rd NI j) j (pv_mk ((v ||| e) ||| ((x ||| p) ||| k)) dset 7) (pv_mk ((v ||| e) ||| ((x ||| p) ||| k)) dsome 7) (pv_mk ((v ||| e) ||| ((x ||| p) ||| k)) dpl 28) dic) ∧ (∀ j, i ≤ j → j < NI → pv_RM NV (rd j) j es cs b ps po st pl mem ∧ pv_RD (rd j) j dset dsome dpl dic)) NI 0 rd g_bc b_mem b_dic b_book b_msg ⟨rfl, (pv_r10 _).symm, HY, fun j hj => by omega, fun j _ hj => ⟨HM j hj, HD j hj⟩⟩ ?_ ?_
  · rintro n x1 r bc mem dic book msg ⟨rfl, rfl, H1, H2, _⟩
    exact br_t (nI_le (Nat.le_refl _) (by omega)) (h bc mem dic book msg (fun i hi => (H2 i hi).1) (fun i hi => (H2 i hi).2) H1)
  · rintro n i x1 r bc mem dic book msg hi ⟨rfl, rfl, H1, H2, H3⟩ K
    have i4 : i < 4 := by omega
    obtain ⟨hMi, hDi⟩ := H3 i (Nat.le_refl _) hi
    have er : pv_r1 rd i i = rd i := pv_r1r rd i
    refine br_f (nI_ge hi (by omega)) (yw_run i4 (by rw [er]; exact hk i i4) (fun hr => br_f (by decide) ?_) (fun hr => br_t rfl ?_))
    · rw [er] at hr
      obtain ⟨R, hR, eR⟩ := pv_ir_t (hk i i4) hr
      refine yw_co (L := pv_lgs rd (pv_vl b3 cs' pl' D tn) (pv_tw tn) L i) i4 hF hV hV2 (er.trans eR) hR H1 ?_
      intro msg' bc' book' HMS HB x1' ex1 x2' ex2
      obtain rfl := ex2.trans (nI_1 i)
      have hnew : pv_r1 rd NI i = nI (R + 1) := by rw [← nI_1, ← eR]; exact if_pos ⟨hi, hr⟩
      have hMn := pv_RMs HL hi h4 hF hV hV2 eR hR hMi hDi HC HS FA SW SN SK HMS
      refine K _ _ _ _ _ _ _ ⟨?_, ?_, ?_, ?_, ?_⟩
      · rw [ex1, nI_1]
        show _ = nI (pv_cn _ i + (pv_ir (rd i)).toNat)
        rw [hr]; rfl
      · rw [er]; exact pv_r1y rd hr
      · show pv_YL (if rd i = 10 then _ else _) _ _
        by_cases c : R = 10
        · rw [if_pos c] at HB
          rw [if_pos (by rw [eR, c]; rfl)]
          obtain ⟨t1, t2⟩ := HT i hi
          rw [pv_valE (by rw [c]; decide) hMn t1 t2, t1] at HB
          exact HB
        · rw [if_neg c] at HB
          have c' : ¬ rd i = 10 := fun z => c ((nI_eq (b := 10) (by omega) (by decide)).mp (eR.symm.trans z))
          rw [if_neg c']
          exact HB
      · intro j hj
        by_cases c : j = i
        · subst c
          rw [hnew]
          exact ⟨hMn, pv_RDs HL hi h4 hF eR hR _⟩
        · obtain ⟨q1, q2⟩ := H2 j (by omega)
          refine ⟨pv_RM_m q1 (fun n hn k hk => ?_), pv_RD_m q2 (fun f hf n hn => ?_)⟩
          · exact pv_rci_o _ _ _ _ _ _ 7 (fun r hr k' hk' => by unfold pv_mx; omega)
          · exact pv_blo (by unfold pv_dx; omega)
      · intro j hj hjN
        obtain ⟨q1, q2⟩ := H3 j (by omega) hjN
        refine ⟨pv_RM_m q1 (fun n hn k hk => ?_), pv_RD_m q2 (fun f hf n hn => ?_)⟩
        · exact pv_rci_o _ _ _ _ _ _ 7 (fun r hr k' hk' => by unfold pv_mx; omega)
        · exact pv_blo (by unfold pv_dx; omega)
    · rw [er] at hr
      intro x2' ex2
      obtain rfl := ex2.trans (nI_1 i)
      have hnew : pv_r1 rd NI i = rd i := if_neg (fun z => by rw [hr] at z; exact absurd z.2 (by decide))
      refine K _ _ _ _ _ _ _ ⟨?_, pv_r1n rd hr, ?_, ?_, fun j hj hjN => H3 j (by omega) hjN⟩
      · show _ = nI (pv_cn _ i + (pv_ir (rd i)).toNat)
        rw [hr]; rfl
      · show pv_YL (if rd i = 10 then _ else _) _ _
        rw [if_neg (fun y => by rw [y] at hr; exact absurd hr (by decide))]
        exact H1
      · intro j hj
        by_cases c : j = i
        · subst c
          rw [hnew]
          exact ⟨pv_RMn HL hi h4 hr hMi SW SN SK, pv_RDn HL hi h4 hr hDi⟩
        · exact H2 j (by omega)
end
end
section
/-! tick and run -/
theorem pv_YLa {L L' : pv_Lg} {hd sz bc : Int32} {li lv lt book : Nat → Int32} (h : pv_XL L hd sz li lv lt) (h' : pv_XL L' hd sz li lv lt) (y : pv_YL L' bc book) : pv_YL L bc book := by
  obtain ⟨a, a16, ea, c16, es, H⟩ := h
  obtain ⟨a', a16', ea', c16', es', H'⟩ := h'
  have e1 : a = a' := (nI_eq (by omega) (by omega)).mp (ea.symm.trans ea')
  have e2 : L.1 = L'.1 := (nI_eq (by omega) (by omega)).mp (es.symm.trans es')
  subst e1
  obtain ⟨_, eb, Y⟩ := y
  refine ⟨c16, by rw [e2]; exact eb, fun k hk => ?_⟩
  obtain ⟨x1, x2, x3⟩ := H k hk
  obtain ⟨y1, y2, y3⟩ := H' k (by omega)
  obtain ⟨z1, z2, z3⟩ := Y k (by omega)
  exact ⟨z1.trans (y1.symm.trans x1), z2.trans (y2.symm.trans x2), z3.trans (y3.symm.trans x3)⟩
section
variable {k NI NV D FK : Nat} {L : pv_Lg} {f_allLanes f_firstLanes f_oddLanes f_sevenNodes f_tainted f_echoSome f_candidateSome f_bits f_proposalSome f_proposalOne f_strong f_corrupted f_valueLanes f_echoLanes f_exchangeLanes f_proposeLanes f_kingLanes f_kingBits f_dueSome f_sum0 f_sum1 f_sum2 f_ledgerHead f_ledgerSize : Int32} {a_rounds a_planes a_policies a_dictSet a_dictSome a_dictPlanes a_splitPlanes a_duePlanes a_sentSome a_sentPlanes a_match a_ledgerInstance a_ledgerValue a_ledgerTainted : Nat → Int32}
theorem pv_el2 {P : SY → Prop} {v : SY} (N : pv_N NI NV D FK) (HX : pv_XL L f_ledgerHead f_ledgerSize a_ledgerInstance a_ledgerValue a_ledgerTainted) (h : ∀ g_bc b_tn b_mem b_dic b_pol b_book b_msg, pv_R NI NV D FK L f_tainted f_echoSome f_candidateSome f_bits f_proposalSome f_proposalOne f_strong f_corrupted f_valueLanes f_echoLanes f_exchangeLanes f_proposeLanes f_kingLanes f_kingBits f_ledgerHead f_ledgerSize a_rounds a_planes a_policies a_dictSet a_dictSome a_dictPlanes a_splitPlanes a_ledgerInstance a_ledgerValue a_ledgerTainted g_bc b_tn b_mem b_dic b_pol b_book → P (nI NI, nI NV, nI D, nI FK, g_bc, a_rounds, b_tn, b_mem, b_dic, b_pol, b_book, b_msg)) (I : i_Rel k (f_allLanes, f_firstLanes, f_oddLanes, f_sevenNodes, nI NI, nI NV, nI D, nI FK, f_tainted, f_echoSome, f_candidateSome, f_bits, f_proposalSome, f_proposalOne, f_strong, f_corrupted, f_valueLanes, f_echoLanes, f_exchangeLanes, f_proposeLanes, f_kingLanes, f_valueLanes ||| f_echoLanes, (f_exchangeLanes ||| f_proposeLanes) ||| f_kingLanes, (f_valueLanes ||| f_echoLanes) ||| ((f_exchangeLanes ||| f_proposeLanes) ||| f_kingLanes), f_kingBits, f_dueSome, f_sum0, f_sum1, f_sum2, f_ledgerHead, f_ledgerSize, a_rounds, a_planes, a_policies, a_dictSet, a_dictSome, a_dictPlanes, a_splitPlanes, a_duePlanes, a_sentSome, a_sentPlanes, a_match, a_ledgerInstance, a_ledgerValue, a_ledgerTainted) v) : P v := by
  obtain ⟨g_ins, g_val, g_def, g_fk, g_bc, b_rd, b_tn, b_mem, b_dic, b_pol, b_book, b_msg⟩ := v
  obtain ⟨NI', NV', D', FK', L', ⟨e1, e2, e3, e4⟩, ⟨e5, e6, e7, e8⟩, _, e12, H⟩ := I
  obtain ⟨N1, N2, N3, N4, N5, N6⟩ := N
  obtain ⟨⟨M1, M2, M3, M4, M5, M6⟩, q1, q2, q3, q4, q5, q6, q7, q8, q9⟩ := H
  have z1 : NI = NI' := (nI_eq (by omega) (by omega)).mp e1
  have z2 : NV = NV' := (nI_eq (by omega) (by omega)).mp e2
  have z3 : D = D' := (nI_eq (by omega) (by omega)).mp e3
  have z4 : FK = FK' := (nI_eq (by omega) (by omega)).mp e4
  clear e1 e2 e3 e4
  subst z1 z2 z3 z4 e5 e6 e7 e8 e12
  exact h g_bc b_tn b_mem b_dic b_pol b_book b_msg ⟨⟨N1, N2, N3, N4, N5, N6⟩, q1, q2, q3, q4, q5, q6, q7, HX, pv_YLa HX q8 q9⟩
end
/-- whatever the reference's state, its tick answers r and ends in a state that is related to u1 -/
def pv_TS (k : Nat) (u : SX) (r : Int32) (u1 : SX) : Prop := ∀ v, i_Rel k u v → ∀ post : Int32 → SY → Prop, (∀ v1, i_Rel k u1 v1 → post r v1) → wpY_tick post v
theorem pv_idle {rd : Nat → Int32} {FK NI : Nat} {v e x p k kb : Int32} (HL : pv_LN rd FK NI v e x p k kb) (h4 : NI ≤ 4) : (v ||| e) ||| ((x ||| p) ||| k) = 0 ↔ ∀ i, i < NI → pv_ir (rd i) = false := by
  obtain ⟨h1, h2, h3, h5, h6, _⟩ := HL
  constructor
  · intro z i hi
    have g (q : Int32 → Bool) (w : Int32) (h : pv_L1 rd NI q w) : bt w (8 * i + 0) = q (rd i) := by
      rw [h i (by omega) 0 (by decide), decide_eq_true hi]; rfl
    have := congrArg (fun w => bt w (8 * i + 0)) z
    rw [b_or, b_or, b_or, b_or, g _ _ h1, g _ _ h2, g _ _ h3, g _ _ h5, g _ _ h6, b_0] at this
    unfold pv_ir
    rw [← this]
    simp only [Bool.or_assoc]
  · intro z
    apply b_ext
    refine pv_by8 ?_
    intro i hi n hn
    by_cases c : i < NI
    · obtain ⟨r1, r2, r3, r4, r5⟩ := pv_ir_f (z i c)
      rw [b_or, b_or, b_or, b_or, h1 i hi n hn, h2 i hi n hn, h3 i hi n hn, h5 i hi n hn, h6 i hi n hn, r1, r2, r3, r4, r5, b_0]
      simp
    · rw [b_or, b_or, b_or, b_or, h1 i hi n hn, h2 i hi n hn, h3 i hi n hn, h5 i hi n hn, h6 i hi n hn, decide_eq_false c, b_0]
      rfl
theorem pv_cn0 {p : Nat → Bool} : ∀ {m : Nat}, pv_cn p m = 0 ↔ ∀ i, i < m → p i = false
  | 0 => ⟨fun _ i hi => by omega, fun _ => rfl⟩
  | m + 1 => by
    show pv_cn p m + (p m).toNat = 0 ↔ _
    constructor
    · intro z i hi
      by_cases c : i = m
      · subst c
        cases hp : p i
        · rfl
        · rw [hp] at z
          have : (true).toNat = 1 := rfl
          omega
      · exact pv_cn0.mp (by omega : pv_cn p m = 0) i (by omega)
    · intro z
      rw [z m (by omega), pv_cn0.mpr (fun i hi => z i (by omega))]; rfl
section
variable {g_ins g_val g_def g_fk g_bc : Int32} {b_rd b_tn b_mem b_dic b_pol b_book b_msg : Nat → Int32}
theorem yw_tick0 {post : Int32 → SY → Prop} {NI : Nat} (h4 : NI ≤ 4) (hk : ∀ i, i < 4 → pv_rk (b_rd i)) (hr : ∀ i, i < NI → pv_ir (b_rd i) = false) (h : post 0 (nI NI, g_val, g_def, g_fk, g_bc, b_rd, b_tn, b_mem, b_dic, b_pol, b_book, b_msg)) : wpY_tick post (nI NI, g_val, g_def, g_fk, g_bc, b_rd, b_tn, b_mem, b_dic, b_pol, b_book, b_msg) := by
  refine pv_l1 (fun n i (_ : Unit) => wY_tick_4 post n 0 (nI i) (nI NI) g_val g_def g_fk g_bc b_rd b_tn b_mem b_dic b_pol b_book b_msg) (fun _ _ => True) NI () trivial ?_ ?_
  · intro n _ _
    exact br_t (nI_le (Nat.le_refl _) (by omega)) h
  · intro n i _ hi _ K
    refine br_f (nI_ge hi (by omega)) (yw_run (by omega) (hk i (by omega)) (fun z => ?_) (fun _ => br_t rfl ?_))
    · rw [hr i hi] at z; exact absurd z (by decide)
    · intro x ex
      obtain rfl := ex.trans (nI_1 i)
      exact K () trivial
end
/-- what the component alone keeps -/
def pv_RX (NI NV D FK : Nat) (L : pv_Lg) (f_valueLanes f_echoLanes f_exchangeLanes f_proposeLanes f_kingLanes f_kingBits f_ledgerHead f_ledgerSize : Int32) (a_rounds a_splitPlanes a_ledgerInstance a_ledgerValue a_ledgerTainted : Nat → Int32) : Prop :=
  pv_N NI NV D FK ∧ (∀ i, i < 4 → pv_rk (a_rounds i)) ∧ pv_LN a_rounds FK NI f_valueLanes f_echoLanes f_exchangeLanes f_proposeLanes f_kingLanes f_kingBits ∧ (∀ i, i < 4 → ∀ n, n < 7 → pv_rd a_splitPlanes 0 (8 * i + n) = n % NV) ∧ pv_XL L f_ledgerHead f_ledgerSize a_ledgerInstance a_ledgerValue a_ledgerTainted
def pv_XO (u : SX) : Prop := match u with
  | (f_allLanes, f_firstLanes, f_oddLanes, f_sevenNodes, f_instances, f_values, f_defaultValue, f_firstKing, f_tainted, f_echoSome, f_candidateSome, f_bits, f_proposalSome, f_proposalOne, f_strong, f_corrupted, f_valueLanes, f_echoLanes, f_exchangeLanes, f_proposeLanes, f_kingLanes, f_wideLanes, f_narrowLanes, f_runningLanes, f_kingBits, f_dueSome, f_sum0, f_sum1, f_sum2, f_ledgerHead, f_ledgerSize, a_rounds, a_planes, a_policies, a_dictSet, a_dictSome, a_dictPlanes, a_splitPlanes, a_duePlanes, a_sentSome, a_sentPlanes, a_match, a_ledgerInstance, a_ledgerValue, a_ledgerTainted) => ∃ NI NV D FK : Nat, ∃ L : pv_Lg, (f_instances = nI NI ∧ f_values = nI NV ∧ f_defaultValue = nI D ∧ f_firstKing = nI FK) ∧ (f_wideLanes = f_valueLanes ||| f_echoLanes ∧ f_narrowLanes = (f_exchangeLanes ||| f_proposeLanes) ||| f_kingLanes ∧ f_runningLanes = (f_valueLanes ||| f_echoLanes) ||| ((f_exchangeLanes ||| f_proposeLanes) ||| f_kingLanes)) ∧ pv_RX NI NV D FK L f_valueLanes f_echoLanes f_exchangeLanes f_proposeLanes f_kingLanes f_kingBits f_ledgerHead f_ledgerSize a_rounds a_splitPlanes a_ledgerInstance a_ledgerValue a_ledgerTainted
theorem pv_mkX {NI NV D FK : Nat} {L : pv_Lg} {f_allLanes f_firstLanes f_oddLanes f_sevenNodes f_tainted f_echoSome f_candidateSome f_bits f_proposalSome f_proposalOne f_strong f_corrupted f_valueLanes f_echoLanes f_exchangeLanes f_proposeLanes f_kingLanes f_kingBits f_dueSome f_sum0 f_sum1 f_sum2 f_ledgerHead f_ledgerSize : Int32} {a_rounds a_planes a_policies a_dictSet a_dictSome a_dictPlanes a_splitPlanes a_duePlanes a_sentSome a_sentPlanes a_match a_ledgerInstance a_ledgerValue a_ledgerTainted : Nat → Int32} (h : pv_RX NI NV D FK L f_valueLanes f_echoLanes f_exchangeLanes f_proposeLanes f_kingLanes f_kingBits f_ledgerHead f_ledgerSize a_rounds a_splitPlanes a_ledgerInstance a_ledgerValue a_ledgerTainted) : pv_XO (f_allLanes, f_firstLanes, f_oddLanes, f_sevenNodes, nI NI, nI NV, nI D, nI FK, f_tainted, f_echoSome, f_candidateSome, f_bits, f_proposalSome, f_proposalOne, f_strong, f_corrupted, f_valueLanes, f_echoLanes, f_exchangeLanes, f_proposeLanes, f_kingLanes, f_valueLanes ||| f_echoLanes, (f_exchangeLanes ||| f_proposeLanes) ||| f_kingLanes, (f_valueLanes ||| f_echoLanes) ||| ((f_exchangeLanes ||| f_proposeLanes) ||| f_kingLanes), f_kingBits, f_dueSome, f_sum0, f_sum1, f_sum2, f_ledgerHead, f_ledgerSize, a_rounds, a_planes, a_policies, a_dictSet, a_dictSome, a_dictPlanes, a_splitPlanes, a_duePlanes, a_sentSome, a_sentPlanes, a_match, a_ledgerInstance, a_ledgerValue, a_ledgerTainted) := ⟨NI, NV, D, FK, L, ⟨rfl, rfl, rfl, rfl⟩, ⟨rfl, rfl, rfl⟩, h⟩
theorem pv_elX {P : SX → Prop} (h : ∀ NI NV D FK L f_allLanes f_firstLanes f_oddLanes f_sevenNodes f_tainted f_echoSome f_candidateSome f_bits f_proposalSome f_proposalOne f_strong f_corrupted f_valueLanes f_echoLanes f_exchangeLanes f_proposeLanes f_kingLanes f_kingBits f_dueSome f_sum0 f_sum1 f_sum2 f_ledgerHead f_ledgerSize a_rounds a_planes a_policies a_dictSet a_dictSome a_dictPlanes a_splitPlanes a_duePlanes a_sentSome a_sentPlanes a_match a_ledgerInstance a_ledgerValue a_ledgerTainted, pv_RX NI NV D FK L f_valueLanes f_echoLanes f_exchangeLanes f_proposeLanes f_kingLanes f_kingBits f_ledgerHead f_ledgerSize a_rounds a_splitPlanes a_ledgerInstance a_ledgerValue a_ledgerTainted → P (f_allLanes, f_firstLanes, f_oddLanes, f_sevenNodes, nI NI, nI NV, nI D, nI FK, f_tainted, f_echoSome, f_candidateSome, f_bits, f_proposalSome, f_proposalOne, f_strong, f_corrupted, f_valueLanes, f_echoLanes, f_exchangeLanes, f_proposeLanes, f_kingLanes, f_valueLanes ||| f_echoLanes, (f_exchangeLanes ||| f_proposeLanes) ||| f_kingLanes, (f_valueLanes ||| f_echoLanes) ||| ((f_exchangeLanes ||| f_proposeLanes) ||| f_kingLanes), f_kingBits, f_dueSome, f_sum0, f_sum1, f_sum2, f_ledgerHead, f_ledgerSize, a_rounds, a_planes, a_policies, a_dictSet, a_dictSome, a_dictPlanes, a_splitPlanes, a_duePlanes, a_sentSome, a_sentPlanes, a_match, a_ledgerInstance, a_ledgerValue, a_ledgerTainted)) {u : SX} (I : pv_XO u) : P u := by
  obtain ⟨f_allLanes, f_firstLanes, f_oddLanes, f_sevenNodes, f_instances, f_values, f_defaultValue, f_firstKing, f_tainted, f_echoSome, f_candidateSome, f_bits, f_proposalSome, f_proposalOne, f_strong, f_corrupted, f_valueLanes, f_echoLanes, f_exchangeLanes, f_proposeLanes, f_kingLanes, f_wideLanes, f_narrowLanes, f_runningLanes, f_kingBits, f_dueSome, f_sum0, f_sum1, f_sum2, f_ledgerHead, f_ledgerSize, a_rounds, a_planes, a_policies, a_dictSet, a_dictSome, a_dictPlanes, a_splitPlanes, a_duePlanes, a_sentSome, a_sentPlanes, a_match, a_ledgerInstance, a_ledgerValue, a_ledgerTainted⟩ := u
  obtain ⟨NI, NV, D, FK, L, ⟨e1, e2, e3, e4⟩, ⟨e9, e10, e11⟩, H⟩ := I
  subst e1 e2 e3 e4 e9 e10 e11
  exact h NI NV D FK L f_allLanes f_firstLanes f_oddLanes f_sevenNodes f_tainted f_echoSome f_candidateSome f_bits f_proposalSome f_proposalOne f_strong f_corrupted f_valueLanes f_echoLanes f_exchangeLanes f_proposeLanes f_kingLanes f_kingBits f_dueSome f_sum0 f_sum1 f_sum2 f_ledgerHead f_ledgerSize a_rounds a_planes a_policies a_dictSet a_dictSome a_dictPlanes a_splitPlanes a_duePlanes a_sentSome a_sentPlanes a_match a_ledgerInstance a_ledgerValue a_ledgerTainted H
theorem pv_xo {k : Nat} {u : SX} {v : SY} (I : i_Rel k u v) : pv_XO u := by
  refine pv_el (P := fun u _ => pv_XO u) ?_ I
  intro NI NV D FK L f_allLanes f_firstLanes f_oddLanes f_sevenNodes f_tainted f_echoSome f_candidateSome f_bits f_proposalSome f_proposalOne f_strong f_corrupted f_valueLanes f_echoLanes f_exchangeLanes f_proposeLanes f_kingLanes f_kingBits f_dueSome f_sum0 f_sum1 f_sum2 f_ledgerHead f_ledgerSize a_rounds a_planes a_policies a_dictSet a_dictSome a_dictPlanes a_splitPlanes a_duePlanes a_sentSome a_sentPlanes a_match a_ledgerInstance a_ledgerValue a_ledgerTainted g_bc b_tn b_mem b_dic b_pol b_book b_msg H
  obtain ⟨N, hk, HM, HD, HC, HT, HLN, HS, HX, HY⟩ := H
  exact pv_mkX ⟨N, hk, HLN, HS, HX⟩
theorem pv_tickX {k : Nat} {u : SX} {post : Int32 → SX → Prop} (I : pv_XO u) (h : ∀ r u1, pv_XO u1 → pv_TS k u r u1 → (r = 0 → pv_TS k u1 0 u1) → (∃ m, m ≤ 4 ∧ r = nI m) → post r u1) : wpX_tick post u := by
  refine pv_elX (P := fun u => (∀ r u1, pv_XO u1 → pv_TS k u r u1 → (r = 0 → pv_TS k u1 0 u1) → (∃ m, m ≤ 4 ∧ r = nI m) → post r u1) → wpX_tick post u) ?_ I h
  intro NI NV D FK L f_allLanes f_firstLanes f_oddLanes f_sevenNodes f_tainted f_echoSome f_candidateSome f_bits f_proposalSome f_proposalOne f_strong f_corrupted f_valueLanes f_echoLanes f_exchangeLanes f_proposeLanes f_kingLanes f_kingBits f_dueSome f_sum0 f_sum1 f_sum2 f_ledgerHead f_ledgerSize a_rounds a_planes a_policies a_dictSet a_dictSome a_dictPlanes a_splitPlanes a_duePlanes a_sentSome a_sentPlanes a_match a_ledgerInstance a_ledgerValue a_ledgerTainted H h
  have HX0 := pv_mkX (f_allLanes := f_allLanes) (f_firstLanes := f_firstLanes) (f_oddLanes := f_oddLanes) (f_sevenNodes := f_sevenNodes) (f_tainted := f_tainted) (f_echoSome := f_echoSome) (f_candidateSome := f_candidateSome) (f_bits := f_bits) (f_proposalSome := f_proposalSome) (f_proposalOne := f_proposalOne) (f_strong := f_strong) (f_corrupted := f_corrupted) (f_dueSome := f_dueSome) (f_sum0 := f_sum0) (f_sum1 := f_sum1) (f_sum2 := f_sum2) (a_planes := a_planes) (a_policies := a_policies) (a_dictSet := a_dictSet) (a_dictSome := a_dictSome) (a_dictPlanes := a_dictPlanes) (a_duePlanes := a_duePlanes) (a_sentSome := a_sentSome) (a_sentPlanes := a_sentPlanes) (a_match := a_match) H
  obtain ⟨N, hk, HLN, HS, HX⟩ := H
  have N' := N
  obtain ⟨N1, N2, N3, N4, N5, N6⟩ := N'
  refine xw_tick N2 N3 N4 N6 hk HX ?_ ?_
  · intro z
    have hr := (pv_idle HLN N2).mp z
    have hT : pv_TS k (f_allLanes, f_firstLanes, f_oddLanes, f_sevenNodes, nI NI, nI NV, nI D, nI FK, f_tainted, f_echoSome, f_candidateSome, f_bits, f_proposalSome, f_proposalOne, f_strong, f_corrupted, f_valueLanes, f_echoLanes, f_exchangeLanes, f_proposeLanes, f_kingLanes, f_valueLanes ||| f_echoLanes, (f_exchangeLanes ||| f_proposeLanes) ||| f_kingLanes, (f_valueLanes ||| f_echoLanes) ||| ((f_exchangeLanes ||| f_proposeLanes) ||| f_kingLanes), f_kingBits, f_dueSome, f_sum0, f_sum1, f_sum2, f_ledgerHead, f_ledgerSize, a_rounds, a_planes, a_policies, a_dictSet, a_dictSome, a_dictPlanes, a_splitPlanes, a_duePlanes, a_sentSome, a_sentPlanes, a_match, a_ledgerInstance, a_ledgerValue, a_ledgerTainted) 0 (f_allLanes, f_firstLanes, f_oddLanes, f_sevenNodes, nI NI, nI NV, nI D, nI FK, f_tainted, f_echoSome, f_candidateSome, f_bits, f_proposalSome, f_proposalOne, f_strong, f_corrupted, f_valueLanes, f_echoLanes, f_exchangeLanes, f_proposeLanes, f_kingLanes, f_valueLanes ||| f_echoLanes, (f_exchangeLanes ||| f_proposeLanes) ||| f_kingLanes, (f_valueLanes ||| f_echoLanes) ||| ((f_exchangeLanes ||| f_proposeLanes) ||| f_kingLanes), f_kingBits, f_dueSome, f_sum0, f_sum1, f_sum2, f_ledgerHead, f_ledgerSize, a_rounds, a_planes, a_policies, a_dictSet, a_dictSome, a_dictPlanes, a_splitPlanes, a_duePlanes, a_sentSome, a_sentPlanes, a_match, a_ledgerInstance, a_ledgerValue, a_ledgerTainted) := by
      intro v' I' post' hp
      refine pv_el2 (P := fun v' => wpY_tick post' v') N HX ?_ I'
      intro g_bc b_tn b_mem b_dic b_pol b_book b_msg H2
      exact yw_tick0 N2 hk hr (hp _ (pv_mkR H2))
    exact h 0 _ HX0 hT (fun _ => hT) ⟨0, by decide, rfl⟩
  · intro z ss sp es cs b1 pl ps po b2 st b3 d1 d2 m s0 s1 s2 v e x p k' b hd sz li lv lt FA SW SN SK LN' XL'
    refine h _ _ (pv_mkX ⟨N, pv_r1k hk NI, LN', HS, XL'⟩) ?_ ?_ ⟨_, Nat.le_trans (pv_cn_le _ _) N2, rfl⟩
    · intro v' I' post' hp
      refine pv_el2 (P := fun v' => wpY_tick post' v') N HX ?_ I'
      intro g_bc b_tn b_mem b_dic b_pol b_book b_msg H2
      obtain ⟨_, _, HM2, HD2, HC2, HT2, _, _, _, HY2⟩ := H2
      refine yw_tick HLN N2 N6 N3 N4 hk HM2 HD2 HC2 HT2 HS HY2 FA SW SN SK ?_
      intro bc mem dic book msg q1 q2 q3
      exact hp _ (pv_mkR ⟨N, pv_r1k hk NI, q1, q2, HC2, HT2, LN', HS, XL', q3⟩)
    · intro r0
      have c0 : pv_cn (fun j => pv_ir (a_rounds j)) NI = 0 := (nI_eq (b := 0) (by have := pv_cn_le (fun j => pv_ir (a_rounds j)) NI; omega) (by decide)).mp r0
      exact absurd ((pv_idle HLN N2).mpr (pv_cn0.mp c0)) z
theorem i_vc_tick {k : Nat} {u : SX} {v : SY} (I : i_Rel k u v) (hk : k + 5 ≤ 2564) : wpX_tick (fun r u' => wpY_tick (fun r' v' => r' = r ∧ i_Rel (k + 5) u' v') v) u :=
  pv_tickX (pv_xo I) (fun r u1 _ T _ _ => T v I (fun r' v' => r' = r ∧ i_Rel (k + 5) u1 v') (fun v1 h1 => ⟨rfl, h1⟩))
/-! run -/
def pv_yr (fin : Int32 → SY → Prop) (t : Int32) (n c i : Nat) (v : SY) : Prop := match v with
  | (g_ins, g_val, g_def, g_fk, g_bc, b_rd, b_tn, b_mem, b_dic, b_pol, b_book, b_msg) => wY_run_4 fin t n (nI c) (nI i) g_ins g_val g_def g_fk g_bc b_rd b_tn b_mem b_dic b_pol b_book b_msg
theorem pv_yskip {k c : Nat} {u : SX} {t : Int32} {fin : Int32 → SY → Prop} (h : ∀ v', i_Rel k u v' → fin (nI c) v') : ∀ d i, i + d = 11 → (∀ j, i ≤ j → j < 11 → t ≤ nI j ∨ pv_TS k u 0 u) → ∀ v, i_Rel k u v → pv_yr fin t (d + 1) c i v := by
  intro d
  induction d with
  | zero =>
    intro i hi _ v I
    obtain rfl : i = 11 := by omega
    obtain ⟨g_ins, g_val, g_def, g_fk, g_bc, b_rd, b_tn, b_mem, b_dic, b_pol, b_book, b_msg⟩ := v
    exact br_t (by decide +kernel) (h _ I)
  | succ d ih =>
    intro i hi H v I
    obtain ⟨g_ins, g_val, g_def, g_fk, g_bc, b_rd, b_tn, b_mem, b_dic, b_pol, b_book, b_msg⟩ := v
    refine br_f (nI_ge (b := 11) (by omega) (by decide)) (br_c (fun z => ?_) (fun z => ?_))
    · intro x ex
      obtain rfl := ex.trans (nI_1 i)
      exact ih (i + 1) (by omega) (fun j hj hj' => H j (by omega) hj') (g_ins, g_val, g_def, g_fk, g_bc, b_rd, b_tn, b_mem, b_dic, b_pol, b_book, b_msg) I
    · rcases H i (Nat.le_refl _) (by omega) with y | T
      · exact absurd y z
      · refine T _ I _ ?_
        intro v1 I1
        obtain ⟨g_ins, g_val, g_def, g_fk, g_bc, b_rd, b_tn, b_mem, b_dic, b_pol, b_book, b_msg⟩ := v1
        refine br_t (by decide) ?_
        intro x ex
        obtain rfl := ex.trans (nI_1 i)
        exact ih (i + 1) (by omega) (fun j hj hj' => H j (by omega) hj') (g_ins, g_val, g_def, g_fk, g_bc, b_rd, b_tn, b_mem, b_dic, b_pol, b_book, b_msg) I1
def pv_xr (post : Int32 → SX → Prop) (lim n i : Nat) (u : SX) : Prop := match u with
  | (f_allLanes, f_firstLanes, f_oddLanes, f_sevenNodes, f_instances, f_values, f_defaultValue, f_firstKing, f_tainted, f_echoSome, f_candidateSome, f_bits, f_proposalSome, f_proposalOne, f_strong, f_corrupted, f_valueLanes, f_echoLanes, f_exchangeLanes, f_proposeLanes, f_kingLanes, f_wideLanes, f_narrowLanes, f_runningLanes, f_kingBits, f_dueSome, f_sum0, f_sum1, f_sum2, f_ledgerHead, f_ledgerSize, a_rounds, a_planes, a_policies, a_dictSet, a_dictSome, a_dictPlanes, a_splitPlanes, a_duePlanes, a_sentSome, a_sentPlanes, a_match, a_ledgerInstance, a_ledgerValue, a_ledgerTainted) => wX_run_11 post (nI lim) n (nI i) f_allLanes f_firstLanes f_oddLanes f_sevenNodes f_instances f_values f_defaultValue f_firstKing f_tainted f_echoSome f_candidateSome f_bits f_proposalSome f_proposalOne f_strong f_corrupted f_valueLanes f_echoLanes f_exchangeLanes f_proposeLanes f_kingLanes f_wideLanes f_narrowLanes f_runningLanes f_kingBits f_dueSome f_sum0 f_sum1 f_sum2 f_ledgerHead f_ledgerSize a_rounds a_planes a_policies a_dictSet a_dictSome a_dictPlanes a_splitPlanes a_duePlanes a_sentSome a_sentPlanes a_match a_ledgerInstance a_ledgerValue a_ledgerTainted
theorem pv_lim (t : Int32) : ∃ m, m ≤ 11 ∧ pv_clp t 0 11 = nI m ∧ (∀ j, m ≤ j → j < 11 → t ≤ nI j) ∧ (∀ j, j < m → ¬ t ≤ nI j) := by
  unfold pv_clp
  by_cases h : (0 : Int32) ≤ t
  · rw [if_pos h]
    obtain ⟨j, hj, rfl⟩ := nI_of (Int32.not_lt.mpr h)
    by_cases c : j ≤ 11
    · have c' : nI j ≤ 11 := nI_le (b := 11) c (by decide)
      rw [if_pos c']
      exact ⟨j, c, rfl, fun i hi h11 => nI_le hi (by omega), fun i hi => nI_ge hi hj⟩
    · have c' : ¬ nI j ≤ 11 := nI_ge (a := 11) (by omega) hj
      rw [if_neg c']
      exact ⟨11, Nat.le_refl _, rfl, fun i hi h11 => by omega, fun i hi => nI_ge (by omega) hj⟩
  · rw [if_neg h]
    refine ⟨0, by decide, rfl, fun i _ h11 => ?_, fun i hi => by omega⟩
    have h' : t < 0 := Int32.not_le.mp h
    exact Int32.le_trans (Int32.le_of_lt h') (nI_pos' (by omega))
theorem i_vc_run {k : Nat} {u : SX} {v : SY} (I : i_Rel k u v) (hk : k + 5 ≤ 2564) (v1 : Int32) : wpX_run (fun r u' => wpY_run (fun r' v' => r' = r ∧ i_Rel (k + 5) u' v') v v1) u v1 := by
  obtain ⟨lim, hl, el, h1, h2⟩ := pv_lim v1
  have main : ∃ n, pv_xr (fun r u' => wpY_run (fun r' v' => r' = r ∧ i_Rel (k + 5) u' v') v v1) lim n 0 u := by
    refine pv_l1 (fun n i w => pv_xr (fun r u' => wpY_run (fun r' v' => r' = r ∧ i_Rel (k + 5) u' v') v v1) lim n i w) (fun i w => pv_XO w ∧ ∀ fin : Int32 → SY → Prop, (∀ z, i_Rel k w z → pv_yr fin v1 (12 - i) i i z) → pv_yr fin v1 12 0 0 v) lim u ⟨pv_xo I, fun fin h => h v I⟩ ?_ ?_
    · rintro n w ⟨_, hw⟩
      have Z := hw (fun r' v' => r' = nI lim ∧ i_Rel (k + 5) w v') (fun z Iz => by
        have := pv_yskip (c := lim) (t := v1) (fin := fun r' v' => r' = nI lim ∧ i_Rel (k + 5) w v') (fun v' Iv => ⟨rfl, Iv⟩) (11 - lim) lim (by omega) (fun j hj hj' => Or.inl (h1 j hj hj')) z Iz
        rwa [show 11 - lim + 1 = 12 - lim by omega] at this)
      have Z' : wpY_run (fun r' v' => r' = nI lim ∧ i_Rel (k + 5) w v') v v1 := by
        obtain ⟨g_ins, g_val, g_def, g_fk, g_bc, b_rd, b_tn, b_mem, b_dic, b_pol, b_book, b_msg⟩ := v
        exact ⟨12, Z⟩
      clear hw Z
      obtain ⟨f_allLanes, f_firstLanes, f_oddLanes, f_sevenNodes, f_instances, f_values, f_defaultValue, f_firstKing, f_tainted, f_echoSome, f_candidateSome, f_bits, f_proposalSome, f_proposalOne, f_strong, f_corrupted, f_valueLanes, f_echoLanes, f_exchangeLanes, f_proposeLanes, f_kingLanes, f_wideLanes, f_narrowLanes, f_runningLanes, f_kingBits, f_dueSome, f_sum0, f_sum1, f_sum2, f_ledgerHead, f_ledgerSize, a_rounds, a_planes, a_policies, a_dictSet, a_dictSome, a_dictPlanes, a_splitPlanes, a_duePlanes, a_sentSome, a_sentPlanes, a_match, a_ledgerInstance, a_ledgerValue, a_ledgerTainted⟩ := w
      exact br_t (nI_le (Nat.le_refl _) (by omega)) Z'
    · rintro n i w hi ⟨I0, hw⟩ K
      have step : ∀ r u1, pv_XO u1 → pv_TS k w r u1 → (r = 0 → pv_TS k u1 0 u1) → (∃ m, m ≤ 4 ∧ r = nI m) → (r = 0 → wpY_run (fun r' v' => r' = nI i ∧ i_Rel (k + 5) u1 v') v v1) ∧ (¬ r = 0 → pv_xr (fun r u' => wpY_run (fun r' v' => r' = r ∧ i_Rel (k + 5) u' v') v v1) lim n (i + 1) u1) := by
        intro r u1 X1 T T0 hm
        refine ⟨fun r0 => ?_, fun r0 => ?_⟩
        · subst r0
          have Z := hw (fun r' v' => r' = nI i ∧ i_Rel (k + 5) u1 v') (fun z Iz => by
            obtain ⟨g_ins, g_val, g_def, g_fk, g_bc, b_rd, b_tn, b_mem, b_dic, b_pol, b_book, b_msg⟩ := z
            rw [show 12 - i = (11 - i) + 1 by omega]
            refine br_f (nI_ge (b := 11) (by omega) (by decide)) (br_f (h2 i hi) (T _ Iz _ ?_))
            intro y Iy
            have W := pv_yskip (c := i) (t := v1) (fin := fun r' v' => r' = nI i ∧ i_Rel (k + 5) u1 v') (fun v' Iv => ⟨rfl, Iv⟩) (10 - i) (i + 1) (by omega) (fun j hj hj' => Or.inr (T0 rfl)) y Iy
            rw [show 10 - i + 1 = 11 - i by omega] at W
            obtain ⟨g_ins, g_val, g_def, g_fk, g_bc, b_rd, b_tn, b_mem, b_dic, b_pol, b_book, b_msg⟩ := y
            refine br_t (by decide) ?_
            intro x ex
            obtain rfl := ex.trans (nI_1 i)
            exact W)
          obtain ⟨g_ins, g_val, g_def, g_fk, g_bc, b_rd, b_tn, b_mem, b_dic, b_pol, b_book, b_msg⟩ := v
          exact ⟨12, Z⟩
        · · refine K u1 ⟨X1, fun fin hf => hw fin (fun z Iz => ?_)⟩
            obtain ⟨g_ins, g_val, g_def, g_fk, g_bc, b_rd, b_tn, b_mem, b_dic, b_pol, b_book, b_msg⟩ := z
            rw [show 12 - i = (11 - i) + 1 by omega]
            refine br_f (nI_ge (b := 11) (by omega) (by decide)) (br_f (h2 i hi) (T _ Iz _ ?_))
            intro y Iy
            have W := hf y Iy
            rw [show 12 - (i + 1) = 11 - i by omega] at W
            obtain ⟨g_ins, g_val, g_def, g_fk, g_bc, b_rd, b_tn, b_mem, b_dic, b_pol, b_book, b_msg⟩ := y
            obtain ⟨m, hm4, em⟩ := hm
            subst em
            have m0 : m ≠ 0 := fun z => r0 (by rw [z]; rfl)
            refine br_f (nI_ge (a := 0) (by omega) (by omega)) ?_
            intro x2 e2 x3 e3
            obtain rfl := e2.trans (nI_1 i)
            obtain rfl := e3.trans (nI_1 i)
            exact W
      obtain ⟨f_allLanes, f_firstLanes, f_oddLanes, f_sevenNodes, f_instances, f_values, f_defaultValue, f_firstKing, f_tainted, f_echoSome, f_candidateSome, f_bits, f_proposalSome, f_proposalOne, f_strong, f_corrupted, f_valueLanes, f_echoLanes, f_exchangeLanes, f_proposeLanes, f_kingLanes, f_wideLanes, f_narrowLanes, f_runningLanes, f_kingBits, f_dueSome, f_sum0, f_sum1, f_sum2, f_ledgerHead, f_ledgerSize, a_rounds, a_planes, a_policies, a_dictSet, a_dictSome, a_dictPlanes, a_splitPlanes, a_duePlanes, a_sentSome, a_sentPlanes, a_match, a_ledgerInstance, a_ledgerValue, a_ledgerTainted⟩ := w
      clear hw K
      refine br_f (nI_ge hi (by omega)) (pv_tickX (k := k) I0 ?_)
      intro r u1 X1 T T0 hm
      have S := step r u1 X1 T T0 hm
      clear step X1 T T0 hm
      obtain ⟨f_allLanes, f_firstLanes, f_oddLanes, f_sevenNodes, f_instances, f_values, f_defaultValue, f_firstKing, f_tainted, f_echoSome, f_candidateSome, f_bits, f_proposalSome, f_proposalOne, f_strong, f_corrupted, f_valueLanes, f_echoLanes, f_exchangeLanes, f_proposeLanes, f_kingLanes, f_wideLanes, f_narrowLanes, f_runningLanes, f_kingBits, f_dueSome, f_sum0, f_sum1, f_sum2, f_ledgerHead, f_ledgerSize, a_rounds, a_planes, a_policies, a_dictSet, a_dictSome, a_dictPlanes, a_splitPlanes, a_duePlanes, a_sentSome, a_sentPlanes, a_match, a_ledgerInstance, a_ledgerValue, a_ledgerTainted⟩ := u1
      refine br_c S.1 (fun r0 x ex => ?_)
      obtain rfl := ex.trans (nI_1 i)
      exact S.2 r0
  clear h1 h2
  obtain ⟨f_allLanes, f_firstLanes, f_oddLanes, f_sevenNodes, f_instances, f_values, f_defaultValue, f_firstKing, f_tainted, f_echoSome, f_candidateSome, f_bits, f_proposalSome, f_proposalOne, f_strong, f_corrupted, f_valueLanes, f_echoLanes, f_exchangeLanes, f_proposeLanes, f_kingLanes, f_wideLanes, f_narrowLanes, f_runningLanes, f_kingBits, f_dueSome, f_sum0, f_sum1, f_sum2, f_ledgerHead, f_ledgerSize, a_rounds, a_planes, a_policies, a_dictSet, a_dictSome, a_dictPlanes, a_splitPlanes, a_duePlanes, a_sentSome, a_sentPlanes, a_match, a_ledgerInstance, a_ledgerValue, a_ledgerTainted⟩ := u
  unfold wpX_run
  refine xw_clp ?_
  rw [el]
  exact main
end
section
/-! getters -/
theorem pv_01 : ¬ (1 : Int32) = 0 := by decide
theorem i_vc_setting {k : Nat} {u : SX} {v : SY} (I : i_Rel k u v) (hk : k + 5 ≤ 2564) (v1 : Int32) : wpX_setting (fun r => wpY_setting (fun r' => r' = r ∧ i_Rel (k + 5) u v) v v1) u v1 := by
  refine pv_el (P := fun u v => wpX_setting (fun r => wpY_setting (fun r' => r' = r ∧ i_Rel (k + 5) u v) v v1) u v1) ?_ I
  intro NI NV D FK L f_allLanes f_firstLanes f_oddLanes f_sevenNodes f_tainted f_echoSome f_candidateSome f_bits f_proposalSome f_proposalOne f_strong f_corrupted f_valueLanes f_echoLanes f_exchangeLanes f_proposeLanes f_kingLanes f_kingBits f_dueSome f_sum0 f_sum1 f_sum2 f_ledgerHead f_ledgerSize a_rounds a_planes a_policies a_dictSet a_dictSome a_dictPlanes a_splitPlanes a_duePlanes a_sentSome a_sentPlanes a_match a_ledgerInstance a_ledgerValue a_ledgerTainted g_bc b_tn b_mem b_dic b_pol b_book b_msg H
  have HR : i_Rel (k + 5) (f_allLanes, f_firstLanes, f_oddLanes, f_sevenNodes, nI NI, nI NV, nI D, nI FK, f_tainted, f_echoSome, f_candidateSome, f_bits, f_proposalSome, f_proposalOne, f_strong, f_corrupted, f_valueLanes, f_echoLanes, f_exchangeLanes, f_proposeLanes, f_kingLanes, f_valueLanes ||| f_echoLanes, (f_exchangeLanes ||| f_proposeLanes) ||| f_kingLanes, (f_valueLanes ||| f_echoLanes) ||| ((f_exchangeLanes ||| f_proposeLanes) ||| f_kingLanes), f_kingBits, f_dueSome, f_sum0, f_sum1, f_sum2, f_ledgerHead, f_ledgerSize, a_rounds, a_planes, a_policies, a_dictSet, a_dictSome, a_dictPlanes, a_splitPlanes, a_duePlanes, a_sentSome, a_sentPlanes, a_match, a_ledgerInstance, a_ledgerValue, a_ledgerTainted) (nI NI, nI NV, nI D, nI FK, g_bc, a_rounds, b_tn, b_mem, b_dic, b_pol, b_book, b_msg) := pv_mkR H
  exact br_c (fun a => br_t a ⟨rfl, HR⟩) (fun a => br_c (fun b => br_f a (br_t b ⟨rfl, HR⟩)) (fun b => br_c (fun c => br_f a (br_f b (br_t c ⟨rfl, HR⟩))) (fun c => br_c (fun d => br_f a (br_f b (br_f c (br_t d ⟨rfl, HR⟩)))) (fun d => br_f a (br_f b (br_f c (br_f d ⟨rfl, HR⟩)))))))
theorem i_vc_round {k : Nat} {u : SX} {v : SY} (I : i_Rel k u v) (hk : k + 5 ≤ 2564) (v1 : Int32) : wpX_round (fun r => wpY_round (fun r' => r' = r ∧ i_Rel (k + 5) u v) v v1) u v1 := by
  refine pv_el (P := fun u v => wpX_round (fun r => wpY_round (fun r' => r' = r ∧ i_Rel (k + 5) u v) v v1) u v1) ?_ I
  intro NI NV D FK L f_allLanes f_firstLanes f_oddLanes f_sevenNodes f_tainted f_echoSome f_candidateSome f_bits f_proposalSome f_proposalOne f_strong f_corrupted f_valueLanes f_echoLanes f_exchangeLanes f_proposeLanes f_kingLanes f_kingBits f_dueSome f_sum0 f_sum1 f_sum2 f_ledgerHead f_ledgerSize a_rounds a_planes a_policies a_dictSet a_dictSome a_dictPlanes a_splitPlanes a_duePlanes a_sentSome a_sentPlanes a_match a_ledgerInstance a_ledgerValue a_ledgerTainted g_bc b_tn b_mem b_dic b_pol b_book b_msg H
  have HR : i_Rel (k + 5) (f_allLanes, f_firstLanes, f_oddLanes, f_sevenNodes, nI NI, nI NV, nI D, nI FK, f_tainted, f_echoSome, f_candidateSome, f_bits, f_proposalSome, f_proposalOne, f_strong, f_corrupted, f_valueLanes, f_echoLanes, f_exchangeLanes, f_proposeLanes, f_kingLanes, f_valueLanes ||| f_echoLanes, (f_exchangeLanes ||| f_proposeLanes) ||| f_kingLanes, (f_valueLanes ||| f_echoLanes) ||| ((f_exchangeLanes ||| f_proposeLanes) ||| f_kingLanes), f_kingBits, f_dueSome, f_sum0, f_sum1, f_sum2, f_ledgerHead, f_ledgerSize, a_rounds, a_planes, a_policies, a_dictSet, a_dictSome, a_dictPlanes, a_splitPlanes, a_duePlanes, a_sentSome, a_sentPlanes, a_match, a_ledgerInstance, a_ledgerValue, a_ledgerTainted) (nI NI, nI NV, nI D, nI FK, g_bc, a_rounds, b_tn, b_mem, b_dic, b_pol, b_book, b_msg) := pv_mkR H
  obtain ⟨⟨N1, N2, N3, N4, N5, N6⟩, hk, HM, HD, HC, HT, HLN, HS, HX, HY⟩ := H
  unfold wpX_round wpY_round
  rcases pv_csI v1 (N := NI) (by omega) with ⟨i, hi, rfl⟩ | hb
  · have hv : vp_in (nI i) 4 := vp_in_nI (by omega) (by decide)
    exact xw_biY N2 hi (br_t rfl ⟨hv, yw_biY N2 hi (br_t rfl ⟨hv, rfl, HR⟩)⟩)
  · exact xw_biN hb (br_f pv_01 (yw_biN hb (br_f pv_01 ⟨rfl, HR⟩)))
theorem i_vc_king {k : Nat} {u : SX} {v : SY} (I : i_Rel k u v) (hk : k + 5 ≤ 2564) (v1 : Int32) : wpX_king (fun r => wpY_king (fun r' => r' = r ∧ i_Rel (k + 5) u v) v v1) u v1 := by
  refine pv_el (P := fun u v => wpX_king (fun r => wpY_king (fun r' => r' = r ∧ i_Rel (k + 5) u v) v v1) u v1) ?_ I
  intro NI NV D FK L f_allLanes f_firstLanes f_oddLanes f_sevenNodes f_tainted f_echoSome f_candidateSome f_bits f_proposalSome f_proposalOne f_strong f_corrupted f_valueLanes f_echoLanes f_exchangeLanes f_proposeLanes f_kingLanes f_kingBits f_dueSome f_sum0 f_sum1 f_sum2 f_ledgerHead f_ledgerSize a_rounds a_planes a_policies a_dictSet a_dictSome a_dictPlanes a_splitPlanes a_duePlanes a_sentSome a_sentPlanes a_match a_ledgerInstance a_ledgerValue a_ledgerTainted g_bc b_tn b_mem b_dic b_pol b_book b_msg H
  have HR : i_Rel (k + 5) (f_allLanes, f_firstLanes, f_oddLanes, f_sevenNodes, nI NI, nI NV, nI D, nI FK, f_tainted, f_echoSome, f_candidateSome, f_bits, f_proposalSome, f_proposalOne, f_strong, f_corrupted, f_valueLanes, f_echoLanes, f_exchangeLanes, f_proposeLanes, f_kingLanes, f_valueLanes ||| f_echoLanes, (f_exchangeLanes ||| f_proposeLanes) ||| f_kingLanes, (f_valueLanes ||| f_echoLanes) ||| ((f_exchangeLanes ||| f_proposeLanes) ||| f_kingLanes), f_kingBits, f_dueSome, f_sum0, f_sum1, f_sum2, f_ledgerHead, f_ledgerSize, a_rounds, a_planes, a_policies, a_dictSet, a_dictSome, a_dictPlanes, a_splitPlanes, a_duePlanes, a_sentSome, a_sentPlanes, a_match, a_ledgerInstance, a_ledgerValue, a_ledgerTainted) (nI NI, nI NV, nI D, nI FK, g_bc, a_rounds, b_tn, b_mem, b_dic, b_pol, b_book, b_msg) := pv_mkR H
  obtain ⟨⟨N1, N2, N3, N4, N5, N6⟩, hk, HM, HD, HC, HT, HLN, HS, HX, HY⟩ := H
  unfold wpX_king wpY_king
  rcases pv_csI v1 (N := NI) (by omega) with ⟨i, hi, rfl⟩ | hb
  · refine xw_biY N2 hi (br_t rfl (xw_kgo (by omega) ?_))
    refine yw_biY N2 hi (br_t rfl (yw_kgo (by omega) ?_))
    exact ⟨rfl, HR⟩
  · exact xw_biN hb (br_f pv_01 (yw_biN hb (br_f pv_01 ⟨rfl, HR⟩)))
theorem i_vc_taintedMask {k : Nat} {u : SX} {v : SY} (I : i_Rel k u v) (hk : k + 5 ≤ 2564) (v1 : Int32) : wpX_taintedMask (fun r => wpY_taintedMask (fun r' => r' = r ∧ i_Rel (k + 5) u v) v v1) u v1 := by
  refine pv_el (P := fun u v => wpX_taintedMask (fun r => wpY_taintedMask (fun r' => r' = r ∧ i_Rel (k + 5) u v) v v1) u v1) ?_ I
  intro NI NV D FK L f_allLanes f_firstLanes f_oddLanes f_sevenNodes f_tainted f_echoSome f_candidateSome f_bits f_proposalSome f_proposalOne f_strong f_corrupted f_valueLanes f_echoLanes f_exchangeLanes f_proposeLanes f_kingLanes f_kingBits f_dueSome f_sum0 f_sum1 f_sum2 f_ledgerHead f_ledgerSize a_rounds a_planes a_policies a_dictSet a_dictSome a_dictPlanes a_splitPlanes a_duePlanes a_sentSome a_sentPlanes a_match a_ledgerInstance a_ledgerValue a_ledgerTainted g_bc b_tn b_mem b_dic b_pol b_book b_msg H
  have HR : i_Rel (k + 5) (f_allLanes, f_firstLanes, f_oddLanes, f_sevenNodes, nI NI, nI NV, nI D, nI FK, f_tainted, f_echoSome, f_candidateSome, f_bits, f_proposalSome, f_proposalOne, f_strong, f_corrupted, f_valueLanes, f_echoLanes, f_exchangeLanes, f_proposeLanes, f_kingLanes, f_valueLanes ||| f_echoLanes, (f_exchangeLanes ||| f_proposeLanes) ||| f_kingLanes, (f_valueLanes ||| f_echoLanes) ||| ((f_exchangeLanes ||| f_proposeLanes) ||| f_kingLanes), f_kingBits, f_dueSome, f_sum0, f_sum1, f_sum2, f_ledgerHead, f_ledgerSize, a_rounds, a_planes, a_policies, a_dictSet, a_dictSome, a_dictPlanes, a_splitPlanes, a_duePlanes, a_sentSome, a_sentPlanes, a_match, a_ledgerInstance, a_ledgerValue, a_ledgerTainted) (nI NI, nI NV, nI D, nI FK, g_bc, a_rounds, b_tn, b_mem, b_dic, b_pol, b_book, b_msg) := pv_mkR H
  obtain ⟨⟨N1, N2, N3, N4, N5, N6⟩, hk, HM, HD, HC, HT, HLN, HS, HX, HY⟩ := H
  unfold wpX_taintedMask wpY_taintedMask
  rcases pv_csI v1 (N := NI) (by omega) with ⟨i, hi, rfl⟩ | hb
  · have hv : vp_in (nI i) 4 := vp_in_nI (by omega) (by decide)
    refine xw_biY N2 hi (br_t rfl (yw_biY N2 hi (br_t rfl ⟨hv, ?_, HR⟩)))
    rw [nI_clamp (by omega : i < 2 ^ 31)]
    exact (HT i hi).1
  · exact xw_biN hb (br_f pv_01 (yw_biN hb (br_f pv_01 ⟨rfl, HR⟩)))
theorem i_vc_ledgerCount {k : Nat} {u : SX} {v : SY} (I : i_Rel k u v) (hk : k + 5 ≤ 2564) : wpX_ledgerCount (fun r => wpY_ledgerCount (fun r' => r' = r ∧ i_Rel (k + 5) u v) v) u := by
  refine pv_el (P := fun u v => wpX_ledgerCount (fun r => wpY_ledgerCount (fun r' => r' = r ∧ i_Rel (k + 5) u v) v) u) ?_ I
  intro NI NV D FK L f_allLanes f_firstLanes f_oddLanes f_sevenNodes f_tainted f_echoSome f_candidateSome f_bits f_proposalSome f_proposalOne f_strong f_corrupted f_valueLanes f_echoLanes f_exchangeLanes f_proposeLanes f_kingLanes f_kingBits f_dueSome f_sum0 f_sum1 f_sum2 f_ledgerHead f_ledgerSize a_rounds a_planes a_policies a_dictSet a_dictSome a_dictPlanes a_splitPlanes a_duePlanes a_sentSome a_sentPlanes a_match a_ledgerInstance a_ledgerValue a_ledgerTainted g_bc b_tn b_mem b_dic b_pol b_book b_msg H
  have HR : i_Rel (k + 5) (f_allLanes, f_firstLanes, f_oddLanes, f_sevenNodes, nI NI, nI NV, nI D, nI FK, f_tainted, f_echoSome, f_candidateSome, f_bits, f_proposalSome, f_proposalOne, f_strong, f_corrupted, f_valueLanes, f_echoLanes, f_exchangeLanes, f_proposeLanes, f_kingLanes, f_valueLanes ||| f_echoLanes, (f_exchangeLanes ||| f_proposeLanes) ||| f_kingLanes, (f_valueLanes ||| f_echoLanes) ||| ((f_exchangeLanes ||| f_proposeLanes) ||| f_kingLanes), f_kingBits, f_dueSome, f_sum0, f_sum1, f_sum2, f_ledgerHead, f_ledgerSize, a_rounds, a_planes, a_policies, a_dictSet, a_dictSome, a_dictPlanes, a_splitPlanes, a_duePlanes, a_sentSome, a_sentPlanes, a_match, a_ledgerInstance, a_ledgerValue, a_ledgerTainted) (nI NI, nI NV, nI D, nI FK, g_bc, a_rounds, b_tn, b_mem, b_dic, b_pol, b_book, b_msg) := pv_mkR H
  obtain ⟨⟨N1, N2, N3, N4, N5, N6⟩, hk, HM, HD, HC, HT, HLN, HS, HX, HY⟩ := H
  obtain ⟨h, h16, e1, hc, e2, Hk⟩ := HX
  obtain ⟨_, e3, _⟩ := HY
  exact ⟨e3.trans e2.symm, HR⟩
theorem i_vc_ledger {k : Nat} {u : SX} {v : SY} (I : i_Rel k u v) (hk : k + 5 ≤ 2564) (v1 : Int32) (v2 : Int32) : wpX_ledger (fun r => wpY_ledger (fun r' => r' = r ∧ i_Rel (k + 5) u v) v v1 v2) u v1 v2 := by
  refine pv_el (P := fun u v => wpX_ledger (fun r => wpY_ledger (fun r' => r' = r ∧ i_Rel (k + 5) u v) v v1 v2) u v1 v2) ?_ I
  intro NI NV D FK L f_allLanes f_firstLanes f_oddLanes f_sevenNodes f_tainted f_echoSome f_candidateSome f_bits f_proposalSome f_proposalOne f_strong f_corrupted f_valueLanes f_echoLanes f_exchangeLanes f_proposeLanes f_kingLanes f_kingBits f_dueSome f_sum0 f_sum1 f_sum2 f_ledgerHead f_ledgerSize a_rounds a_planes a_policies a_dictSet a_dictSome a_dictPlanes a_splitPlanes a_duePlanes a_sentSome a_sentPlanes a_match a_ledgerInstance a_ledgerValue a_ledgerTainted g_bc b_tn b_mem b_dic b_pol b_book b_msg H
  have HR : i_Rel (k + 5) (f_allLanes, f_firstLanes, f_oddLanes, f_sevenNodes, nI NI, nI NV, nI D, nI FK, f_tainted, f_echoSome, f_candidateSome, f_bits, f_proposalSome, f_proposalOne, f_strong, f_corrupted, f_valueLanes, f_echoLanes, f_exchangeLanes, f_proposeLanes, f_kingLanes, f_valueLanes ||| f_echoLanes, (f_exchangeLanes ||| f_proposeLanes) ||| f_kingLanes, (f_valueLanes ||| f_echoLanes) ||| ((f_exchangeLanes ||| f_proposeLanes) ||| f_kingLanes), f_kingBits, f_dueSome, f_sum0, f_sum1, f_sum2, f_ledgerHead, f_ledgerSize, a_rounds, a_planes, a_policies, a_dictSet, a_dictSome, a_dictPlanes, a_splitPlanes, a_duePlanes, a_sentSome, a_sentPlanes, a_match, a_ledgerInstance, a_ledgerValue, a_ledgerTainted) (nI NI, nI NV, nI D, nI FK, g_bc, a_rounds, b_tn, b_mem, b_dic, b_pol, b_book, b_msg) := pv_mkR H
  obtain ⟨⟨N1, N2, N3, N4, N5, N6⟩, hk, HM, HD, HC, HT, HLN, HS, HX, HY⟩ := H
  obtain ⟨h, h16, e1, hc, e2, Hk⟩ := HX
  obtain ⟨_, e3, Hb⟩ := HY
  subst e1 e2 e3
  rcases pv_csI v1 (N := L.1) (by omega) with ⟨j, hj, rfl⟩ | hb
  · have p0 : ¬ nI j < 0 := nI_pos (by omega)
    have p1 : nI j < nI L.1 := nI_lt hj (by omega)
    have hm : (h + j) % 16 < 16 := Nat.mod_lt _ (by decide)
    obtain ⟨b0, b1, b2⟩ := Hb j hj
    obtain ⟨x0, x1, x2⟩ := Hk j hj
    have q0 : nI j * 3 + nI 0 = nI (j * 3) := by show nI j * nI 3 + nI 0 = _; rw [pk_mul, nI_add]; rfl
    have q1 : nI j * 3 + nI 1 = nI (j * 3 + 1) := by show nI j * nI 3 + nI 1 = _; rw [pk_mul, nI_add]
    have q2 : nI j * 3 + nI 2 = nI (j * 3 + 2) := by show nI j * nI 3 + nI 2 = _; rw [pk_mul, nI_add]
    refine br_f p0 (br_t p1 ?_)
    intro x3 ex
    rw [nI_add, pv_and15 _ (by omega)] at ex
    subst ex
    have hv : vp_in (nI ((h + j) % 16)) 16 := vp_in_nI hm (by decide)
    have hcl : (nI ((h + j) % 16)).toNatClampNeg = (h + j) % 16 := nI_clamp (by omega)
    rcases pv_csI v2 (N := 3) (by decide) with ⟨f, hf, rfl⟩ | hf
    · have f3 : f = 0 ∨ f = 1 ∨ f = 2 := by omega
      rcases f3 with rfl | rfl | rfl
      · refine br_t (by decide) ⟨hv, br_f p0 (br_t p1 (br_f (by decide) (br_t (by decide) ⟨?_, ?_, HR⟩)))⟩
        · rw [q0]; exact vp_in_nI (by omega) (by decide)
        · rw [q0, nI_clamp (by omega), hcl]; exact b0.trans x0.symm
      · refine br_f (by decide) (br_t (by decide) ⟨hv, br_f p0 (br_t p1 (br_f (by decide) (br_t (by decide) ⟨?_, ?_, HR⟩)))⟩)
        · rw [q1]; exact vp_in_nI (by omega) (by decide)
        · rw [q1, nI_clamp (by omega), hcl]; exact b1.trans x1.symm
      · refine br_f (by decide) (br_f (by decide) (br_t (by decide) ⟨hv, br_f p0 (br_t p1 (br_f (by decide) (br_t (by decide) ⟨?_, ?_, HR⟩)))⟩))
        · rw [q2]; exact vp_in_nI (by omega) (by decide)
        · rw [q2, nI_clamp (by omega), hcl]; exact b2.trans x2.symm
    · have g (m : Nat) (hm3 : m < 3) : ¬ v2 = nI m := by
        rcases hf with z | ⟨z, y⟩
        · intro e; rw [e] at z; exact nI_pos (by omega) z
        · intro e; rw [e] at y; exact y (nI_lt hm3 (by decide))
      refine br_f (g 0 (by decide)) (br_f (g 1 (by decide)) (br_f (g 2 (by decide)) (br_f p0 (br_t p1 ?_))))
      rcases hf with z | ⟨z, y⟩
      · exact br_t z ⟨rfl, HR⟩
      · refine br_f z (br_f ?_ ⟨rfl, HR⟩)
        obtain ⟨m, hm2, rfl⟩ := nI_of z
        intro c
        have c' := (nI_leI (b := 2) hm2 (by decide)).mp c
        exact g m (by omega) rfl
  · rcases hb with z | ⟨z, y⟩
    · exact br_t z (br_t z ⟨rfl, HR⟩)
    · exact br_f z (br_f y (br_f z (br_f y ⟨rfl, HR⟩)))
theorem i_vc_policy {k : Nat} {u : SX} {v : SY} (I : i_Rel k u v) (hk : k + 5 ≤ 2564) (v1 : Int32) : wpX_policy (fun r => wpY_policy (fun r' => r' = r ∧ i_Rel (k + 5) u v) v v1) u v1 := by
  refine pv_el (P := fun u v => wpX_policy (fun r => wpY_policy (fun r' => r' = r ∧ i_Rel (k + 5) u v) v v1) u v1) ?_ I
  intro NI NV D FK L f_allLanes f_firstLanes f_oddLanes f_sevenNodes f_tainted f_echoSome f_candidateSome f_bits f_proposalSome f_proposalOne f_strong f_corrupted f_valueLanes f_echoLanes f_exchangeLanes f_proposeLanes f_kingLanes f_kingBits f_dueSome f_sum0 f_sum1 f_sum2 f_ledgerHead f_ledgerSize a_rounds a_planes a_policies a_dictSet a_dictSome a_dictPlanes a_splitPlanes a_duePlanes a_sentSome a_sentPlanes a_match a_ledgerInstance a_ledgerValue a_ledgerTainted g_bc b_tn b_mem b_dic b_pol b_book b_msg H
  have HR : i_Rel (k + 5) (f_allLanes, f_firstLanes, f_oddLanes, f_sevenNodes, nI NI, nI NV, nI D, nI FK, f_tainted, f_echoSome, f_candidateSome, f_bits, f_proposalSome, f_proposalOne, f_strong, f_corrupted, f_valueLanes, f_echoLanes, f_exchangeLanes, f_proposeLanes, f_kingLanes, f_valueLanes ||| f_echoLanes, (f_exchangeLanes ||| f_proposeLanes) ||| f_kingLanes, (f_valueLanes ||| f_echoLanes) ||| ((f_exchangeLanes ||| f_proposeLanes) ||| f_kingLanes), f_kingBits, f_dueSome, f_sum0, f_sum1, f_sum2, f_ledgerHead, f_ledgerSize, a_rounds, a_planes, a_policies, a_dictSet, a_dictSome, a_dictPlanes, a_splitPlanes, a_duePlanes, a_sentSome, a_sentPlanes, a_match, a_ledgerInstance, a_ledgerValue, a_ledgerTainted) (nI NI, nI NV, nI D, nI FK, g_bc, a_rounds, b_tn, b_mem, b_dic, b_pol, b_book, b_msg) := pv_mkR H
  obtain ⟨⟨N1, N2, N3, N4, N5, N6⟩, hk, HM, HD, ⟨C1, C2, C3, C4⟩, HT, HLN, HS, HX, HY⟩ := H
  unfold wpX_policy wpY_policy
  rcases pv_csN v1 with ⟨n, hn, rfl⟩ | hb
  · have hv : vp_in (nI n) 7 := vp_in_nI hn (by decide)
    have hc : (nI n).toNatClampNeg = n := nI_clamp (by omega)
    have c1 := C1 n hn
    refine xw_bnY hn (br_t rfl (xw_cor hn (fun z => br_f pv_01 ⟨hv, yw_bnY hn (br_t rfl ⟨hv, ?_⟩)⟩) (fun z => br_t rfl (yw_bnY hn (br_t rfl ⟨hv, ?_⟩)))))
    · have hy : ¬ b_pol n = -1 := fun e => by rw [z, decide_eq_true e] at c1; exact absurd c1 (by decide)
      rw [hc]
      exact br_f hy ⟨hv, (C3 n hn hy).symm, HR⟩
    · have hy : b_pol n = -1 := Classical.byContradiction (fun e => by rw [z, decide_eq_false e] at c1; exact absurd c1 (by decide))
      rw [hc]
      exact br_t hy ⟨rfl, HR⟩
  · exact xw_bnN hb (br_f pv_01 (yw_bnN hb (br_f pv_01 ⟨rfl, HR⟩)))
theorem i_vc_held {k : Nat} {u : SX} {v : SY} (I : i_Rel k u v) (hk : k + 5 ≤ 2564) (v1 : Int32) (v2 : Int32) : wpX_held (fun r => wpY_held (fun r' => r' = r ∧ i_Rel (k + 5) u v) v v1 v2) u v1 v2 := by
  refine pv_el (P := fun u v => wpX_held (fun r => wpY_held (fun r' => r' = r ∧ i_Rel (k + 5) u v) v v1 v2) u v1 v2) ?_ I
  intro NI NV D FK L f_allLanes f_firstLanes f_oddLanes f_sevenNodes f_tainted f_echoSome f_candidateSome f_bits f_proposalSome f_proposalOne f_strong f_corrupted f_valueLanes f_echoLanes f_exchangeLanes f_proposeLanes f_kingLanes f_kingBits f_dueSome f_sum0 f_sum1 f_sum2 f_ledgerHead f_ledgerSize a_rounds a_planes a_policies a_dictSet a_dictSome a_dictPlanes a_splitPlanes a_duePlanes a_sentSome a_sentPlanes a_match a_ledgerInstance a_ledgerValue a_ledgerTainted g_bc b_tn b_mem b_dic b_pol b_book b_msg H
  have HR : i_Rel (k + 5) (f_allLanes, f_firstLanes, f_oddLanes, f_sevenNodes, nI NI, nI NV, nI D, nI FK, f_tainted, f_echoSome, f_candidateSome, f_bits, f_proposalSome, f_proposalOne, f_strong, f_corrupted, f_valueLanes, f_echoLanes, f_exchangeLanes, f_proposeLanes, f_kingLanes, f_valueLanes ||| f_echoLanes, (f_exchangeLanes ||| f_proposeLanes) ||| f_kingLanes, (f_valueLanes ||| f_echoLanes) ||| ((f_exchangeLanes ||| f_proposeLanes) ||| f_kingLanes), f_kingBits, f_dueSome, f_sum0, f_sum1, f_sum2, f_ledgerHead, f_ledgerSize, a_rounds, a_planes, a_policies, a_dictSet, a_dictSome, a_dictPlanes, a_splitPlanes, a_duePlanes, a_sentSome, a_sentPlanes, a_match, a_ledgerInstance, a_ledgerValue, a_ledgerTainted) (nI NI, nI NV, nI D, nI FK, g_bc, a_rounds, b_tn, b_mem, b_dic, b_pol, b_book, b_msg) := pv_mkR H
  obtain ⟨⟨N1, N2, N3, N4, N5, N6⟩, hk, HM, HD, HC, HT, HLN, HS, HX, HY⟩ := H
  unfold wpX_held wpY_held
  rcases pv_csI v1 (N := NI) (by omega) with ⟨i, hi, rfl⟩ | hb
  · have hv : vp_in (nI i) 4 := vp_in_nI (by omega) (by decide)
    have hc : (nI i).toNatClampNeg = i := nI_clamp (by omega)
    have i4 : i < 4 := by omega
    rcases pv_csN v2 with ⟨n, hn, rfl⟩ | hb
    · refine xw_biY N2 hi (br_t rfl (xw_bnY hn (br_t rfl ⟨hv, ?_⟩)))
      rw [hc]
      refine br_c (fun z => ?_) (fun z => ?_)
      · rw [pv_8]
        refine xw_hx (by omega) ?_
        refine yw_biY N2 hi (br_t rfl (yw_bnY hn (br_t rfl (yw_hb i4 (hk i i4) (fun y => br_f pv_01 (yw_hy i4 hn ⟨pv_held hn y (HM i hi), HR⟩)) (fun y => ?_)))))
        exact absurd y (Int32.not_lt.mpr z)
      · refine yw_biY N2 hi (br_t rfl (yw_bnY hn (br_t rfl (yw_hb i4 (hk i i4) (fun y => ?_) (fun y => br_t rfl ⟨rfl, HR⟩)))))
        exact absurd (Int32.not_lt.mp y) z
    · exact xw_biY N2 hi (br_t rfl (xw_bnN hb (br_f pv_01 (yw_biY N2 hi (br_t rfl (yw_bnN hb (br_f pv_01 ⟨rfl, HR⟩)))))))
  · exact xw_biN hb (br_f pv_01 (yw_biN hb (br_f pv_01 ⟨rfl, HR⟩)))
theorem i_vc_dictated {k : Nat} {u : SX} {v : SY} (I : i_Rel k u v) (hk : k + 5 ≤ 2564) (v1 : Int32) (v2 : Int32) (v3 : Int32) : wpX_dictated (fun r => wpY_dictated (fun r' => r' = r ∧ i_Rel (k + 5) u v) v v1 v2 v3) u v1 v2 v3 := by
  refine pv_el (P := fun u v => wpX_dictated (fun r => wpY_dictated (fun r' => r' = r ∧ i_Rel (k + 5) u v) v v1 v2 v3) u v1 v2 v3) ?_ I
  intro NI NV D FK L f_allLanes f_firstLanes f_oddLanes f_sevenNodes f_tainted f_echoSome f_candidateSome f_bits f_proposalSome f_proposalOne f_strong f_corrupted f_valueLanes f_echoLanes f_exchangeLanes f_proposeLanes f_kingLanes f_kingBits f_dueSome f_sum0 f_sum1 f_sum2 f_ledgerHead f_ledgerSize a_rounds a_planes a_policies a_dictSet a_dictSome a_dictPlanes a_splitPlanes a_duePlanes a_sentSome a_sentPlanes a_match a_ledgerInstance a_ledgerValue a_ledgerTainted g_bc b_tn b_mem b_dic b_pol b_book b_msg H
  have HR : i_Rel (k + 5) (f_allLanes, f_firstLanes, f_oddLanes, f_sevenNodes, nI NI, nI NV, nI D, nI FK, f_tainted, f_echoSome, f_candidateSome, f_bits, f_proposalSome, f_proposalOne, f_strong, f_corrupted, f_valueLanes, f_echoLanes, f_exchangeLanes, f_proposeLanes, f_kingLanes, f_valueLanes ||| f_echoLanes, (f_exchangeLanes ||| f_proposeLanes) ||| f_kingLanes, (f_valueLanes ||| f_echoLanes) ||| ((f_exchangeLanes ||| f_proposeLanes) ||| f_kingLanes), f_kingBits, f_dueSome, f_sum0, f_sum1, f_sum2, f_ledgerHead, f_ledgerSize, a_rounds, a_planes, a_policies, a_dictSet, a_dictSome, a_dictPlanes, a_splitPlanes, a_duePlanes, a_sentSome, a_sentPlanes, a_match, a_ledgerInstance, a_ledgerValue, a_ledgerTainted) (nI NI, nI NV, nI D, nI FK, g_bc, a_rounds, b_tn, b_mem, b_dic, b_pol, b_book, b_msg) := pv_mkR H
  obtain ⟨⟨N1, N2, N3, N4, N5, N6⟩, hk, HM, HD, HC, HT, HLN, HS, HX, HY⟩ := H
  unfold wpX_dictated wpY_dictated
  rcases pv_csI v1 (N := NI) (by omega) with ⟨i, hi, rfl⟩ | hb
  · have i4 : i < 4 := by omega
    rcases pv_csN v2 with ⟨f, hf, rfl⟩ | hb
    · rcases pv_csN v3 with ⟨n, hn, rfl⟩ | hb
      · have hvf : vp_in (nI f) 7 := vp_in_nI hf (by decide)
        have hcf : (nI f).toNatClampNeg = f := nI_clamp (by omega)
        have hl : 8 * i + n < 32 := by omega
        obtain ⟨d1, _⟩ := HD i hi f hf n hn
        refine xw_biY N2 hi (br_t rfl (xw_bnY hf (br_t rfl (xw_bnY hn (br_t rfl (xw_run i4 (hk i i4) (fun hr => br_f pv_01 ?_) (fun hr => br_t rfl ?_)))))))
        · have Y (r : Int32) (e : b_dic (pv_dx i f n) = r) : wpY_badInstance (fun r_1 => (((r_1 = 0 → (wpY_badNode (fun r_15 => (((r_15 = 0 → (wpY_badNode (fun r_29 => (((r_29 = 0 → (wpY_running (fun r_43 => (((r_43 = 0 → ((-14) = r ∧ i_Rel (k + 5) (f_allLanes, f_firstLanes, f_oddLanes, f_sevenNodes, nI NI, nI NV, nI D, nI FK, f_tainted, f_echoSome, f_candidateSome, f_bits, f_proposalSome, f_proposalOne, f_strong, f_corrupted, f_valueLanes, f_echoLanes, f_exchangeLanes, f_proposeLanes, f_kingLanes, f_valueLanes ||| f_echoLanes, (f_exchangeLanes ||| f_proposeLanes) ||| f_kingLanes, (f_valueLanes ||| f_echoLanes) ||| ((f_exchangeLanes ||| f_proposeLanes) ||| f_kingLanes), f_kingBits, f_dueSome, f_sum0, f_sum1, f_sum2, f_ledgerHead, f_ledgerSize, a_rounds, a_planes, a_policies, a_dictSet, a_dictSome, a_dictPlanes, a_splitPlanes, a_duePlanes, a_sentSome, a_sentPlanes, a_match, a_ledgerInstance, a_ledgerValue, a_ledgerTainted) (nI NI, nI NV, nI D, nI FK, g_bc, a_rounds, b_tn, b_mem, b_dic, b_pol, b_book, b_msg))) ∧ (¬ r_43 = 0 → (vp_in ((((nI i * 7) + nI f) * 7) + nI n) 196 ∧ (b_dic ((((nI i * 7) + nI f) * 7) + nI n).toNatClampNeg = r ∧ i_Rel (k + 5) (f_allLanes, f_firstLanes, f_oddLanes, f_sevenNodes, nI NI, nI NV, nI D, nI FK, f_tainted, f_echoSome, f_candidateSome, f_bits, f_proposalSome, f_proposalOne, f_strong, f_corrupted, f_valueLanes, f_echoLanes, f_exchangeLanes, f_proposeLanes, f_kingLanes, f_valueLanes ||| f_echoLanes, (f_exchangeLanes ||| f_proposeLanes) ||| f_kingLanes, (f_valueLanes ||| f_echoLanes) ||| ((f_exchangeLanes ||| f_proposeLanes) ||| f_kingLanes), f_kingBits, f_dueSome, f_sum0, f_sum1, f_sum2, f_ledgerHead, f_ledgerSize, a_rounds, a_planes, a_policies, a_dictSet, a_dictSome, a_dictPlanes, a_splitPlanes, a_duePlanes, a_sentSome, a_sentPlanes, a_match, a_ledgerInstance, a_ledgerValue, a_ledgerTainted) (nI NI, nI NV, nI D, nI FK, g_bc, a_rounds, b_tn, b_mem, b_dic, b_pol, b_book, b_msg))))))) (nI NI, nI NV, nI D, nI FK, g_bc, a_rounds, b_tn, b_mem, b_dic, b_pol, b_book, b_msg) (nI i))) ∧ (¬ r_29 = 0 → ((-11) = r ∧ i_Rel (k + 5) (f_allLanes, f_firstLanes, f_oddLanes, f_sevenNodes, nI NI, nI NV, nI D, nI FK, f_tainted, f_echoSome, f_candidateSome, f_bits, f_proposalSome, f_proposalOne, f_strong, f_corrupted, f_valueLanes, f_echoLanes, f_exchangeLanes, f_proposeLanes, f_kingLanes, f_valueLanes ||| f_echoLanes, (f_exchangeLanes ||| f_proposeLanes) ||| f_kingLanes, (f_valueLanes ||| f_echoLanes) ||| ((f_exchangeLanes ||| f_proposeLanes) ||| f_kingLanes), f_kingBits, f_dueSome, f_sum0, f_sum1, f_sum2, f_ledgerHead, f_ledgerSize, a_rounds, a_planes, a_policies, a_dictSet, a_dictSome, a_dictPlanes, a_splitPlanes, a_duePlanes, a_sentSome, a_sentPlanes, a_match, a_ledgerInstance, a_ledgerValue, a_ledgerTainted) (nI NI, nI NV, nI D, nI FK, g_bc, a_rounds, b_tn, b_mem, b_dic, b_pol, b_book, b_msg)))))) (nI NI, nI NV, nI D, nI FK, g_bc, a_rounds, b_tn, b_mem, b_dic, b_pol, b_book, b_msg) (nI n))) ∧ (¬ r_15 = 0 → ((-11) = r ∧ i_Rel (k + 5) (f_allLanes, f_firstLanes, f_oddLanes, f_sevenNodes, nI NI, nI NV, nI D, nI FK, f_tainted, f_echoSome, f_candidateSome, f_bits, f_proposalSome, f_proposalOne, f_strong, f_corrupted, f_valueLanes, f_echoLanes, f_exchangeLanes, f_proposeLanes, f_kingLanes, f_valueLanes ||| f_echoLanes, (f_exchangeLanes ||| f_proposeLanes) ||| f_kingLanes, (f_valueLanes ||| f_echoLanes) ||| ((f_exchangeLanes ||| f_proposeLanes) ||| f_kingLanes), f_kingBits, f_dueSome, f_sum0, f_sum1, f_sum2, f_ledgerHead, f_ledgerSize, a_rounds, a_planes, a_policies, a_dictSet, a_dictSome, a_dictPlanes, a_splitPlanes, a_duePlanes, a_sentSome, a_sentPlanes, a_match, a_ledgerInstance, a_ledgerValue, a_ledgerTainted) (nI NI, nI NV, nI D, nI FK, g_bc, a_rounds, b_tn, b_mem, b_dic, b_pol, b_book, b_msg)))))) (nI NI, nI NV, nI D, nI FK, g_bc, a_rounds, b_tn, b_mem, b_dic, b_pol, b_book, b_msg) (nI f))) ∧ (¬ r_1 = 0 → ((-10) = r ∧ i_Rel (k + 5) (f_allLanes, f_firstLanes, f_oddLanes, f_sevenNodes, nI NI, nI NV, nI D, nI FK, f_tainted, f_echoSome, f_candidateSome, f_bits, f_proposalSome, f_proposalOne, f_strong, f_corrupted, f_valueLanes, f_echoLanes, f_exchangeLanes, f_proposeLanes, f_kingLanes, f_valueLanes ||| f_echoLanes, (f_exchangeLanes ||| f_proposeLanes) ||| f_kingLanes, (f_valueLanes ||| f_echoLanes) ||| ((f_exchangeLanes ||| f_proposeLanes) ||| f_kingLanes), f_kingBits, f_dueSome, f_sum0, f_sum1, f_sum2, f_ledgerHead, f_ledgerSize, a_rounds, a_planes, a_policies, a_dictSet, a_dictSome, a_dictPlanes, a_splitPlanes, a_duePlanes, a_sentSome, a_sentPlanes, a_match, a_ledgerInstance, a_ledgerValue, a_ledgerTainted) (nI NI, nI NV, nI D, nI FK, g_bc, a_rounds, b_tn, b_mem, b_dic, b_pol, b_book, b_msg)))))) (nI NI, nI NV, nI D, nI FK, g_bc, a_rounds, b_tn, b_mem, b_dic, b_pol, b_book, b_msg) (nI i) := by
            refine yw_biY N2 hi (br_t rfl (yw_bnY hf (br_t rfl (yw_bnY hn (br_t rfl (yw_run i4 (hk i i4) (fun _ => br_f pv_01 ⟨pv_inD i4 hf hn (pv_i77 i f n), ?_, HR⟩) (fun z => ?_)))))))
            · rw [pv_clD i4 hf hn (pv_i77 i f n)]; exact e
            · rw [z] at hr; exact absurd hr (by decide)
          intro x4 e4
          rw [pv_8] at e4
          subst e4
          refine ⟨hvf, ?_⟩
          rw [hcf]
          refine pv_b0 hl (fun z => ?_) (fun z => ⟨hvf, ?_⟩)
          · refine Y (-2) ?_
            rw [d1, z]; rfl
          · refine pv_b0 hl (fun y => ?_) (fun y => ?_)
            · refine Y (-1) ?_
              rw [d1, z, y]; rfl
            · have Z := Y (nI (pv_rd a_dictPlanes (4 * f) (8 * i + n))) (by rw [d1, z, y]; rfl)
              clear Y
              refine pv_l1 (fun n' j s => wX_dictated_88 _ (nI f) (nI (8 * i + n)) f_allLanes f_firstLanes f_oddLanes f_sevenNodes (nI NI) (nI NV) (nI D) (nI FK) f_tainted f_echoSome f_candidateSome f_bits f_proposalSome f_proposalOne f_strong f_corrupted f_valueLanes f_echoLanes f_exchangeLanes f_proposeLanes f_kingLanes (f_valueLanes ||| f_echoLanes) ((f_exchangeLanes ||| f_proposeLanes) ||| f_kingLanes) ((f_valueLanes ||| f_echoLanes) ||| ((f_exchangeLanes ||| f_proposeLanes) ||| f_kingLanes)) f_kingBits f_dueSome f_sum0 f_sum1 f_sum2 f_ledgerHead f_ledgerSize a_rounds a_planes a_policies a_dictSet a_dictSome a_dictPlanes a_splitPlanes a_duePlanes a_sentSome a_sentPlanes a_match a_ledgerInstance a_ledgerValue a_ledgerTainted n' s (nI j)) (fun j s => s = pv_ac a_dictPlanes (4 * f) (8 * i + n) j) 4 0 rfl ?_ ?_
              · intro n' s hs
                subst hs
                refine br_t pv_44 ?_
                rw [pv_ac4]; exact Z
              · intro n' j s hj hs K
                subst hs
                refine br_f (pv_n4 hj) ⟨pv_in4 (by omega) (by decide), fun x e y ey => ?_⟩
                obtain rfl := ey.trans (nI_1 j)
                rw [pv_cl4 (by omega), pv_1 hl] at e
                exact K x e
        · refine yw_biY N2 hi (br_t rfl (yw_bnY hf (br_t rfl (yw_bnY hn (br_t rfl (yw_run i4 (hk i i4) (fun z => ?_) (fun _ => br_t rfl ⟨rfl, HR⟩)))))))
          rw [z] at hr; exact absurd hr (by decide)
      · exact xw_biY N2 hi (br_t rfl (xw_bnY hf (br_t rfl (xw_bnN hb (br_f pv_01 (yw_biY N2 hi (br_t rfl (yw_bnY hf (br_t rfl (yw_bnN hb (br_f pv_01 ⟨rfl, HR⟩)))))))))))
    · exact xw_biY N2 hi (br_t rfl (xw_bnN hb (br_f pv_01 (yw_biY N2 hi (br_t rfl (yw_bnN hb (br_f pv_01 ⟨rfl, HR⟩)))))))
  · exact xw_biN hb (br_f pv_01 (yw_biN hb (br_f pv_01 ⟨rfl, HR⟩)))
end
section
/-! message and tally -/
theorem pv_okc {c : Int32} {m : Nat} (hm : m ≤ 16) (h1 : ¬ c < -1) (h2 : c < nI m) : pv_ok c := by
  by_cases z : c < 0
  · left
    rw [Int32.lt_iff_toInt_lt] at h1 z
    have e1 : (-1 : Int32).toInt = -1 := by decide
    have e0 : (0 : Int32).toInt = 0 := by decide
    apply Int32.toInt_inj.mp
    omega
  · obtain ⟨j, hj, rfl⟩ := nI_of z
    exact Or.inr ⟨j, by have := (nI_ltI hj (by omega)).mp h2; omega, rfl⟩
theorem pv_szo_le {NV : Nat} {x : Int32} (hV : 2 ≤ NV) (hV2 : NV ≤ 16) : ∃ m, m ≤ 16 ∧ 2 ≤ m ∧ pv_szo NV x = nI m := by
  unfold pv_szo
  split
  · exact ⟨2, by decide, by decide, rfl⟩
  · exact ⟨NV, hV2, hV, rfl⟩
theorem pv_sum3 : ∀ a b c : Bool, ((if a then (1 : Int32) else 0) + (2 * (if b then (1 : Int32) else 0))) + (4 * (if c then (1 : Int32) else 0)) = nI (a.toNat + 2 * b.toNat + 4 * c.toNat) := by decide +kernel
theorem i_vc_message {k : Nat} {u : SX} {v : SY} (I : i_Rel k u v) (hk : k + 5 ≤ 2564) (v1 : Int32) (v2 : Int32) (v3 : Int32) : wpX_message (fun r u' => wpY_message (fun r' => r' = r ∧ i_Rel (k + 5) u' v) v v1 v2 v3) u v1 v2 v3 := by
  refine pv_el (P := fun u v => wpX_message (fun r u' => wpY_message (fun r' => r' = r ∧ i_Rel (k + 5) u' v) v v1 v2 v3) u v1 v2 v3) ?_ I
  intro NI NV D FK L f_allLanes f_firstLanes f_oddLanes f_sevenNodes f_tainted f_echoSome f_candidateSome f_bits f_proposalSome f_proposalOne f_strong f_corrupted f_valueLanes f_echoLanes f_exchangeLanes f_proposeLanes f_kingLanes f_kingBits f_dueSome f_sum0 f_sum1 f_sum2 f_ledgerHead f_ledgerSize a_rounds a_planes a_policies a_dictSet a_dictSome a_dictPlanes a_splitPlanes a_duePlanes a_sentSome a_sentPlanes a_match a_ledgerInstance a_ledgerValue a_ledgerTainted g_bc b_tn b_mem b_dic b_pol b_book b_msg H
  have HR : i_Rel (k + 5) (f_allLanes, f_firstLanes, f_oddLanes, f_sevenNodes, nI NI, nI NV, nI D, nI FK, f_tainted, f_echoSome, f_candidateSome, f_bits, f_proposalSome, f_proposalOne, f_strong, f_corrupted, f_valueLanes, f_echoLanes, f_exchangeLanes, f_proposeLanes, f_kingLanes, f_valueLanes ||| f_echoLanes, (f_exchangeLanes ||| f_proposeLanes) ||| f_kingLanes, (f_valueLanes ||| f_echoLanes) ||| ((f_exchangeLanes ||| f_proposeLanes) ||| f_kingLanes), f_kingBits, f_dueSome, f_sum0, f_sum1, f_sum2, f_ledgerHead, f_ledgerSize, a_rounds, a_planes, a_policies, a_dictSet, a_dictSome, a_dictPlanes, a_splitPlanes, a_duePlanes, a_sentSome, a_sentPlanes, a_match, a_ledgerInstance, a_ledgerValue, a_ledgerTainted) (nI NI, nI NV, nI D, nI FK, g_bc, a_rounds, b_tn, b_mem, b_dic, b_pol, b_book, b_msg) := pv_mkR H
  have H0 := H
  obtain ⟨⟨N1, N2, N3, N4, N5, N6⟩, hk, HM, HD, HC, HT, HLN, HS, HX, HY⟩ := H
  unfold wpX_message wpY_message
  rcases pv_csI v1 (N := NI) (by omega) with ⟨i, hi, rfl⟩ | hb
  · have i4 : i < 4 := by omega
    rcases pv_csN v2 with ⟨f, hf, rfl⟩ | hb
    · rcases pv_csN v3 with ⟨n, hn, rfl⟩ | hb
      · have hvf : vp_in (nI f) 7 := vp_in_nI hf (by decide)
        have hcf : (nI f).toNatClampNeg = f := nI_clamp (by omega)
        have hl : 8 * i + n < 32 := by omega
        refine xw_biY N2 hi (br_t rfl (xw_bnY hf (br_t rfl (xw_bnY hn (br_t rfl (xw_run i4 (hk i i4) (fun hr => br_f pv_01 ?_) (fun hr => br_t rfl ?_)))))))
        · obtain ⟨R, hR, eR⟩ := pv_ir_t (hk i i4) hr
          refine xw_fd ?_
          refine xw_ff hf N3 N4 ?_
          intro ss sp HF
          have HQ := pv_msgM (a := a_duePlanes) (ss := ss) (sp := sp) HLN hi N2 N6 N3 N4 eR hR hf hn (HM i hi) (HD i hi) HC (HS i i4 n hn) (HF.2.2 i i4 n hn).1 (HF.2.2 i i4 n hn).2
          have Y (u' : SX) (hu : i_Rel (k + 5) u' (nI NI, nI NV, nI D, nI FK, g_bc, a_rounds, b_tn, b_mem, b_dic, b_pol, b_book, b_msg)) (r : Int32) (e : r = pv_M ss sp f (8 * i + n)) : wpY_badInstance (fun r_1 => (((r_1 = 0 → (wpY_badNode (fun r_15 => (((r_15 = 0 → (wpY_badNode (fun r_29 => (((r_29 = 0 → (wpY_running (fun r_43 => (((r_43 = 0 → ((-14) = r ∧ i_Rel (k + 5) u' (nI NI, nI NV, nI D, nI FK, g_bc, a_rounds, b_tn, b_mem, b_dic, b_pol, b_book, b_msg))) ∧ (¬ r_43 = 0 → (wpY_sent (fun r_57 => (r_57 = r ∧ i_Rel (k + 5) u' (nI NI, nI NV, nI D, nI FK, g_bc, a_rounds, b_tn, b_mem, b_dic, b_pol, b_book, b_msg))) (nI NI, nI NV, nI D, nI FK, g_bc, a_rounds, b_tn, b_mem, b_dic, b_pol, b_book, b_msg) (nI i) (nI f) (nI n)))))) (nI NI, nI NV, nI D, nI FK, g_bc, a_rounds, b_tn, b_mem, b_dic, b_pol, b_book, b_msg) (nI i))) ∧ (¬ r_29 = 0 → ((-11) = r ∧ i_Rel (k + 5) u' (nI NI, nI NV, nI D, nI FK, g_bc, a_rounds, b_tn, b_mem, b_dic, b_pol, b_book, b_msg)))))) (nI NI, nI NV, nI D, nI FK, g_bc, a_rounds, b_tn, b_mem, b_dic, b_pol, b_book, b_msg) (nI n))) ∧ (¬ r_15 = 0 → ((-11) = r ∧ i_Rel (k + 5) u' (nI NI, nI NV, nI D, nI FK, g_bc, a_rounds, b_tn, b_mem, b_dic, b_pol, b_book, b_msg)))))) (nI NI, nI NV, nI D, nI FK, g_bc, a_rounds, b_tn, b_mem, b_dic, b_pol, b_book, b_msg) (nI f))) ∧ (¬ r_1 = 0 → ((-10) = r ∧ i_Rel (k + 5) u' (nI NI, nI NV, nI D, nI FK, g_bc, a_rounds, b_tn, b_mem, b_dic, b_pol, b_book, b_msg)))))) (nI NI, nI NV, nI D, nI FK, g_bc, a_rounds, b_tn, b_mem, b_dic, b_pol, b_book, b_msg) (nI i) := by
            refine yw_biY N2 hi (br_t rfl (yw_bnY hf (br_t rfl (yw_bnY hn (br_t rfl (yw_run i4 (hk i i4) (fun _ => br_f pv_01 (yw_snt i4 hf hn N6 N3 N4 eR hR ⟨?_, hu⟩)) (fun z => ?_)))))))
            · exact HQ.1.symm.trans e.symm
            · rw [z] at hr; exact absurd hr (by decide)
          intro x4 e4
          rw [pv_8] at e4
          subst e4
          refine ⟨hvf, ?_⟩
          rw [hcf]
          refine pv_b0 hl (fun z => ?_) (fun z => ?_)
          · refine Y _ (pv_mkR H0) (-1) ?_
            unfold pv_M
            rw [z]; rfl
          · have Z := Y (f_allLanes, f_firstLanes, f_oddLanes, f_sevenNodes, nI NI, nI NV, nI D, nI FK, f_tainted, f_echoSome, f_candidateSome, f_bits, f_proposalSome, f_proposalOne, f_strong, f_corrupted, f_valueLanes, f_echoLanes, f_exchangeLanes, f_proposeLanes, f_kingLanes, f_valueLanes ||| f_echoLanes, (f_exchangeLanes ||| f_proposeLanes) ||| f_kingLanes, (f_valueLanes ||| f_echoLanes) ||| ((f_exchangeLanes ||| f_proposeLanes) ||| f_kingLanes), f_kingBits, pv_ds f_valueLanes f_echoLanes f_echoSome f_exchangeLanes f_kingBits f_proposalSome f_proposeLanes, f_sum0, f_sum1, f_sum2, f_ledgerHead, f_ledgerSize, a_rounds, a_planes, a_policies, a_dictSet, a_dictSome, a_dictPlanes, a_splitPlanes, pv_dp a_planes a_duePlanes f_valueLanes f_echoLanes f_exchangeLanes f_kingBits f_proposeLanes f_bits f_proposalOne, ss, sp, a_match, a_ledgerInstance, a_ledgerValue, a_ledgerTainted) (pv_mkR H0) (nI (pv_rd sp (4 * f) (8 * i + n))) (by unfold pv_M; rw [z]; rfl)
            clear Y
            refine pv_l1 (fun n' j s => wX_message_80 _ (nI f) (nI (8 * i + n)) f_allLanes f_firstLanes f_oddLanes f_sevenNodes (nI NI) (nI NV) (nI D) (nI FK) f_tainted f_echoSome f_candidateSome f_bits f_proposalSome f_proposalOne f_strong f_corrupted f_valueLanes f_echoLanes f_exchangeLanes f_proposeLanes f_kingLanes (f_valueLanes ||| f_echoLanes) ((f_exchangeLanes ||| f_proposeLanes) ||| f_kingLanes) ((f_valueLanes ||| f_echoLanes) ||| ((f_exchangeLanes ||| f_proposeLanes) ||| f_kingLanes)) f_kingBits (pv_ds f_valueLanes f_echoLanes f_echoSome f_exchangeLanes f_kingBits f_proposalSome f_proposeLanes) f_sum0 f_sum1 f_sum2 f_ledgerHead f_ledgerSize a_rounds a_planes a_policies a_dictSet a_dictSome a_dictPlanes a_splitPlanes (pv_dp a_planes a_duePlanes f_valueLanes f_echoLanes f_exchangeLanes f_kingBits f_proposeLanes f_bits f_proposalOne) ss sp a_match a_ledgerInstance a_ledgerValue a_ledgerTainted n' s (nI j)) (fun j s => s = pv_ac sp (4 * f) (8 * i + n) j) 4 0 rfl ?_ ?_
            · intro n' s hs
              subst hs
              refine br_t pv_44 ?_
              rw [pv_ac4]; exact Z
            · intro n' j s hj hs K
              subst hs
              refine br_f (pv_n4 hj) ⟨pv_in4 (by omega) (by decide), fun x e y ey => ?_⟩
              obtain rfl := ey.trans (nI_1 j)
              rw [pv_cl4 (by omega), pv_1 hl] at e
              exact K x e
        · refine yw_biY N2 hi (br_t rfl (yw_bnY hf (br_t rfl (yw_bnY hn (br_t rfl (yw_run i4 (hk i i4) (fun z => ?_) (fun _ => br_t rfl ⟨rfl, HR⟩)))))))
          rw [z] at hr; exact absurd hr (by decide)
      · exact xw_biY N2 hi (br_t rfl (xw_bnY hf (br_t rfl (xw_bnN hb (br_f pv_01 (yw_biY N2 hi (br_t rfl (yw_bnY hf (br_t rfl (yw_bnN hb (br_f pv_01 ⟨rfl, HR⟩)))))))))))
    · exact xw_biY N2 hi (br_t rfl (xw_bnN hb (br_f pv_01 (yw_biY N2 hi (br_t rfl (yw_bnN hb (br_f pv_01 ⟨rfl, HR⟩)))))))
  · exact xw_biN hb (br_f pv_01 (yw_biN hb (br_f pv_01 ⟨rfl, HR⟩)))
section
variable {g_ins g_val g_def g_fk g_bc : Int32} {b_rd b_tn b_mem b_dic b_pol b_book b_msg : Nat → Int32}
theorem yw_tal {post : Int32 → Prop} {NV FK i n R : Nat} {c : Int32} (hi : i < 4) (hn : n < 7) (hF : FK < 7) (hV : 2 ≤ NV) (hV2 : NV ≤ 16) (hR : b_rd i = nI R) (hR11 : R < 11) (h : post (nI (pv_cn (fun f => decide (pv_snt b_mem b_dic b_pol NV FK i f n R = c)) 7))) : ∃ m, wY_tally_56 post (nI i) (nI n) c g_ins (nI NV) g_def (nI FK) g_bc b_rd b_tn b_mem b_dic b_pol b_book b_msg m 0 0 := by
  refine pv_l1 (fun m f x => wY_tally_56 post (nI i) (nI n) c g_ins (nI NV) g_def (nI FK) g_bc b_rd b_tn b_mem b_dic b_pol b_book b_msg m x (nI f)) (fun f x => x = nI (pv_cn (fun f => decide (pv_snt b_mem b_dic b_pol NV FK i f n R = c)) f)) 7 0 rfl ?_ ?_
  · intro m x hx
    subst hx
    exact br_t pv_77 h
  · intro m f x hf hx K
    subst hx
    refine br_f (pv_n7 hf) (yw_snt hi hf hn hF hV hV2 hR hR11 (br_c (fun z x' ex y ey => ?_) (fun z y ey => ?_)))
    · obtain rfl := ey.trans (nI_1 f)
      refine K x' ?_
      rw [ex, nI_1]
      show _ = nI (_ + (decide _).toNat)
      rw [decide_eq_true z]; rfl
    · obtain rfl := ey.trans (nI_1 f)
      refine K _ ?_
      show _ = nI (_ + (decide _).toNat)
      rw [decide_eq_false z]; rfl
end
theorem i_vc_tally {k : Nat} {u : SX} {v : SY} (I : i_Rel k u v) (hk : k + 5 ≤ 2564) (v1 : Int32) (v2 : Int32) (v3 : Int32) : wpX_tally (fun r u' => wpY_tally (fun r' => r' = r ∧ i_Rel (k + 5) u' v) v v1 v2 v3) u v1 v2 v3 := by
  refine pv_el (P := fun u v => wpX_tally (fun r u' => wpY_tally (fun r' => r' = r ∧ i_Rel (k + 5) u' v) v v1 v2 v3) u v1 v2 v3) ?_ I
  intro NI NV D FK L f_allLanes f_firstLanes f_oddLanes f_sevenNodes f_tainted f_echoSome f_candidateSome f_bits f_proposalSome f_proposalOne f_strong f_corrupted f_valueLanes f_echoLanes f_exchangeLanes f_proposeLanes f_kingLanes f_kingBits f_dueSome f_sum0 f_sum1 f_sum2 f_ledgerHead f_ledgerSize a_rounds a_planes a_policies a_dictSet a_dictSome a_dictPlanes a_splitPlanes a_duePlanes a_sentSome a_sentPlanes a_match a_ledgerInstance a_ledgerValue a_ledgerTainted g_bc b_tn b_mem b_dic b_pol b_book b_msg H
  have HR : i_Rel (k + 5) (f_allLanes, f_firstLanes, f_oddLanes, f_sevenNodes, nI NI, nI NV, nI D, nI FK, f_tainted, f_echoSome, f_candidateSome, f_bits, f_proposalSome, f_proposalOne, f_strong, f_corrupted, f_valueLanes, f_echoLanes, f_exchangeLanes, f_proposeLanes, f_kingLanes, f_valueLanes ||| f_echoLanes, (f_exchangeLanes ||| f_proposeLanes) ||| f_kingLanes, (f_valueLanes ||| f_echoLanes) ||| ((f_exchangeLanes ||| f_proposeLanes) ||| f_kingLanes), f_kingBits, f_dueSome, f_sum0, f_sum1, f_sum2, f_ledgerHead, f_ledgerSize, a_rounds, a_planes, a_policies, a_dictSet, a_dictSome, a_dictPlanes, a_splitPlanes, a_duePlanes, a_sentSome, a_sentPlanes, a_match, a_ledgerInstance, a_ledgerValue, a_ledgerTainted) (nI NI, nI NV, nI D, nI FK, g_bc, a_rounds, b_tn, b_mem, b_dic, b_pol, b_book, b_msg) := pv_mkR H
  have H0 := H
  obtain ⟨⟨N1, N2, N3, N4, N5, N6⟩, hk, HM, HD, HC, HT, HLN, HS, HX, HY⟩ := H
  unfold wpX_tally wpY_tally
  rcases pv_csI v1 (N := NI) (by omega) with ⟨i, hi, rfl⟩ | hb
  · have i4 : i < 4 := by omega
    rcases pv_csN v2 with ⟨n, hn, rfl⟩ | hb
    · have hl : 8 * i + n < 32 := by omega
      refine xw_biY N2 hi (br_t rfl (xw_bnY hn (br_t rfl (xw_run i4 (hk i i4) (fun hr => br_f pv_01 ?_) (fun hr => br_t rfl ?_)))))
      · obtain ⟨R, hR, eR⟩ := pv_ir_t (hk i i4) hr
        refine br_c (fun z => ?_) (fun z => xw_szo i4 (br_c (fun y => ?_) (fun y => ?_)))
        · exact yw_biY N2 hi (br_t rfl (yw_bnY hn (br_t rfl (yw_run i4 (hk i i4) (fun _ => br_f pv_01 (br_t z ⟨rfl, HR⟩)) (fun q => by rw [q] at hr; exact absurd hr (by decide))))))
        · have hok : pv_ok v3 := by
            obtain ⟨m, hm, _, em⟩ := pv_szo_le (x := a_rounds i) N3 N4
            rw [em] at y
            exact pv_okc hm z y
          refine xw_fa N3 N4 ?_
          intro ss sp FA
          refine xw_cc hok ?_
          intro m s0 s1 s2 HCS x4 e4 x5 e5 x6 e6 x7 e7
          rw [pv_8] at e4
          subst e4
          rw [pv_1 hl] at e5 e6 e7
          subst e5 e6 e7
          rw [pv_sum3]
          have hct : pv_v3 s0 s1 s2 (8 * i + n) = pv_ct ss sp (8 * i + n) v3 := HCS i i4 n hn
          have e9 : (bt s0 (8 * i + n)).toNat + 2 * (bt s1 (8 * i + n)).toNat + 4 * (bt s2 (8 * i + n)).toNat = pv_cn (fun f => decide (pv_snt b_mem b_dic b_pol NV FK i f n R = v3)) 7 := by
            refine hct.trans (pv_cn_cg (fun f hf => ?_))
            rw [(pv_msgM (a := a_duePlanes) (ss := ss) (sp := sp) HLN hi N2 N6 N3 N4 eR hR hf hn (HM i hi) (HD i hi) HC (HS i i4 n hn) (FA f hf i i4 n hn).1 (FA f hf i i4 n hn).2).1]
          rw [e9]
          refine yw_biY N2 hi (br_t rfl (yw_bnY hn (br_t rfl (yw_run i4 (hk i i4) (fun _ => br_f pv_01 (br_f z (yw_szo i4 (br_t y (yw_tal i4 hn N6 N3 N4 eR hR ⟨rfl, pv_mkR H0⟩))))) (fun q => ?_)))))
          rw [q] at hr; exact absurd hr (by decide)
        · exact yw_biY N2 hi (br_t rfl (yw_bnY hn (br_t rfl (yw_run i4 (hk i i4) (fun _ => br_f pv_01 (br_f z (yw_szo i4 (br_f y ⟨rfl, HR⟩)))) (fun q => by rw [q] at hr; exact absurd hr (by decide))))))
      · refine yw_biY N2 hi (br_t rfl (yw_bnY hn (br_t rfl (yw_run i4 (hk i i4) (fun z => ?_) (fun _ => br_t rfl ⟨rfl, HR⟩)))))
        rw [z] at hr; exact absurd hr (by decide)
    · exact xw_biY N2 hi (br_t rfl (xw_bnN hb (br_f pv_01 (yw_biY N2 hi (br_t rfl (yw_bnN hb (br_f pv_01 ⟨rfl, HR⟩)))))))
  · exact xw_biN hb (br_f pv_01 (yw_biN hb (br_f pv_01 ⟨rfl, HR⟩)))
end
section
/-! memory -/
def pv_see (k : Nat) (x : Int32) : Bool := if k = 0 then true else if k = 1 then pv_ie x else if k = 2 then !decide (x < 2) else if k = 3 then !decide (x < 2) else if k = 4 then pv_ip x else pv_ik x
theorem pv_kne {a b : Nat} (h : a ≠ b) (ha : a < 6) (hb : b < 6) : ¬ nI a = nI b := fun e => h ((nI_eq (by omega) (by omega)).mp e)
section
variable {g_ins g_val g_def g_fk g_bc : Int32} {b_rd b_tn b_mem b_dic b_pol b_book b_msg : Nat → Int32}
theorem yw_m132 {post : Int32 → Prop} {i n k : Nat} {z : Int32} (hi : i < 4) (hn : n < 7) (hk : k < 6) (h0 : z = 0 → post (-1)) (h1 : ¬ z = 0 → post (b_mem (pv_mx i n k))) : wY_memory_132 post (nI i) (nI n) (nI k) z g_ins g_val g_def g_fk g_bc b_rd b_tn b_mem b_dic b_pol b_book b_msg := by
  refine br_c h0 (fun y => ⟨by rw [pv_i76, pv_aM]; exact pv_inM hi hn hk rfl, ?_⟩)
  rw [pv_i76, pv_aM, pv_clM hi hn hk rfl]
  exact h1 y
theorem yw_m120 {post : Int32 → Prop} {i n k : Nat} {z : Int32} (hi : i < 4) (hn : n < 7) (hk : k < 6) (h5 : k ≠ 5) (h0 : z = 0 → post (-1)) (h1 : ¬ z = 0 → post (b_mem (pv_mx i n k))) : wY_memory_120 post (nI i) (nI n) (nI k) z g_ins g_val g_def g_fk g_bc b_rd b_tn b_mem b_dic b_pol b_book b_msg :=
  br_f (pv_kne (b := 5) h5 hk (by decide)) (yw_m132 hi hn hk h0 h1)
theorem yw_m88 {post : Int32 → Prop} {i n k : Nat} {x z : Int32} (hi : i < 4) (hn : n < 7) (hk : k < 6) (h5 : k ≠ 5) (h4 : k ≠ 4) (h0 : z = 0 → post (-1)) (h1 : ¬ z = 0 → post (b_mem (pv_mx i n k))) : wY_memory_88 post (nI i) (nI n) (nI k) x z g_ins g_val g_def g_fk g_bc b_rd b_tn b_mem b_dic b_pol b_book b_msg :=
  br_f (pv_kne (b := 4) h4 hk (by decide)) (yw_m120 hi hn hk h5 h0 h1)
theorem yw_m71 {post : Int32 → Prop} {i n k : Nat} {x z : Int32} (hi : i < 4) (hn : n < 7) (hk : k < 2) (h0 : z = 0 → post (-1)) (h1 : ¬ z = 0 → post (b_mem (pv_mx i n k))) : wY_memory_71 post (nI i) (nI n) (nI k) x z g_ins g_val g_def g_fk g_bc b_rd b_tn b_mem b_dic b_pol b_book b_msg :=
  br_f (pv_kne (b := 2) (by omega) (by omega) (by decide)) (br_f (pv_kne (b := 3) (by omega) (by omega) (by decide)) (yw_m88 hi hn (by omega) (by omega) (by omega) h0 h1))
theorem yw_m81 {post : Int32 → Prop} {i n k : Nat} {x : Int32} (hi : i < 4) (hn : n < 7) (hk : k < 4) (hr : pv_rk (b_rd i)) (h0 : b_rd i < 2 → post (-1)) (h1 : ¬ b_rd i < 2 → post (b_mem (pv_mx i n k))) : wY_memory_81 post (nI i) (nI n) (nI k) x g_ins g_val g_def g_fk g_bc b_rd b_tn b_mem b_dic b_pol b_book b_msg := by
  unfold wY_memory_81
  refine yw_hb hi hr (fun z => ?_) (fun z => ?_)
  · exact yw_m88 hi hn (by omega) (by omega) (by omega) (fun y => absurd y (by decide)) (fun _ => h1 z)
  · exact yw_m88 hi hn (by omega) (by omega) (by omega) (fun _ => h0 z) (fun y => absurd rfl y)
theorem yw_m51 {post : Int32 → Prop} {i n k : Nat} {z : Int32} (hi : i < 4) (hn : n < 7) (hk : k < 6) (hr : pv_rk (b_rd i)) (hz : k = 0 → z = 1) (h : post (if pv_see k (b_rd i) then b_mem (pv_mx i n k) else -1)) : wY_memory_51 post (nI i) (nI n) (nI k) (b_rd i) z g_ins g_val g_def g_fk g_bc b_rd b_tn b_mem b_dic b_pol b_book b_msg := by
  unfold wY_memory_51
  have k6 : k = 0 ∨ k = 1 ∨ k = 2 ∨ k = 3 ∨ k = 4 ∨ k = 5 := by omega
  rcases k6 with rfl | rfl | rfl | rfl | rfl | rfl
  · obtain rfl := hz rfl
    exact br_f (by decide) (yw_m71 hi hn (by decide) (fun y => absurd y (by decide)) (fun _ => h))
  · refine br_t (by decide) (br_c (fun y => ?_) (fun y => ?_))
    · rw [show pv_see 1 (b_rd i) = true from decide_eq_true y, if_pos rfl] at h
      exact yw_m71 hi hn (by decide) (fun q => absurd q (by decide)) (fun _ => h)
    · rw [show pv_see 1 (b_rd i) = false from decide_eq_false y, if_neg pv_ft] at h
      exact yw_m71 hi hn (by decide) (fun _ => h) (fun q => absurd rfl q)
  · refine br_f (by decide) (br_t (by decide) (yw_m81 hi hn (by decide) hr (fun y => ?_) (fun y => ?_)))
    · rw [show pv_see 2 (b_rd i) = false from by show (!decide (b_rd i < 2)) = false; rw [decide_eq_true y]; rfl, if_neg pv_ft] at h
      exact h
    · rw [show pv_see 2 (b_rd i) = true from by show (!decide (b_rd i < 2)) = true; rw [decide_eq_false y]; rfl, if_pos rfl] at h
      exact h
  · refine br_f (by decide) (br_f (by decide) (br_t (by decide) (yw_m81 hi hn (by decide) hr (fun y => ?_) (fun y => ?_))))
    · rw [show pv_see 3 (b_rd i) = false from by show (!decide (b_rd i < 2)) = false; rw [decide_eq_true y]; rfl, if_neg pv_ft] at h
      exact h
    · rw [show pv_see 3 (b_rd i) = true from by show (!decide (b_rd i < 2)) = true; rw [decide_eq_false y]; rfl, if_pos rfl] at h
      exact h
  · refine br_f (by decide) (br_f (by decide) (br_f (by decide) (br_t (by decide) ?_)))
    have t (e : pv_ip (b_rd i) = true) : wY_memory_118 post (nI i) (nI n) (nI 4) 1 g_ins g_val g_def g_fk g_bc b_rd b_tn b_mem b_dic b_pol b_book b_msg := by
      rw [show pv_see 4 (b_rd i) = true from e, if_pos rfl] at h
      exact yw_m120 hi hn (by decide) (by decide) (fun q => absurd q (by decide)) (fun _ => h)
    refine br_c (fun y => t (by rw [y]; rfl)) (fun y1 => br_c (fun y => t (by rw [y]; rfl)) (fun y2 => br_c (fun y => t (by rw [y]; rfl)) (fun y3 => ?_)))
    have e : pv_ip (b_rd i) = false := by unfold pv_ip; rw [decide_eq_false y1, decide_eq_false y2, decide_eq_false y3]; rfl
    rw [show pv_see 4 (b_rd i) = false from e, if_neg pv_ft] at h
    exact yw_m120 hi hn (by decide) (by decide) (fun _ => h) (fun q => absurd rfl q)
  · refine br_f (by decide) (br_f (by decide) (br_f (by decide) (br_f (by decide) (br_t (by decide) (yw_kr hi (fun y => ?_) (fun y => ?_))))))
    · rw [show pv_see 5 (b_rd i) = true from y, if_pos rfl] at h
      exact yw_m132 hi hn (by decide) (fun q => absurd q (by decide)) (fun _ => h)
    · rw [show pv_see 5 (b_rd i) = false from y, if_neg pv_ft] at h
      exact yw_m132 hi hn (by decide) (fun _ => h) (fun q => absurd rfl q)
theorem yw_mem {post : Int32 → Prop} {NI i n k : Nat} (h4 : NI ≤ 4) (hi : i < NI) (hn : n < 7) (hk : k < 6) (hr : pv_rk (b_rd i)) (h : post (if pv_see k (b_rd i) then b_mem (pv_mx i n k) else -1)) : wpY_memory post (nI NI, g_val, g_def, g_fk, g_bc, b_rd, b_tn, b_mem, b_dic, b_pol, b_book, b_msg) (nI i) (nI n) (nI k) := by
  unfold wpY_memory
  refine yw_biY h4 hi (br_t rfl (yw_bnY hn (br_t rfl (br_f (nI_pos (by omega)) (br_t (nI_le (b := 5) (by omega) (by decide)) ⟨vp_in_nI (by omega) (by decide), fun x ex => ?_⟩)))))
  rw [nI_clamp (by omega : i < 2 ^ 31)] at ex
  subst ex
  refine br_c (fun z => ?_) (fun z => ?_)
  · exact yw_m51 (by omega) hn hk hr (fun _ => rfl) h
  · exact yw_m51 (by omega) hn hk hr (fun y => absurd (by rw [y]; rfl) z) h
end
theorem pv_bit01 (b : Bool) : (if b then (1 : Int32) else 0) = pv_b1f b := by cases b <;> rfl
theorem i_vc_memory {k : Nat} {u : SX} {v : SY} (I : i_Rel k u v) (hk : k + 5 ≤ 2564) (v1 : Int32) (v2 : Int32) (v3 : Int32) : wpX_memory (fun r => wpY_memory (fun r' => r' = r ∧ i_Rel (k + 5) u v) v v1 v2 v3) u v1 v2 v3 := by
  refine pv_el (P := fun u v => wpX_memory (fun r => wpY_memory (fun r' => r' = r ∧ i_Rel (k + 5) u v) v v1 v2 v3) u v1 v2 v3) ?_ I
  intro NI NV D FK L f_allLanes f_firstLanes f_oddLanes f_sevenNodes f_tainted f_echoSome f_candidateSome f_bits f_proposalSome f_proposalOne f_strong f_corrupted f_valueLanes f_echoLanes f_exchangeLanes f_proposeLanes f_kingLanes f_kingBits f_dueSome f_sum0 f_sum1 f_sum2 f_ledgerHead f_ledgerSize a_rounds a_planes a_policies a_dictSet a_dictSome a_dictPlanes a_splitPlanes a_duePlanes a_sentSome a_sentPlanes a_match a_ledgerInstance a_ledgerValue a_ledgerTainted g_bc b_tn b_mem b_dic b_pol b_book b_msg H
  have HR : i_Rel (k + 5) (f_allLanes, f_firstLanes, f_oddLanes, f_sevenNodes, nI NI, nI NV, nI D, nI FK, f_tainted, f_echoSome, f_candidateSome, f_bits, f_proposalSome, f_proposalOne, f_strong, f_corrupted, f_valueLanes, f_echoLanes, f_exchangeLanes, f_proposeLanes, f_kingLanes, f_valueLanes ||| f_echoLanes, (f_exchangeLanes ||| f_proposeLanes) ||| f_kingLanes, (f_valueLanes ||| f_echoLanes) ||| ((f_exchangeLanes ||| f_proposeLanes) ||| f_kingLanes), f_kingBits, f_dueSome, f_sum0, f_sum1, f_sum2, f_ledgerHead, f_ledgerSize, a_rounds, a_planes, a_policies, a_dictSet, a_dictSome, a_dictPlanes, a_splitPlanes, a_duePlanes, a_sentSome, a_sentPlanes, a_match, a_ledgerInstance, a_ledgerValue, a_ledgerTainted) (nI NI, nI NV, nI D, nI FK, g_bc, a_rounds, b_tn, b_mem, b_dic, b_pol, b_book, b_msg) := pv_mkR H
  obtain ⟨⟨N1, N2, N3, N4, N5, N6⟩, hk, HM, HD, HC, HT, HLN, HS, HX, HY⟩ := H
  rcases pv_csI v1 (N := NI) (by omega) with ⟨i, hi, rfl⟩ | hb
  · have i4 : i < 4 := by omega
    have hv : vp_in (nI i) 4 := vp_in_nI i4 (by decide)
    have hc : (nI i).toNatClampNeg = i := nI_clamp (by omega)
    rcases pv_csN v2 with ⟨n, hn, rfl⟩ | hb
    · have hl : 8 * i + n < 32 := by omega
      rcases pv_csI v3 (N := 6) (by decide) with ⟨q, hq, rfl⟩ | hb
      · have Y (r : Int32) (e : (if pv_see q (a_rounds i) then b_mem (pv_mx i n q) else -1) = r) : wpY_memory (fun r' => r' = r ∧ i_Rel (k + 5) (f_allLanes, f_firstLanes, f_oddLanes, f_sevenNodes, nI NI, nI NV, nI D, nI FK, f_tainted, f_echoSome, f_candidateSome, f_bits, f_proposalSome, f_proposalOne, f_strong, f_corrupted, f_valueLanes, f_echoLanes, f_exchangeLanes, f_proposeLanes, f_kingLanes, f_valueLanes ||| f_echoLanes, (f_exchangeLanes ||| f_proposeLanes) ||| f_kingLanes, (f_valueLanes ||| f_echoLanes) ||| ((f_exchangeLanes ||| f_proposeLanes) ||| f_kingLanes), f_kingBits, f_dueSome, f_sum0, f_sum1, f_sum2, f_ledgerHead, f_ledgerSize, a_rounds, a_planes, a_policies, a_dictSet, a_dictSome, a_dictPlanes, a_splitPlanes, a_duePlanes, a_sentSome, a_sentPlanes, a_match, a_ledgerInstance, a_ledgerValue, a_ledgerTainted) (nI NI, nI NV, nI D, nI FK, g_bc, a_rounds, b_tn, b_mem, b_dic, b_pol, b_book, b_msg)) (nI NI, nI NV, nI D, nI FK, g_bc, a_rounds, b_tn, b_mem, b_dic, b_pol, b_book, b_msg) (nI i) (nI n) (nI q) := yw_mem N2 hi hn hq (hk i i4) ⟨e, HR⟩
        obtain ⟨⟨m0, _⟩, m1, m2, m4, m5⟩ := HM i hi n hn
        unfold wpX_memory
        refine xw_biY N2 hi (br_t rfl (xw_bnY hn (br_t rfl (br_f (nI_pos (by omega)) (br_t (nI_le (b := 5) (by omega) (by decide)) ?_)))))
        intro x4 e4
        rw [pv_8] at e4
        subst e4
        refine ⟨hv, fun x5 e5 => ?_⟩
        rw [hc] at e5
        subst e5
        have k6 : q = 0 ∨ q = 1 ∨ q = 2 ∨ q = 3 ∨ q = 4 ∨ q = 5 := by omega
        rcases k6 with rfl | rfl | rfl | rfl | rfl | rfl
        · refine br_t (by decide) (xw_rv (F := 0) (by decide) hl (Y _ ?_))
          exact m0
        · refine br_f (by decide) (br_t (by decide) (br_c (fun z => pv_b1 hl (fun y => ?_) (fun y => ?_)) (fun z => ?_)))
          · refine br_f pv_01 (xw_rv (F := 1) (by decide) hl (Y _ ?_))
            rw [show pv_see 1 (a_rounds i) = true from decide_eq_true z, if_pos rfl]
            refine (m1 z).1.trans ?_
            rw [y]; rfl
          · refine br_t rfl (Y _ ?_)
            rw [show pv_see 1 (a_rounds i) = true from decide_eq_true z, if_pos rfl]
            refine (m1 z).1.trans ?_
            rw [y]; rfl
          · refine br_t rfl (Y _ ?_)
            rw [show pv_see 1 (a_rounds i) = false from decide_eq_false z, if_neg pv_ft]
        · refine br_f (by decide) (br_f (by decide) (br_t (by decide) (br_c (fun z => ?_) (fun z => pv_b1 hl (fun y => ?_) (fun y => ?_)))))
          · refine br_t rfl (Y _ ?_)
            rw [show pv_see 2 (a_rounds i) = false from by show (!decide (a_rounds i < 2)) = false; rw [decide_eq_true z]; rfl, if_neg pv_ft]
          · refine br_f pv_01 (xw_rv (F := 2) (by decide) hl (Y _ ?_))
            rw [show pv_see 2 (a_rounds i) = true from by show (!decide (a_rounds i < 2)) = true; rw [decide_eq_false z]; rfl, if_pos rfl]
            refine (m2 z).1.trans ?_
            rw [y]; rfl
          · refine br_t rfl (Y _ ?_)
            rw [show pv_see 2 (a_rounds i) = true from by show (!decide (a_rounds i < 2)) = true; rw [decide_eq_false z]; rfl, if_pos rfl]
            refine (m2 z).1.trans ?_
            rw [y]; rfl
        · refine br_f (by decide) (br_f (by decide) (br_f (by decide) (br_t (by decide) (br_c (fun z => Y _ ?_) (fun z => ?_)))))
          · rw [show pv_see 3 (a_rounds i) = false from by show (!decide (a_rounds i < 2)) = false; rw [decide_eq_true z]; rfl, if_neg pv_ft]
          · rw [pv_1 hl, pv_bit01]
            refine Y _ ?_
            rw [show pv_see 3 (a_rounds i) = true from by show (!decide (a_rounds i < 2)) = true; rw [decide_eq_false z]; rfl, if_pos rfl]
            exact (m2 z).2
        · refine br_f (by decide) (br_f (by decide) (br_f (by decide) (br_f (by decide) (br_t (by decide) ?_))))
          have t (e : pv_ip (a_rounds i) = true) : wX_memory_208 (fun r => wpY_memory (fun r' => r' = r ∧ i_Rel (k + 5) (f_allLanes, f_firstLanes, f_oddLanes, f_sevenNodes, nI NI, nI NV, nI D, nI FK, f_tainted, f_echoSome, f_candidateSome, f_bits, f_proposalSome, f_proposalOne, f_strong, f_corrupted, f_valueLanes, f_echoLanes, f_exchangeLanes, f_proposeLanes, f_kingLanes, f_valueLanes ||| f_echoLanes, (f_exchangeLanes ||| f_proposeLanes) ||| f_kingLanes, (f_valueLanes ||| f_echoLanes) ||| ((f_exchangeLanes ||| f_proposeLanes) ||| f_kingLanes), f_kingBits, f_dueSome, f_sum0, f_sum1, f_sum2, f_ledgerHead, f_ledgerSize, a_rounds, a_planes, a_policies, a_dictSet, a_dictSome, a_dictPlanes, a_splitPlanes, a_duePlanes, a_sentSome, a_sentPlanes, a_match, a_ledgerInstance, a_ledgerValue, a_ledgerTainted) (nI NI, nI NV, nI D, nI FK, g_bc, a_rounds, b_tn, b_mem, b_dic, b_pol, b_book, b_msg)) (nI NI, nI NV, nI D, nI FK, g_bc, a_rounds, b_tn, b_mem, b_dic, b_pol, b_book, b_msg) (nI i) (nI n) (nI 4)) (nI (8 * i + n)) f_allLanes f_firstLanes f_oddLanes f_sevenNodes (nI NI) (nI NV) (nI D) (nI FK) f_tainted f_echoSome f_candidateSome f_bits f_proposalSome f_proposalOne f_strong f_corrupted f_valueLanes f_echoLanes f_exchangeLanes f_proposeLanes f_kingLanes (f_valueLanes ||| f_echoLanes) ((f_exchangeLanes ||| f_proposeLanes) ||| f_kingLanes) ((f_valueLanes ||| f_echoLanes) ||| ((f_exchangeLanes ||| f_proposeLanes) ||| f_kingLanes)) f_kingBits f_dueSome f_sum0 f_sum1 f_sum2 f_ledgerHead f_ledgerSize a_rounds a_planes a_policies a_dictSet a_dictSome a_dictPlanes a_splitPlanes a_duePlanes a_sentSome a_sentPlanes a_match a_ledgerInstance a_ledgerValue a_ledgerTainted := by
            refine br_f pv_01 (pv_b1 hl (fun y => ?_) (fun y => ?_))
            · refine br_f pv_01 ?_
              rw [pv_1 hl]
              refine Y _ ?_
              rw [show pv_see 4 (a_rounds i) = true from e, if_pos rfl]
              refine (m4 e).trans ?_
              rw [y]
              cases bt f_proposalOne (8 * i + n) <;> rfl
            · refine br_t rfl (Y _ ?_)
              rw [show pv_see 4 (a_rounds i) = true from e, if_pos rfl]
              refine (m4 e).trans ?_
              rw [y]; rfl
          refine br_c (fun y => t (by rw [y]; rfl)) (fun y1 => br_c (fun y => t (by rw [y]; rfl)) (fun y2 => br_c (fun y => t (by rw [y]; rfl)) (fun y3 => ?_)))
          have e : pv_ip (a_rounds i) = false := by unfold pv_ip; rw [decide_eq_false y1, decide_eq_false y2, decide_eq_false y3]; rfl
          refine br_t rfl (br_t rfl (Y _ ?_))
          rw [show pv_see 4 (a_rounds i) = false from e, if_neg pv_ft]
        · refine br_f (by decide) (br_f (by decide) (br_f (by decide) (br_f (by decide) (br_f (by decide) ?_))))
          have t (e : pv_ik (a_rounds i) = true) : wX_memory_279 (fun r => wpY_memory (fun r' => r' = r ∧ i_Rel (k + 5) (f_allLanes, f_firstLanes, f_oddLanes, f_sevenNodes, nI NI, nI NV, nI D, nI FK, f_tainted, f_echoSome, f_candidateSome, f_bits, f_proposalSome, f_proposalOne, f_strong, f_corrupted, f_valueLanes, f_echoLanes, f_exchangeLanes, f_proposeLanes, f_kingLanes, f_valueLanes ||| f_echoLanes, (f_exchangeLanes ||| f_proposeLanes) ||| f_kingLanes, (f_valueLanes ||| f_echoLanes) ||| ((f_exchangeLanes ||| f_proposeLanes) ||| f_kingLanes), f_kingBits, f_dueSome, f_sum0, f_sum1, f_sum2, f_ledgerHead, f_ledgerSize, a_rounds, a_planes, a_policies, a_dictSet, a_dictSome, a_dictPlanes, a_splitPlanes, a_duePlanes, a_sentSome, a_sentPlanes, a_match, a_ledgerInstance, a_ledgerValue, a_ledgerTainted) (nI NI, nI NV, nI D, nI FK, g_bc, a_rounds, b_tn, b_mem, b_dic, b_pol, b_book, b_msg)) (nI NI, nI NV, nI D, nI FK, g_bc, a_rounds, b_tn, b_mem, b_dic, b_pol, b_book, b_msg) (nI i) (nI n) (nI 5)) (nI (8 * i + n)) f_allLanes f_firstLanes f_oddLanes f_sevenNodes (nI NI) (nI NV) (nI D) (nI FK) f_tainted f_echoSome f_candidateSome f_bits f_proposalSome f_proposalOne f_strong f_corrupted f_valueLanes f_echoLanes f_exchangeLanes f_proposeLanes f_kingLanes (f_valueLanes ||| f_echoLanes) ((f_exchangeLanes ||| f_proposeLanes) ||| f_kingLanes) ((f_valueLanes ||| f_echoLanes) ||| ((f_exchangeLanes ||| f_proposeLanes) ||| f_kingLanes)) f_kingBits f_dueSome f_sum0 f_sum1 f_sum2 f_ledgerHead f_ledgerSize a_rounds a_planes a_policies a_dictSet a_dictSome a_dictPlanes a_splitPlanes a_duePlanes a_sentSome a_sentPlanes a_match a_ledgerInstance a_ledgerValue a_ledgerTainted := by
            refine br_f pv_01 ?_
            rw [pv_1 hl, pv_bit01]
            refine Y _ ?_
            rw [show pv_see 5 (a_rounds i) = true from e, if_pos rfl]
            exact m5 e
          refine br_c (fun y => t (by rw [y]; rfl)) (fun y1 => br_c (fun y => t (by rw [y]; rfl)) (fun y2 => br_c (fun y => t (by rw [y]; rfl)) (fun y3 => ?_)))
          have e : pv_ik (a_rounds i) = false := by unfold pv_ik; rw [decide_eq_false y1, decide_eq_false y2, decide_eq_false y3]; rfl
          refine br_t rfl (Y _ ?_)
          rw [show pv_see 5 (a_rounds i) = false from e, if_neg pv_ft]
      · unfold wpX_memory wpY_memory
        rcases hb with z | ⟨z, y⟩
        · exact xw_biY N2 hi (br_t rfl (xw_bnY hn (br_t rfl (br_t z (yw_biY N2 hi (br_t rfl (yw_bnY hn (br_t rfl (br_t z ⟨rfl, HR⟩)))))))))
        · have y' : ¬ v3 ≤ 5 := by
            obtain ⟨m, hm, rfl⟩ := nI_of z
            intro c
            have c' := (nI_leI (b := 5) hm (by decide)).mp c
            exact y (nI_lt (by omega) (by decide))
          exact xw_biY N2 hi (br_t rfl (xw_bnY hn (br_t rfl (br_f z (br_f y' (yw_biY N2 hi (br_t rfl (yw_bnY hn (br_t rfl (br_f z (br_f y' ⟨rfl, HR⟩)))))))))))
    · unfold wpX_memory wpY_memory
      exact xw_biY N2 hi (br_t rfl (xw_bnN hb (br_f pv_01 (yw_biY N2 hi (br_t rfl (yw_bnN hb (br_f pv_01 ⟨rfl, HR⟩)))))))
  · unfold wpX_memory wpY_memory
    exact xw_biN hb (br_f pv_01 (yw_biN hb (br_f pv_01 ⟨rfl, HR⟩)))
end
section
/-! common -/
theorem pv_lw_sp (T : Int32) : ∀ d, d ≤ 7 → (pv_lw T d ≠ 7 → bt T (pv_lw T d) = false) ∧ (∀ m, 7 - d ≤ m → m < pv_lw T d → bt T m = true)
  | 0, _ => ⟨fun z => absurd rfl z, fun m h1 h2 => by have h2' : m < 7 := h2; omega⟩
  | d + 1, hd => by
    obtain ⟨h1, h2⟩ := pv_lw_sp T d (by omega)
    have e : pv_lw T (d + 1) = if bt T (6 - d) then pv_lw T d else 6 - d := rfl
    rw [e]
    cases hb : bt T (6 - d)
    · rw [if_neg pv_ft]
      exact ⟨fun _ => hb, fun m a b => by omega⟩
    · rw [if_pos rfl]
      refine ⟨h1, fun m a b => ?_⟩
      by_cases c : m = 6 - d
      · rw [c]; exact hb
      · exact h2 m (by omega) b
def pv_aw (w : Nat) : Nat → Int32
  | 0 => 0
  | k + 1 => if bt (nI w) k then pv_aw w k ||| ((1 : Int32) <<< (nI k &&& 31)) else pv_aw w k
theorem pv_aw4 : ∀ w, w < 16 → pv_aw w 4 = nI w := by decide +kernel
theorem pv_16 : ∀ a, a < 16 → ∀ b, b < 16 → (bt (nI a) 0 = bt (nI b) 0 ∧ bt (nI a) 1 = bt (nI b) 1 ∧ bt (nI a) 2 = bt (nI b) 2 ∧ bt (nI a) 3 = bt (nI b) 3) → a = b := by decide +kernel
/-- the value held by node n, as a number -/
def pv_w (bits cand : Int32) (planes : Nat → Int32) (D i n : Nat) : Nat := if bt (bits &&& cand) (8 * i + n) then pv_rd planes 8 (8 * i + n) else D
theorem pv_w_hx (bits cand : Int32) (planes : Nat → Int32) (D i n : Nat) : pv_hx bits cand planes (nI D) (8 * i + n) = nI (pv_w bits cand planes D i n) := by
  unfold pv_hx pv_w
  split <;> rfl
theorem pv_w_lt (bits cand : Int32) (planes : Nat → Int32) {D : Nat} (hD : D < 16) (i n : Nat) : pv_w bits cand planes D i n < 16 := by
  unfold pv_w
  split
  · exact pv_rd_lt _ _ _
  · exact hD
def pv_AE (T : Int32) (w : Nat → Nat) (w0 : Nat) : Prop := ∀ n, n < 7 → bt T n = false → w n = w0
section
variable {f_allLanes f_firstLanes f_oddLanes f_sevenNodes f_instances f_values f_defaultValue f_firstKing f_tainted f_echoSome f_candidateSome f_bits f_proposalSome f_proposalOne f_strong f_corrupted f_valueLanes f_echoLanes f_exchangeLanes f_proposeLanes f_kingLanes f_wideLanes f_narrowLanes f_runningLanes f_kingBits f_dueSome f_sum0 f_sum1 f_sum2 f_ledgerHead f_ledgerSize : Int32} {a_rounds a_planes a_policies a_dictSet a_dictSome a_dictPlanes a_splitPlanes a_duePlanes a_sentSome a_sentPlanes a_match a_ledgerInstance a_ledgerValue a_ledgerTainted : Nat → Int32}
theorem xw_c105 {post : Int32 → Prop} {J : Int32 → Int32 → Prop} {x2 x3 x4 x5 x7 : Int32} {k : Nat} (h1 : x7 &&& x3 = x3 → J (x5 ||| ((1 : Int32) <<< (nI k &&& 31))) (nI (k + 1))) (h2 : ¬ x7 &&& x3 = x3 → x7 &&& x3 = 0 → J x5 (nI (k + 1))) (h3 : ¬ x7 &&& x3 = x3 → ¬ x7 &&& x3 = 0 → post (-1)) : wX_common_105 post J x2 x3 x4 x5 (nI k) x7 f_allLanes f_firstLanes f_oddLanes f_sevenNodes f_instances f_values f_defaultValue f_firstKing f_tainted f_echoSome f_candidateSome f_bits f_proposalSome f_proposalOne f_strong f_corrupted f_valueLanes f_echoLanes f_exchangeLanes f_proposeLanes f_kingLanes f_wideLanes f_narrowLanes f_runningLanes f_kingBits f_dueSome f_sum0 f_sum1 f_sum2 f_ledgerHead f_ledgerSize a_rounds a_planes a_policies a_dictSet a_dictSome a_dictPlanes a_splitPlanes a_duePlanes a_sentSome a_sentPlanes a_match a_ledgerInstance a_ledgerValue a_ledgerTainted := by
  intro y ey
  subst ey
  refine br_c (fun z a ea b eb => ?_) (fun z => br_c (fun q b eb => ?_) (fun q => h3 z q))
  · obtain rfl := eb.trans (nI_1 k)
    subst ea
    exact h1 z
  · obtain rfl := eb.trans (nI_1 k)
    exact h2 z q
theorem xw_com {post : Int32 → Prop} {i D n0 w0 : Nat} {T : Int32} (hi : i < 4) (hD : D < 16) (hT : T = pv_tw f_tainted i) (hn0 : n0 < 7) (hf0 : bt T n0 = false) (hw0 : pv_w f_bits f_candidateSome a_planes D i n0 = w0) (hA : pv_AE T (pv_w f_bits f_candidateSome a_planes D i) w0 → post (nI w0)) (hN : ¬ pv_AE T (pv_w f_bits f_candidateSome a_planes D i) w0 → post (-1)) :
    ∃ n, wX_common_60 post (nI (8 * i)) ((((f_tainted.toUInt32 >>> ((nI (8 * i)).toUInt32 &&& Int32.toUInt32 31)).toInt32) ^^^ (-1)) &&& 127) (((f_bits &&& f_candidateSome).toUInt32 >>> ((nI (8 * i)).toUInt32 &&& Int32.toUInt32 31)).toInt32) f_allLanes f_firstLanes f_oddLanes f_sevenNodes f_instances f_values (nI D) f_firstKing f_tainted f_echoSome f_candidateSome f_bits f_proposalSome f_proposalOne f_strong f_corrupted f_valueLanes f_echoLanes f_exchangeLanes f_proposeLanes f_kingLanes f_wideLanes f_narrowLanes f_runningLanes f_kingBits f_dueSome f_sum0 f_sum1 f_sum2 f_ledgerHead f_ledgerSize a_rounds a_planes a_policies a_dictSet a_dictSome a_dictPlanes a_splitPlanes a_duePlanes a_sentSome a_sentPlanes a_match a_ledgerInstance a_ledgerValue a_ledgerTainted n 0 0 := by
  have hw16 (n : Nat) : pv_w f_bits f_candidateSome a_planes D i n < 16 := pv_w_lt _ _ _ hD _ _
  have h016 : w0 < 16 := by rw [← hw0]; exact hw16 n0
  have hTb (n : Nat) (hn : n < 7) : bt T n = bt f_tainted (8 * i + n) := by
    rw [hT]; unfold pv_tw
    rw [pv_get _ hi, decide_eq_true hn, Bool.true_and]
  have hFr (n : Nat) (hn : n < 32) : bt ((((f_tainted.toUInt32 >>> ((nI (8 * i)).toUInt32 &&& Int32.toUInt32 31)).toInt32) ^^^ (-1)) &&& 127) n = (decide (n < 7) && !bt T n) := by
    rw [b_and, pv_not _ hn, b_ushr (8 * i) (by omega), pv_b127]
    by_cases c : n < 7
    · rw [hTb n c, decide_eq_true c]; simp
    · rw [decide_eq_false c]; simp
  have hOw (n : Nat) : bt (((f_bits &&& f_candidateSome).toUInt32 >>> ((nI (8 * i)).toUInt32 &&& Int32.toUInt32 31)).toInt32) n = bt (f_bits &&& f_candidateSome) (8 * i + n) := b_ushr (8 * i) (by omega) _ _
  generalize (((f_tainted.toUInt32 >>> ((nI (8 * i)).toUInt32 &&& Int32.toUInt32 31)).toInt32) ^^^ (-1)) &&& 127 = Fr at hFr ⊢
  generalize ((f_bits &&& f_candidateSome).toUInt32 >>> ((nI (8 * i)).toUInt32 &&& Int32.toUInt32 31)).toInt32 = Ow at hOw ⊢
  refine pv_l1 (fun n k s => wX_common_60 post (nI (8 * i)) Fr Ow f_allLanes f_firstLanes f_oddLanes f_sevenNodes f_instances f_values (nI D) f_firstKing f_tainted f_echoSome f_candidateSome f_bits f_proposalSome f_proposalOne f_strong f_corrupted f_valueLanes f_echoLanes f_exchangeLanes f_proposeLanes f_kingLanes f_wideLanes f_narrowLanes f_runningLanes f_kingBits f_dueSome f_sum0 f_sum1 f_sum2 f_ledgerHead f_ledgerSize a_rounds a_planes a_policies a_dictSet a_dictSome a_dictPlanes a_splitPlanes a_duePlanes a_sentSome a_sentPlanes a_match a_ledgerInstance a_ledgerValue a_ledgerTainted n s (nI k)) (fun k s => s = pv_aw w0 k ∧ ∀ n, n < 7 → bt T n = false → ∀ j, j < k → bt (nI (pv_w f_bits f_candidateSome a_planes D i n)) j = bt (nI w0) j) 4 0 ⟨rfl, fun n _ _ j hj => by omega⟩ ?_ ?_
  · rintro n s ⟨rfl, H⟩
    refine br_t pv_44 ?_
    rw [pv_aw4 _ h016]
    refine hA (fun m hm hf => ?_)
    have g := H m hm hf
    exact pv_16 _ (hw16 m) _ h016 ⟨g 0 (by decide), g 1 (by decide), g 2 (by decide), g 3 (by decide)⟩
  · rintro n k s hk ⟨rfl, H⟩ K
    have e8 : (8 : Int32) + nI k = nI (8 + k) := nI_add 8 k
    -- the word of plane k
    have word (x7 : Int32) (hx : ∀ m, m < 7 → bt x7 m = bt (nI (pv_w f_bits f_candidateSome a_planes D i m)) k) : wX_common_105 post (wX_common_60 post (nI (8 * i)) Fr Ow f_allLanes f_firstLanes f_oddLanes f_sevenNodes f_instances f_values (nI D) f_firstKing f_tainted f_echoSome f_candidateSome f_bits f_proposalSome f_proposalOne f_strong f_corrupted f_valueLanes f_echoLanes f_exchangeLanes f_proposeLanes f_kingLanes f_wideLanes f_narrowLanes f_runningLanes f_kingBits f_dueSome f_sum0 f_sum1 f_sum2 f_ledgerHead f_ledgerSize a_rounds a_planes a_policies a_dictSet a_dictSome a_dictPlanes a_splitPlanes a_duePlanes a_sentSome a_sentPlanes a_match a_ledgerInstance a_ledgerValue a_ledgerTainted n) (nI (8 * i)) Fr Ow (pv_aw w0 k) (nI k) x7 f_allLanes f_firstLanes f_oddLanes f_sevenNodes f_instances f_values (nI D) f_firstKing f_tainted f_echoSome f_candidateSome f_bits f_proposalSome f_proposalOne f_strong f_corrupted f_valueLanes f_echoLanes f_exchangeLanes f_proposeLanes f_kingLanes f_wideLanes f_narrowLanes f_runningLanes f_kingBits f_dueSome f_sum0 f_sum1 f_sum2 f_ledgerHead f_ledgerSize a_rounds a_planes a_policies a_dictSet a_dictSome a_dictPlanes a_splitPlanes a_duePlanes a_sentSome a_sentPlanes a_match a_ledgerInstance a_ledgerValue a_ledgerTainted := by
      have hb (m : Nat) (hm : m < 7) : bt (x7 &&& Fr) m = (bt (nI (pv_w f_bits f_candidateSome a_planes D i m)) k && !bt T m) := by
        rw [b_and, hx m hm, hFr m (by omega), decide_eq_true hm, Bool.true_and]
      refine xw_c105 (fun z => ?_) (fun z y => ?_) (fun z y => ?_)
      · have all (m : Nat) (hm : m < 7) (hf : bt T m = false) : bt (nI (pv_w f_bits f_candidateSome a_planes D i m)) k = true := by
          have := hb m hm
          rw [z, hFr m (by omega), hf, decide_eq_true hm] at this
          revert this
          cases bt (nI (pv_w f_bits f_candidateSome a_planes D i m)) k <;> simp
        have b0 : bt (nI w0) k = true := by rw [← hw0]; exact all n0 hn0 hf0
        refine K _ ⟨?_, fun m hm hf j hj => ?_⟩
        · show _ = if bt (nI w0) k then _ else _
          rw [if_pos b0]
        · by_cases c : j = k
          · rw [c, b0]; exact all m hm hf
          · exact H m hm hf j (by omega)
      · have all (m : Nat) (hm : m < 7) (hf : bt T m = false) : bt (nI (pv_w f_bits f_candidateSome a_planes D i m)) k = false := by
          have := hb m hm
          rw [y, b_0, hf] at this
          revert this
          cases bt (nI (pv_w f_bits f_candidateSome a_planes D i m)) k <;> simp
        have b0 : bt (nI w0) k = false := by rw [← hw0]; exact all n0 hn0 hf0
        refine K _ ⟨?_, fun m hm hf j hj => ?_⟩
        · show _ = if bt (nI w0) k then _ else _
          rw [b0, if_neg pv_ft]
        · by_cases c : j = k
          · rw [c, b0]; exact all m hm hf
          · exact H m hm hf j (by omega)
      · refine hN (fun A => ?_)
        have hbw (m : Nat) (hm : m < 7) : bt (x7 &&& Fr) m = (bt (nI w0) k && !bt T m) := by
          rw [hb m hm]
          cases hf : bt T m
          · rw [A m hm hf]
          · simp
        have big (m : Nat) (hm : ¬ m < 7) (h32 : m < 32) : bt (x7 &&& Fr) m = false ∧ bt Fr m = false := by
          rw [b_and, hFr m h32, decide_eq_false hm]; simp
        cases hk0 : bt (nI w0) k
        · refine y (b_ext (fun m hm => ?_))
          rw [b_0]
          by_cases c : m < 7
          · rw [hbw m c, hk0]; rfl
          · exact (big m c hm).1
        · refine z (b_ext (fun m hm => ?_))
          by_cases c : m < 7
          · rw [hbw m c, hk0, hFr m hm, decide_eq_true c]
          · rw [(big m c hm).1, (big m c hm).2]
    have pb (m : Nat) (hm : m < 7) : bt ((((a_planes (8 + k)).toUInt32 >>> ((nI (8 * i)).toUInt32 &&& Int32.toUInt32 31)).toInt32) &&& Ow) m = (bt (a_planes (8 + k)) (8 * i + m) && bt (f_bits &&& f_candidateSome) (8 * i + m)) := by
      rw [b_and, b_ushr (8 * i) (by omega), hOw]
    have wb (m : Nat) (d : Bool) (hd : bt (nI D) k = d) : bt (nI (pv_w f_bits f_candidateSome a_planes D i m)) k = if bt (f_bits &&& f_candidateSome) (8 * i + m) then bt (a_planes (8 + k)) (8 * i + m) else d := by
      unfold pv_w
      split
      · exact (pv_rd_b a_planes 8 (8 * i + m) hk).symm
      · exact hd
    refine br_f (pv_n4 hk) ⟨by rw [e8]; exact vp_in_nI (by omega) (by decide), fun x7 e7 => ?_⟩
    rw [e8, nI_clamp (by omega : 8 + k < 2 ^ 31)] at e7
    subst e7
    refine pv_b1 (by omega) (fun hd x8 e8' => ?_) (fun hd => ?_)
    · subst e8'
      refine word _ (fun m hm => ?_)
      rw [b_or, pb m hm, pv_not _ (by omega), hOw, wb m true hd]
      cases bt (f_bits &&& f_candidateSome) (8 * i + m) <;> simp
    · refine word _ (fun m hm => ?_)
      rw [pb m hm, wb m false hd]
      cases bt (f_bits &&& f_candidateSome) (8 * i + m) <;> simp
end
section
variable {g_ins g_val g_def g_fk g_bc : Int32} {b_rd b_tn b_mem b_dic b_pol b_book b_msg : Nat → Int32}
theorem yw_com {post : Int32 → Prop} {i n0 w0 : Nat} {w : Nat → Nat} (hi : i < 4) (hw : ∀ n, n < 7 → w n < 16 ∧ pv_hy b_mem g_def i n = nI (w n)) (hn0 : n0 < 7) (hf0 : bt (b_tn i) n0 = false) (hlo : ∀ m, m < n0 → bt (b_tn i) m = true) (hw0 : w n0 = w0) (hA : pv_AE (b_tn i) w w0 → post (nI w0)) (hN : ¬ pv_AE (b_tn i) w w0 → post (-1)) : ∃ n, wY_common_26 post (nI i) g_ins g_val g_def g_fk g_bc b_rd b_tn b_mem b_dic b_pol b_book b_msg n (-1) 0 := by
  have hv : vp_in (nI i) 4 := vp_in_nI hi (by decide)
  have hc : (nI i).toNatClampNeg = i := nI_clamp (by omega)
  have h016 : w0 < 16 := by rw [← hw0]; exact (hw n0 hn0).1
  refine pv_l1 (fun n m s => wY_common_26 post (nI i) g_ins g_val g_def g_fk g_bc b_rd b_tn b_mem b_dic b_pol b_book b_msg n s (nI m)) (fun m s => (m ≤ n0 ∧ s = -1) ∨ (n0 < m ∧ s = nI w0 ∧ ∀ q, q < m → bt (b_tn i) q = false → w q = w0)) 7 (-1) (Or.inl ⟨Nat.zero_le _, rfl⟩) ?_ ?_
  · intro n s hs
    refine br_t pv_77 ?_
    rcases hs with ⟨z, _⟩ | ⟨_, rfl, H⟩
    · omega
    · exact hA H
  · intro n m s hm hs K
    refine br_f (pv_n7 hm) ⟨hv, ?_⟩
    rw [hc]
    refine pv_c0 (by omega) (fun hf => yw_hy hi hm ?_) (fun hf y ey => ?_)
    · rw [(hw m hm).2]
      rcases hs with ⟨z, rfl⟩ | ⟨z, rfl, H⟩
      · refine br_t rfl (fun y ey => ?_)
        obtain rfl := ey.trans (nI_1 m)
        have em : m = n0 := by
          rcases Nat.lt_or_ge m n0 with c | c
          · rw [hlo m c] at hf; exact absurd hf (by decide)
          · omega
        subst em
        refine K _ (Or.inr ⟨by omega, by rw [hw0], fun q hq hfq => ?_⟩)
        by_cases c : q = m
        · rw [c]; exact hw0
        · rw [hlo q (by omega)] at hfq; exact absurd hfq (by decide)
      · refine br_f (pv_nIm1 (by omega)) (br_c (fun q y ey => ?_) (fun q => hN (fun A => q ?_)))
        · obtain rfl := ey.trans (nI_1 m)
          have e : w0 = w m := (nI_eq (by omega) (by have := (hw m hm).1; omega)).mp q
          refine K _ (Or.inr ⟨by omega, by rw [e], fun q' hq hfq => ?_⟩)
          by_cases c : q' = m
          · rw [c, e]
          · exact H q' (by omega) hfq
        · rw [A m hm hf]
    · obtain rfl := ey.trans (nI_1 m)
      refine K _ ?_
      rcases hs with ⟨z, e⟩ | ⟨z, e, H⟩
      · refine Or.inl ⟨?_, e⟩
        have : m ≠ n0 := fun c => by rw [c, hf0] at hf; exact absurd hf (by decide)
        omega
      · refine Or.inr ⟨by omega, e, fun q hq hfq => ?_⟩
        by_cases c : q = m
        · rw [c, hf] at hfq; exact absurd hfq (by decide)
        · exact H q (by omega) hfq
end
theorem i_vc_common {k : Nat} {u : SX} {v : SY} (I : i_Rel k u v) (hk : k + 5 ≤ 2564) (v1 : Int32) : wpX_common (fun r => wpY_common (fun r' => r' = r ∧ i_Rel (k + 5) u v) v v1) u v1 := by
  refine pv_el (P := fun u v => wpX_common (fun r => wpY_common (fun r' => r' = r ∧ i_Rel (k + 5) u v) v v1) u v1) ?_ I
  intro NI NV D FK L f_allLanes f_firstLanes f_oddLanes f_sevenNodes f_tainted f_echoSome f_candidateSome f_bits f_proposalSome f_proposalOne f_strong f_corrupted f_valueLanes f_echoLanes f_exchangeLanes f_proposeLanes f_kingLanes f_kingBits f_dueSome f_sum0 f_sum1 f_sum2 f_ledgerHead f_ledgerSize a_rounds a_planes a_policies a_dictSet a_dictSome a_dictPlanes a_splitPlanes a_duePlanes a_sentSome a_sentPlanes a_match a_ledgerInstance a_ledgerValue a_ledgerTainted g_bc b_tn b_mem b_dic b_pol b_book b_msg H
  have HR : i_Rel (k + 5) (f_allLanes, f_firstLanes, f_oddLanes, f_sevenNodes, nI NI, nI NV, nI D, nI FK, f_tainted, f_echoSome, f_candidateSome, f_bits, f_proposalSome, f_proposalOne, f_strong, f_corrupted, f_valueLanes, f_echoLanes, f_exchangeLanes, f_proposeLanes, f_kingLanes, f_valueLanes ||| f_echoLanes, (f_exchangeLanes ||| f_proposeLanes) ||| f_kingLanes, (f_valueLanes ||| f_echoLanes) ||| ((f_exchangeLanes ||| f_proposeLanes) ||| f_kingLanes), f_kingBits, f_dueSome, f_sum0, f_sum1, f_sum2, f_ledgerHead, f_ledgerSize, a_rounds, a_planes, a_policies, a_dictSet, a_dictSome, a_dictPlanes, a_splitPlanes, a_duePlanes, a_sentSome, a_sentPlanes, a_match, a_ledgerInstance, a_ledgerValue, a_ledgerTainted) (nI NI, nI NV, nI D, nI FK, g_bc, a_rounds, b_tn, b_mem, b_dic, b_pol, b_book, b_msg) := pv_mkR H
  obtain ⟨⟨N1, N2, N3, N4, N5, N6⟩, hk, HM, HD, HC, HT, HLN, HS, HX, HY⟩ := H
  unfold wpX_common wpY_common
  rcases pv_csI v1 (N := NI) (by omega) with ⟨i, hi, rfl⟩ | hb
  · have i4 : i < 4 := by omega
    have hv : vp_in (nI i) 4 := vp_in_nI i4 (by decide)
    have hc : (nI i).toNatClampNeg = i := nI_clamp (by omega)
    refine xw_biY N2 hi (br_t rfl ⟨hv, ?_⟩)
    rw [hc]
    refine br_c (fun z => ?_) (fun z => ?_)
    · intro x2 e2
      rw [pv_8'] at e2
      subst e2
      intro x3 e3 x4 e4
      subst e3 e4
      obtain ⟨t1, t2⟩ := HT i hi
      have h7 := pv_lw_ne t2
      have hle := pv_lw_le (b_tn i) 7
      obtain ⟨s1, s2⟩ := pv_lw_sp (b_tn i) 7 (Nat.le_refl _)
      have hn0 : pv_lw (b_tn i) 7 < 7 := by omega
      have hz : ¬ a_rounds i < 2 := Int32.not_lt.mpr z
      have hw (n : Nat) (hn : n < 7) : pv_w f_bits f_candidateSome a_planes D i n < 16 ∧ pv_hy b_mem (nI D) i n = nI (pv_w f_bits f_candidateSome a_planes D i n) := ⟨pv_w_lt _ _ _ (by omega) _ _, by rw [pv_held hn hz (HM i hi)]; exact pv_w_hx _ _ _ _ _ _⟩
      have Y (r : Int32) (h1 : pv_AE (b_tn i) (pv_w f_bits f_candidateSome a_planes D i) (pv_w f_bits f_candidateSome a_planes D i (pv_lw (b_tn i) 7)) → nI (pv_w f_bits f_candidateSome a_planes D i (pv_lw (b_tn i) 7)) = r) (h2 : ¬ pv_AE (b_tn i) (pv_w f_bits f_candidateSome a_planes D i) (pv_w f_bits f_candidateSome a_planes D i (pv_lw (b_tn i) 7)) → -1 = r) : wpY_common (fun r' => r' = r ∧ i_Rel (k + 5) (f_allLanes, f_firstLanes, f_oddLanes, f_sevenNodes, nI NI, nI NV, nI D, nI FK, f_tainted, f_echoSome, f_candidateSome, f_bits, f_proposalSome, f_proposalOne, f_strong, f_corrupted, f_valueLanes, f_echoLanes, f_exchangeLanes, f_proposeLanes, f_kingLanes, f_valueLanes ||| f_echoLanes, (f_exchangeLanes ||| f_proposeLanes) ||| f_kingLanes, (f_valueLanes ||| f_echoLanes) ||| ((f_exchangeLanes ||| f_proposeLanes) ||| f_kingLanes), f_kingBits, f_dueSome, f_sum0, f_sum1, f_sum2, f_ledgerHead, f_ledgerSize, a_rounds, a_planes, a_policies, a_dictSet, a_dictSome, a_dictPlanes, a_splitPlanes, a_duePlanes, a_sentSome, a_sentPlanes, a_match, a_ledgerInstance, a_ledgerValue, a_ledgerTainted) (nI NI, nI NV, nI D, nI FK, g_bc, a_rounds, b_tn, b_mem, b_dic, b_pol, b_book, b_msg)) (nI NI, nI NV, nI D, nI FK, g_bc, a_rounds, b_tn, b_mem, b_dic, b_pol, b_book, b_msg) (nI i) := by
        unfold wpY_common
        refine yw_biY N2 hi (br_t rfl (yw_hb i4 (hk i i4) (fun _ => br_f pv_01 ?_) (fun q => absurd q hz)))
        exact yw_com i4 hw hn0 (s1 h7) (fun m hm => s2 m (by omega) hm) rfl (fun A => ⟨h1 A, HR⟩) (fun A => ⟨h2 A, HR⟩)
      refine xw_com (T := b_tn i) i4 (by omega) t1 hn0 (s1 h7) rfl (fun A => ?_) (fun A => ?_)
      · exact Y _ (fun _ => rfl) (fun B => absurd A B)
      · exact Y _ (fun B => absurd B A) (fun _ => rfl)
    · have hz : a_rounds i < 2 := Int32.not_le.mp z
      exact yw_biY N2 hi (br_t rfl (yw_hb i4 (hk i i4) (fun q => absurd hz q) (fun _ => br_t rfl ⟨rfl, HR⟩)))
  · exact xw_biN hb (br_f pv_01 (yw_biN hb (br_f pv_01 ⟨rfl, HR⟩)))
end
section
/-! setInput, start, clear, setPolicy, heal -/
theorem pv_RM_pl {NV : Nat} {x : Int32} {j : Nat} {es cs b ps po st : Int32} {pl pl' mem mem' : Nat → Int32} (h : pv_RM NV x j es cs b ps po st pl mem) (h0 : ∀ n, n < 7 → mem' (pv_mx j n 0) = nI (pv_rd pl' 0 (8 * j + n)) ∧ pv_rd pl' 0 (8 * j + n) < NV) (h4 : ∀ n, n < 7 → pv_rd pl' 4 (8 * j + n) = pv_rd pl 4 (8 * j + n)) (h8 : ∀ n, n < 7 → pv_rd pl' 8 (8 * j + n) = pv_rd pl 8 (8 * j + n)) (hm : ∀ n, n < 7 → ∀ k, 1 ≤ k → k < 6 → mem' (pv_mx j n k) = mem (pv_mx j n k)) : pv_RM NV x j es cs b ps po st pl' mem' := by
  intro n hn
  obtain ⟨_, h1, h2, h4', h5⟩ := h n hn
  refine ⟨h0 n hn, ?_, ?_, ?_, ?_⟩
  · dsimp only; rw [hm n hn 1 (by decide) (by decide), h4 n hn]; exact h1
  · dsimp only; rw [hm n hn 2 (by decide) (by decide), hm n hn 3 (by decide) (by decide), h8 n hn]; exact h2
  · dsimp only; rw [hm n hn 4 (by decide) (by decide)]; exact h4'
  · dsimp only; rw [hm n hn 5 (by decide) (by decide)]; exact h5
theorem pv_RM_0 {NV : Nat} {x : Int32} {j : Nat} {es cs b ps po st : Int32} {pl mem : Nat → Int32} (hx : ¬ x = 1) (hx2 : x < 2) (hp : pv_ip x = false) (hk : pv_ik x = false) (h0 : ∀ n, n < 7 → mem (pv_mx j n 0) = nI (pv_rd pl 0 (8 * j + n)) ∧ pv_rd pl 0 (8 * j + n) < NV) : pv_RM NV x j es cs b ps po st pl mem := by
  intro n hn
  refine ⟨h0 n hn, fun z => absurd z hx, fun z => absurd hx2 z, fun z => ?_, fun z => ?_⟩
  · rw [hp] at z; exact absurd z (by decide)
  · rw [hk] at z; exact absurd z (by decide)
theorem pv_wv0 (a : Nat → Int32) (L : Int32) {v l : Nat} (hv : v < 16) (hl : l < 32) : pv_rd (pv_wv a 0 L (nI v)) 0 l = if bt L l then v else pv_rd a 0 l := pv_wv_rd a 0 L hv hl
theorem pv_wv4 (a : Nat → Int32) (L V : Int32) (l : Nat) : pv_rd (pv_wv a 0 L V) 4 l = pv_rd a 4 l := pv_wv_ot (F := 0) (G := 1) a L V (by decide) l
theorem pv_wv8 (a : Nat → Int32) (L V : Int32) (l : Nat) : pv_rd (pv_wv a 0 L V) 8 l = pv_rd a 8 l := pv_wv_ot (F := 0) (G := 2) a L V (by decide) l
theorem pv_tw_b (t : Int32) {i : Nat} (hi : i < 4) (n : Nat) : bt (pv_tw t i) n = (decide (n < 7) && bt t (8 * i + n)) := pv_get t hi n
theorem pv_tw_cg {t t' : Int32} {i : Nat} (hi : i < 4) (h : ∀ n, n < 7 → bt t' (8 * i + n) = bt t (8 * i + n)) : pv_tw t' i = pv_tw t i := by
  apply b_ext
  intro n hn
  rw [pv_tw_b _ hi, pv_tw_b _ hi]
  by_cases c : n < 7
  · rw [h n c]
  · rw [decide_eq_false c]; rfl
section
variable {g_ins g_val g_def g_fk g_bc : Int32} {b_rd b_tn b_mem b_dic b_pol b_book b_msg : Nat → Int32}
theorem yw_si {post : Int32 → SY → Prop} {i : Nat} {mask val : Int32} (hi : i < 4) (h : ∀ mem, (∀ q, q < 7 → mem (pv_mx i q 0) = if bt mask q then val else b_mem (pv_mx i q 0)) → (∀ j, (∀ q, q < 7 → j ≠ pv_mx i q 0) → mem j = b_mem j) → post 0 (g_ins, g_val, g_def, g_fk, g_bc, b_rd, b_tn, mem, b_dic, b_pol, b_book, b_msg)) : ∃ n, wY_setInput_52 post (nI i) mask val g_ins g_val g_def g_fk g_bc n 0 b_rd b_tn b_mem b_dic b_pol b_book b_msg := by
  refine pv_l1 (fun n m s => wY_setInput_52 post (nI i) mask val g_ins g_val g_def g_fk g_bc n (nI m) b_rd b_tn s b_dic b_pol b_book b_msg) (fun m s => (∀ q, q < 7 → s (pv_mx i q 0) = if q < m ∧ bt mask q = true then val else b_mem (pv_mx i q 0)) ∧ (∀ j, (∀ q, q < 7 → j ≠ pv_mx i q 0) → s j = b_mem j)) 7 b_mem ⟨fun q _ => by rw [if_neg (by omega)], fun j _ => rfl⟩ ?_ ?_
  · rintro n s ⟨h1, h2⟩
    refine br_t pv_77 (h s (fun q hq => ?_) h2)
    rw [h1 q hq]
    cases bt mask q
    · rw [if_neg (fun z => absurd z.2 (by decide)), if_neg pv_ft]
    · rw [if_pos ⟨hq, rfl⟩, if_pos rfl]
  · rintro n m s hm ⟨h1, h2⟩ K
    have hix : (nI i * 7 + nI m) * 6 + 0 = nI (pv_mx i m 0) := by rw [pv_i76]; exact pv_aM i m 0
    refine br_f (pv_n7 hm) (pv_c1 (by omega) (fun z => ⟨by rw [hix]; exact pv_inM hi hm (by decide) rfl, fun s' es x ex => ?_⟩) (fun z x ex => ?_))
    · obtain rfl := ex.trans (nI_1 m)
      rw [hix, pv_clM hi hm (by decide) rfl] at es
      subst es
      refine K _ ⟨fun q hq => ?_, fun j hj => ?_⟩
      · by_cases c : q = m
        · subst c; rw [pk_us, if_pos ⟨by omega, z⟩]
        · rw [pk_un (by unfold pv_mx; omega), h1 q hq]
          by_cases d : q < m ∧ bt mask q = true
          · rw [if_pos d, if_pos ⟨by omega, d.2⟩]
          · rw [if_neg d, if_neg (fun y => d ⟨by omega, y.2⟩)]
      · rw [pk_un (hj m hm)]; exact h2 j hj
    · obtain rfl := ex.trans (nI_1 m)
      refine K _ ⟨fun q hq => ?_, h2⟩
      rw [h1 q hq]
      by_cases d : q < m ∧ bt mask q = true
      · rw [if_pos d, if_pos ⟨by omega, d.2⟩]
      · rw [if_neg d, if_neg (fun y => d ⟨?_, y.2⟩)]
        have : q ≠ m := fun c => by rw [c, z] at y; exact absurd y.2 (by decide)
        omega
def pv_stt (pol : Nat → Int32) : Nat → Int32
  | 0 => 0
  | n + 1 => if pol n = -1 then pv_stt pol n else pv_stt pol n ||| ((1 : Int32) <<< (nI n &&& 31))
theorem pv_stt_b (pol : Nat → Int32) {j : Nat} (hj : j < 32) : ∀ m, m ≤ 7 → bt (pv_stt pol m) j = (decide (j < m) && !decide (pol j = -1))
  | 0, _ => by show bt 0 j = _; rw [b_0, decide_eq_false (by omega)]; rfl
  | m + 1, hm => by
    have e : pv_stt pol (m + 1) = if pol m = -1 then pv_stt pol m else pv_stt pol m ||| ((1 : Int32) <<< (nI m &&& 31)) := rfl
    have ih := pv_stt_b pol hj m (by omega)
    rw [e]
    by_cases c : pol m = -1
    · rw [if_pos c, ih]
      rcases Nat.lt_trichotomy j m with z | z | z
      · rw [decide_eq_true z, decide_eq_true (by omega : j < m + 1)]
      · subst z; rw [decide_eq_false (by omega : ¬ j < j), decide_eq_true c]; simp
      · rw [decide_eq_false (by omega : ¬ j < m), decide_eq_false (by omega : ¬ j < m + 1)]
    · rw [if_neg c, b_or, ih, pv_one m (by omega) j hj]
      rcases Nat.lt_trichotomy j m with z | z | z
      · rw [decide_eq_true z, decide_eq_true (by omega : j < m + 1), decide_eq_false (by omega : ¬ j = m)]; simp
      · subst z; rw [decide_eq_false (by omega : ¬ j < j), decide_eq_true (by omega : j < j + 1), decide_eq_true rfl, decide_eq_false c]; rfl
      · rw [decide_eq_false (by omega : ¬ j < m), decide_eq_false (by omega : ¬ j < m + 1), decide_eq_false (by omega : ¬ j = m)]; rfl
theorem yw_st {post : Int32 → SY → Prop} {i : Nat} (hi : i < 4) (h : post 0 (g_ins, g_val, g_def, g_fk, g_bc, b_rd, upd b_tn i (pv_stt b_pol 7), b_mem, b_dic, b_pol, b_book, b_msg)) : ∃ n, wY_start_40 post (nI i) g_ins g_val g_def g_fk g_bc n 0 b_rd (upd b_tn i 0) b_mem b_dic b_pol b_book b_msg := by
  have hv : vp_in (nI i) 4 := vp_in_nI hi (by decide)
  have hc : (nI i).toNatClampNeg = i := nI_clamp (by omega)
  refine pv_l1 (fun n m s => wY_start_40 post (nI i) g_ins g_val g_def g_fk g_bc n (nI m) b_rd s b_mem b_dic b_pol b_book b_msg) (fun m s => s = upd b_tn i (pv_stt b_pol m)) 7 (upd b_tn i 0) rfl ?_ ?_
  · rintro n s rfl
    exact br_t pv_77 h
  · rintro n m s hm rfl K
    have e : pv_stt b_pol (m + 1) = if b_pol m = -1 then pv_stt b_pol m else pv_stt b_pol m ||| ((1 : Int32) <<< (nI m &&& 31)) := rfl
    refine br_f (pv_n7 hm) ⟨vp_in_nI hm (by decide), ?_⟩
    rw [nI_clamp (by omega : m < 2 ^ 31)]
    refine br_c (fun z x ex => ?_) (fun z => ⟨hv, hv, fun s' es x ex => ?_⟩)
    · obtain rfl := ex.trans (nI_1 m)
      exact K _ (by rw [e, if_pos z])
    · obtain rfl := ex.trans (nI_1 m)
      refine K _ ?_
      rw [es, hc, pk_us, pv_uu, e, if_neg z]
theorem yw_cl {post : Int32 → SY → Prop} {i : Nat} (hi : i < 4) (h : ∀ mem, (∀ q, q < 7 → mem (pv_mx i q 0) = 0) → (∀ j, (∀ q, q < 7 → j ≠ pv_mx i q 0) → mem j = b_mem j) → post 0 (g_ins, g_val, g_def, g_fk, g_bc, b_rd, b_tn, mem, pv_bl (i * 49) (fun _ => -2) b_dic 49, b_pol, b_book, b_msg)) : ∃ n, wY_clear_27 post (nI i) g_ins g_val g_def g_fk g_bc n 0 b_rd b_tn b_mem b_dic b_pol b_book b_msg := by
  refine pv_l1 (fun n m s => wY_clear_27 post (nI i) g_ins g_val g_def g_fk g_bc n (nI m) b_rd b_tn s b_dic b_pol b_book b_msg) (fun m s => (∀ q, q < m → s (pv_mx i q 0) = 0) ∧ (∀ j, (∀ q, q < 7 → j ≠ pv_mx i q 0) → s j = b_mem j)) 7 b_mem ⟨fun q hq => by omega, fun j _ => rfl⟩ ?_ ?_
  · rintro n s ⟨h1, h2⟩
    refine br_t pv_77 ?_
    refine pv_l1 (fun n k d => wY_clear_58 post (nI i) g_ins g_val g_def g_fk g_bc n (nI k) b_rd b_tn s d b_pol b_book b_msg) (fun k d => d = pv_bl (i * 49) (fun _ => -2) b_dic k) 49 b_dic (pv_bl0 _ _ _).symm ?_ ?_
    · rintro n d rfl
      exact br_t (by decide +kernel) (h s h1 h2)
    · rintro n k d hk rfl K
      refine br_f (nI_ge (b := 49) hk (by decide)) ⟨by rw [pv_i49]; exact vp_in_nI (by omega) (by decide), fun d' ed x ex => ?_⟩
      obtain rfl := ex.trans (nI_1 k)
      refine K d' ?_
      rw [ed, pv_i49, nI_clamp (by omega : i * 49 + k < 2 ^ 31)]
      exact pv_bls _ _ _ _ rfl
  · rintro n m s hm ⟨h1, h2⟩ K
    have hix : (nI i * 7 + nI m) * 6 + 0 = nI (pv_mx i m 0) := by rw [pv_i76]; exact pv_aM i m 0
    refine br_f (pv_n7 hm) ⟨by rw [hix]; exact pv_inM hi hm (by decide) rfl, fun s' es x ex => ?_⟩
    obtain rfl := ex.trans (nI_1 m)
    rw [hix, pv_clM hi hm (by decide) rfl] at es
    subst es
    refine K _ ⟨fun q hq => ?_, fun j hj => ?_⟩
    · by_cases c : q = m
      · subst c; rw [pk_us]
      · rw [pk_un (by unfold pv_mx; omega)]; exact h1 q (by omega)
    · rw [pk_un (hj m hm)]; exact h2 j hj
theorem yw_hl {post : Int32 → SY → Prop} {g : Nat} (hg : g < 7) (h : ∀ dic, (∀ i, i < 4 → ∀ f, f < 7 → ∀ r, r < 7 → dic (pv_dx i f r) = if f = g then -2 else b_dic (pv_dx i f r)) → post 0 (g_ins, g_val, g_def, g_fk, g_bc, b_rd, b_tn, b_mem, dic, b_pol, b_book, b_msg)) : ∃ n, wY_heal_33 post (nI g) g_ins g_val g_def g_fk g_bc n 0 b_rd b_tn b_mem b_dic b_pol b_book b_msg := by
  refine pv_l1 (fun n i s => wY_heal_33 post (nI g) g_ins g_val g_def g_fk g_bc n (nI i) b_rd b_tn b_mem s b_pol b_book b_msg) (fun i s => ∀ j, j < 4 → ∀ f, f < 7 → ∀ r, r < 7 → s (pv_dx j f r) = if j < i ∧ f = g then -2 else b_dic (pv_dx j f r)) 4 b_dic (fun j _ f _ r _ => by rw [if_neg (by omega)]) ?_ ?_
  · intro n s H
    refine br_t pv_44 (h s (fun i hi f hf r hr => ?_))
    rw [H i hi f hf r hr]
    by_cases c : f = g
    · rw [if_pos ⟨hi, c⟩, if_pos c]
    · rw [if_neg (fun z => c z.2), if_neg c]
  · intro n i s hi H K
    refine br_f (pv_n4 hi) ?_
    refine pv_l1 (fun m r s => wY_heal_40 post (wY_heal_33 post (nI g) g_ins g_val g_def g_fk g_bc n) (nI g) (nI i) g_ins g_val g_def g_fk g_bc m (nI r) b_rd b_tn b_mem s b_pol b_book b_msg) (fun r s => ∀ j, j < 4 → ∀ f, f < 7 → ∀ q, q < 7 → s (pv_dx j f q) = if (j < i ∨ (j = i ∧ q < r)) ∧ f = g then -2 else b_dic (pv_dx j f q)) 7 s (fun j hj f hf q hq => ?_) ?_ ?_
    · rw [H j hj f hf q hq]
      by_cases c : j < i ∧ f = g
      · rw [if_pos c, if_pos ⟨Or.inl c.1, c.2⟩]
      · rw [if_neg c, if_neg (fun z => c ⟨by omega, z.2⟩)]
    · intro m s2 H2
      refine br_t pv_77 (fun x ex => ?_)
      obtain rfl := ex.trans (nI_1 i)
      refine K s2 (fun j hj f hf q hq => ?_)
      rw [H2 j hj f hf q hq]
      by_cases c : j < i + 1 ∧ f = g
      · rw [if_pos c, if_pos ⟨by omega, c.2⟩]
      · rw [if_neg c, if_neg (fun z => c ⟨by omega, z.2⟩)]
    · intro m r s2 hr H2 K2
      refine br_f (pv_n7 hr) ⟨pv_inD hi hg hr (pv_i77 i g r), fun s3 e3 x ex => ?_⟩
      obtain rfl := ex.trans (nI_1 r)
      rw [pv_clD hi hg hr (pv_i77 i g r)] at e3
      subst e3
      refine K2 _ (fun j hj f hf q hq => ?_)
      by_cases c : j = i ∧ f = g ∧ q = r
      · obtain ⟨rfl, rfl, rfl⟩ := c
        rw [pk_us, if_pos ⟨Or.inr ⟨rfl, by omega⟩, rfl⟩]
      · rw [pk_un (by unfold pv_dx; omega), H2 j hj f hf q hq]
        by_cases d : (j < i ∨ (j = i ∧ q < r)) ∧ f = g
        · rw [if_pos d, if_pos ⟨by omega, d.2⟩]
        · rw [if_neg d, if_neg (fun z => d ⟨by omega, z.2⟩)]
end
end
section
theorem pv_rkm : pv_rk (-1) := Or.inl rfl
theorem pv_rk0 : pv_rk 0 := Or.inr ⟨0, by decide, rfl⟩
theorem pv_rku {rd : Nat → Int32} (hk : ∀ i, i < 4 → pv_rk (rd i)) {x : Int32} (hx : pv_rk x) (i : Nat) : ∀ j, j < 4 → pv_rk (upd rd i x j) := by
  intro j hj
  by_cases c : j = i
  · subst c; rw [pk_us]; exact hx
  · rw [pk_un c]; exact hk j hj
section
variable {f_allLanes f_firstLanes f_oddLanes f_sevenNodes f_instances f_values f_defaultValue f_firstKing f_tainted f_echoSome f_candidateSome f_bits f_proposalSome f_proposalOne f_strong f_corrupted f_valueLanes f_echoLanes f_exchangeLanes f_proposeLanes f_kingLanes f_wideLanes f_narrowLanes f_runningLanes f_kingBits f_dueSome f_sum0 f_sum1 f_sum2 f_ledgerHead f_ledgerSize : Int32} {a_rounds a_planes a_policies a_dictSet a_dictSome a_dictPlanes a_splitPlanes a_duePlanes a_sentSome a_sentPlanes a_match a_ledgerInstance a_ledgerValue a_ledgerTainted : Nat → Int32}
theorem xw_mg {post : Int32 → Prop} {a b c : Int32} (h : post ((a &&& (c ^^^ (-1))) ||| (b &&& c))) : wpX_merge post (f_allLanes, f_firstLanes, f_oddLanes, f_sevenNodes, f_instances, f_values, f_defaultValue, f_firstKing, f_tainted, f_echoSome, f_candidateSome, f_bits, f_proposalSome, f_proposalOne, f_strong, f_corrupted, f_valueLanes, f_echoLanes, f_exchangeLanes, f_proposeLanes, f_kingLanes, f_wideLanes, f_narrowLanes, f_runningLanes, f_kingBits, f_dueSome, f_sum0, f_sum1, f_sum2, f_ledgerHead, f_ledgerSize, a_rounds, a_planes, a_policies, a_dictSet, a_dictSome, a_dictPlanes, a_splitPlanes, a_duePlanes, a_sentSome, a_sentPlanes, a_match, a_ledgerInstance, a_ledgerValue, a_ledgerTainted) a b c := h
end
theorem i_vc_setInput {k : Nat} {u : SX} {v : SY} (I : i_Rel k u v) (hk : k + 5 ≤ 2564) (v1 : Int32) (v2 : Int32) (v3 : Int32) : wpX_setInput (fun r u' => wpY_setInput (fun r' v' => r' = r ∧ i_Rel (k + 5) u' v') v v1 v2 v3) u v1 v2 v3 := by
  refine pv_el (P := fun u v => wpX_setInput (fun r u' => wpY_setInput (fun r' v' => r' = r ∧ i_Rel (k + 5) u' v') v v1 v2 v3) u v1 v2 v3) ?_ I
  intro NI NV D FK L f_allLanes f_firstLanes f_oddLanes f_sevenNodes f_tainted f_echoSome f_candidateSome f_bits f_proposalSome f_proposalOne f_strong f_corrupted f_valueLanes f_echoLanes f_exchangeLanes f_proposeLanes f_kingLanes f_kingBits f_dueSome f_sum0 f_sum1 f_sum2 f_ledgerHead f_ledgerSize a_rounds a_planes a_policies a_dictSet a_dictSome a_dictPlanes a_splitPlanes a_duePlanes a_sentSome a_sentPlanes a_match a_ledgerInstance a_ledgerValue a_ledgerTainted g_bc b_tn b_mem b_dic b_pol b_book b_msg H
  have HR : i_Rel (k + 5) (f_allLanes, f_firstLanes, f_oddLanes, f_sevenNodes, nI NI, nI NV, nI D, nI FK, f_tainted, f_echoSome, f_candidateSome, f_bits, f_proposalSome, f_proposalOne, f_strong, f_corrupted, f_valueLanes, f_echoLanes, f_exchangeLanes, f_proposeLanes, f_kingLanes, f_valueLanes ||| f_echoLanes, (f_exchangeLanes ||| f_proposeLanes) ||| f_kingLanes, (f_valueLanes ||| f_echoLanes) ||| ((f_exchangeLanes ||| f_proposeLanes) ||| f_kingLanes), f_kingBits, f_dueSome, f_sum0, f_sum1, f_sum2, f_ledgerHead, f_ledgerSize, a_rounds, a_planes, a_policies, a_dictSet, a_dictSome, a_dictPlanes, a_splitPlanes, a_duePlanes, a_sentSome, a_sentPlanes, a_match, a_ledgerInstance, a_ledgerValue, a_ledgerTainted) (nI NI, nI NV, nI D, nI FK, g_bc, a_rounds, b_tn, b_mem, b_dic, b_pol, b_book, b_msg) := pv_mkR H
  obtain ⟨⟨N1, N2, N3, N4, N5, N6⟩, hk, HM, HD, HC, HT, HLN, HS, HX, HY⟩ := H
  unfold wpX_setInput wpY_setInput
  rcases pv_csI v1 (N := NI) (by omega) with ⟨i, hi, rfl⟩ | hb
  · have i4 : i < 4 := by omega
    have hv : vp_in (nI i) 4 := vp_in_nI i4 (by decide)
    have hc : (nI i).toNatClampNeg = i := nI_clamp (by omega)
    refine xw_biY N2 hi (br_t rfl (br_c (fun z => ?_) (fun z => br_c (fun y => ?_) (fun y => br_c (fun w => ⟨hv, ?_⟩) (fun w => ?_)))))
    · exact yw_biY N2 hi (br_t rfl (br_t z ⟨rfl, HR⟩))
    · exact yw_biY N2 hi (br_t rfl (br_f z (br_t y ⟨rfl, HR⟩)))
    · obtain ⟨a, ha, rfl⟩ := nI_of y
      have haV : a < NV := (nI_ltI ha (by omega)).mp w
      refine br_c (fun q => ?_) (fun q => ?_)
      · refine xw_wv (F := 0) (by decide) ?_
        refine yw_biY N2 hi (br_t rfl (br_f z (br_f y (br_t w ⟨hv, br_t q (yw_si i4 ?_)⟩))))
        intro mem h1 h2
        refine ⟨rfl, pv_mkR ⟨⟨N1, N2, N3, N4, N5, N6⟩, hk, fun j hj => ?_, HD, HC, HT, HLN, HS, HX, HY⟩⟩
        refine pv_RM_pl (HM j hj) (fun n hn => ?_) (fun n hn => pv_wv4 _ _ _ _) (fun n hn => pv_wv8 _ _ _ _) (fun n hn k' hk1 hk6 => ?_)
        · obtain ⟨⟨m0, m0'⟩, _⟩ := HM j hj n hn
          rw [pv_wv0 _ _ (by omega) (by omega), pv_lay _ i4 (by omega) (by omega), decide_eq_true hn, Bool.true_and]
          by_cases c : j = i
          · subst c
            rw [decide_eq_true rfl, Bool.true_and, h1 n hn]
            cases bt v2 n
            · rw [if_neg pv_ft, if_neg pv_ft]; exact ⟨m0, m0'⟩
            · rw [if_pos rfl, if_pos rfl]; exact ⟨rfl, haV⟩
          · rw [decide_eq_false c, Bool.false_and, if_neg pv_ft, h2 _ (fun q hq => by unfold pv_mx; omega)]
            exact ⟨m0, m0'⟩
        · exact h2 _ (fun q hq => by unfold pv_mx; omega)
      · exact yw_biY N2 hi (br_t rfl (br_f z (br_f y (br_t w ⟨hv, br_f q ⟨rfl, HR⟩⟩))))
    · exact yw_biY N2 hi (br_t rfl (br_f z (br_f y (br_f w ⟨rfl, HR⟩))))
  · exact xw_biN hb (br_f pv_01 (yw_biN hb (br_f pv_01 ⟨rfl, HR⟩)))
theorem i_vc_start {k : Nat} {u : SX} {v : SY} (I : i_Rel k u v) (hk : k + 5 ≤ 2564) (v1 : Int32) : wpX_start (fun r u' => wpY_start (fun r' v' => r' = r ∧ i_Rel (k + 5) u' v') v v1) u v1 := by
  refine pv_el (P := fun u v => wpX_start (fun r u' => wpY_start (fun r' v' => r' = r ∧ i_Rel (k + 5) u' v') v v1) u v1) ?_ I
  intro NI NV D FK L f_allLanes f_firstLanes f_oddLanes f_sevenNodes f_tainted f_echoSome f_candidateSome f_bits f_proposalSome f_proposalOne f_strong f_corrupted f_valueLanes f_echoLanes f_exchangeLanes f_proposeLanes f_kingLanes f_kingBits f_dueSome f_sum0 f_sum1 f_sum2 f_ledgerHead f_ledgerSize a_rounds a_planes a_policies a_dictSet a_dictSome a_dictPlanes a_splitPlanes a_duePlanes a_sentSome a_sentPlanes a_match a_ledgerInstance a_ledgerValue a_ledgerTainted g_bc b_tn b_mem b_dic b_pol b_book b_msg H
  have HR : i_Rel (k + 5) (f_allLanes, f_firstLanes, f_oddLanes, f_sevenNodes, nI NI, nI NV, nI D, nI FK, f_tainted, f_echoSome, f_candidateSome, f_bits, f_proposalSome, f_proposalOne, f_strong, f_corrupted, f_valueLanes, f_echoLanes, f_exchangeLanes, f_proposeLanes, f_kingLanes, f_valueLanes ||| f_echoLanes, (f_exchangeLanes ||| f_proposeLanes) ||| f_kingLanes, (f_valueLanes ||| f_echoLanes) ||| ((f_exchangeLanes ||| f_proposeLanes) ||| f_kingLanes), f_kingBits, f_dueSome, f_sum0, f_sum1, f_sum2, f_ledgerHead, f_ledgerSize, a_rounds, a_planes, a_policies, a_dictSet, a_dictSome, a_dictPlanes, a_splitPlanes, a_duePlanes, a_sentSome, a_sentPlanes, a_match, a_ledgerInstance, a_ledgerValue, a_ledgerTainted) (nI NI, nI NV, nI D, nI FK, g_bc, a_rounds, b_tn, b_mem, b_dic, b_pol, b_book, b_msg) := pv_mkR H
  obtain ⟨⟨N1, N2, N3, N4, N5, N6⟩, hk, HM, HD, HC, HT, HLN, HS, HX, HY⟩ := H
  unfold wpX_start wpY_start
  rcases pv_csI v1 (N := NI) (by omega) with ⟨i, hi, rfl⟩ | hb
  · have i4 : i < 4 := by omega
    have hv : vp_in (nI i) 4 := vp_in_nI i4 (by decide)
    have hc : (nI i).toNatClampNeg = i := nI_clamp (by omega)
    refine xw_biY N2 hi (br_t rfl ⟨hv, br_c (fun q => ⟨hv, fun rd' erd => ?_⟩) (fun q => ?_)⟩)
    · rw [hc] at erd
      subst erd
      refine xw_mg ?_
      refine xw_sl N2 N6 (pv_rku hk pv_rk0 i) ?_
      intro v e x p k' b HLN'
      refine yw_biY N2 hi (br_t rfl ⟨hv, br_t q ⟨hv, fun rd2 erd2 => ⟨hv, fun tn2 etn => ?_⟩⟩⟩)
      rw [hc] at erd2 etn
      subst erd2 etn
      refine yw_st i4 ⟨rfl, pv_mkR ⟨⟨N1, N2, N3, N4, N5, N6⟩, pv_rku hk pv_rk0 i, fun j hj => ?_, fun j hj => ?_, HC, fun j hj => ?_, HLN', HS, HX, HY⟩⟩
      · by_cases c : j = i
        · subst c
          rw [pk_us]
          exact pv_RM_0 (by decide) (by decide) (by decide) (by decide) (fun n hn => (HM j hj n hn).1)
        · rw [pk_un c]; exact HM j hj
      · by_cases c : j = i
        · subst c
          rw [pk_us]
          intro f hf n hn
          exact ⟨(HD j hj f hf n hn).1, fun z => absurd (by decide) z⟩
        · rw [pk_un c]; exact HD j hj
      · obtain ⟨C1, C2, C3, C4⟩ := HC
        by_cases c : j = i
        · subst c
          rw [pk_us]
          have eb (n : Nat) (hn : n < 7) : bt (pv_stt b_pol 7) n = bt f_corrupted n := by
            rw [pv_stt_b b_pol (by omega) 7 (Nat.le_refl _), decide_eq_true hn, C1 n hn]; rfl
          refine ⟨?_, ?_⟩
          · apply b_ext
            intro n hn
            rw [pv_tw_b _ i4]
            by_cases c : n < 7
            · rw [eb n c, decide_eq_true c, Bool.true_and, pv_mg _ _ _ (by omega), pv_127 j i4 j i4 n (by omega), decide_eq_true rfl, decide_eq_true c, pv_shl8 _ i4 (by omega)]
              rfl
            · rw [pv_stt_b b_pol hn 7 (Nat.le_refl _), decide_eq_false c]; rfl
          · rw [pv_cn_cg (q := fun n => bt f_corrupted n) eb]; exact C4
        · rw [pk_un c]
          obtain ⟨t1, t2⟩ := HT j hj
          refine ⟨t1.trans (pv_tw_cg (by omega) (fun n hn => ?_)).symm, t2⟩
          rw [pv_mg _ _ _ (by omega), pv_127 i i4 j (by omega) n (by omega), decide_eq_false c]
          rfl
    · exact yw_biY N2 hi (br_t rfl ⟨hv, br_f q ⟨rfl, HR⟩⟩)
  · exact xw_biN hb (br_f pv_01 (yw_biN hb (br_f pv_01 ⟨rfl, HR⟩)))
theorem i_vc_clear {k : Nat} {u : SX} {v : SY} (I : i_Rel k u v) (hk : k + 5 ≤ 2564) (v1 : Int32) : wpX_clear (fun r u' => wpY_clear (fun r' v' => r' = r ∧ i_Rel (k + 5) u' v') v v1) u v1 := by
  refine pv_el (P := fun u v => wpX_clear (fun r u' => wpY_clear (fun r' v' => r' = r ∧ i_Rel (k + 5) u' v') v v1) u v1) ?_ I
  intro NI NV D FK L f_allLanes f_firstLanes f_oddLanes f_sevenNodes f_tainted f_echoSome f_candidateSome f_bits f_proposalSome f_proposalOne f_strong f_corrupted f_valueLanes f_echoLanes f_exchangeLanes f_proposeLanes f_kingLanes f_kingBits f_dueSome f_sum0 f_sum1 f_sum2 f_ledgerHead f_ledgerSize a_rounds a_planes a_policies a_dictSet a_dictSome a_dictPlanes a_splitPlanes a_duePlanes a_sentSome a_sentPlanes a_match a_ledgerInstance a_ledgerValue a_ledgerTainted g_bc b_tn b_mem b_dic b_pol b_book b_msg H
  have HR : i_Rel (k + 5) (f_allLanes, f_firstLanes, f_oddLanes, f_sevenNodes, nI NI, nI NV, nI D, nI FK, f_tainted, f_echoSome, f_candidateSome, f_bits, f_proposalSome, f_proposalOne, f_strong, f_corrupted, f_valueLanes, f_echoLanes, f_exchangeLanes, f_proposeLanes, f_kingLanes, f_valueLanes ||| f_echoLanes, (f_exchangeLanes ||| f_proposeLanes) ||| f_kingLanes, (f_valueLanes ||| f_echoLanes) ||| ((f_exchangeLanes ||| f_proposeLanes) ||| f_kingLanes), f_kingBits, f_dueSome, f_sum0, f_sum1, f_sum2, f_ledgerHead, f_ledgerSize, a_rounds, a_planes, a_policies, a_dictSet, a_dictSome, a_dictPlanes, a_splitPlanes, a_duePlanes, a_sentSome, a_sentPlanes, a_match, a_ledgerInstance, a_ledgerValue, a_ledgerTainted) (nI NI, nI NV, nI D, nI FK, g_bc, a_rounds, b_tn, b_mem, b_dic, b_pol, b_book, b_msg) := pv_mkR H
  obtain ⟨⟨N1, N2, N3, N4, N5, N6⟩, hk, HM, HD, HC, HT, HLN, HS, HX, HY⟩ := H
  unfold wpX_clear wpY_clear
  rcases pv_csI v1 (N := NI) (by omega) with ⟨i, hi, rfl⟩ | hb
  · have i4 : i < 4 := by omega
    have hv : vp_in (nI i) 4 := vp_in_nI i4 (by decide)
    have hc : (nI i).toNatClampNeg = i := nI_clamp (by omega)
    refine xw_biY N2 hi (br_t rfl ?_)
    intro lw elw
    refine ⟨hv, fun rd' erd => ?_⟩
    rw [hc] at erd
    subst erd
    have hlw (j : Nat) (hj : j < 4) (n : Nat) (hn : n < 7) : bt lw (8 * j + n) = decide (j = i) := by
      rw [elw, pv_127 i i4 j hj n (by omega), decide_eq_true hn, Bool.and_true]
    clear elw
    refine xw_wv (F := 0) (V := nI 0) (by decide) ?_
    intro tn etn
    refine xw_wd ?_
    refine xw_sl N2 N6 (pv_rku hk pv_rkm i) ?_
    intro v e x p k' b HLN'
    refine yw_biY N2 hi (br_t rfl ⟨hv, fun rd2 erd2 => ⟨hv, fun tn2 etn2 => ?_⟩⟩)
    rw [hc] at erd2 etn2
    subst erd2 etn2
    refine yw_cl i4 ?_
    intro mem h1 h2
    refine ⟨rfl, pv_mkR ⟨⟨N1, N2, N3, N4, N5, N6⟩, pv_rku hk pv_rkm i, fun j hj => ?_, fun j hj => ?_, HC, fun j hj => ?_, HLN', HS, HX, HY⟩⟩
    · by_cases c : j = i
      · subst c
        rw [pk_us]
        refine pv_RM_0 (by decide) (by decide) (by decide) (by decide) (fun n hn => ?_)
        rw [pv_wv0 _ _ (by decide) (by omega), hlw j i4 n hn, decide_eq_true rfl, if_pos rfl]
        exact ⟨h1 n hn, by omega⟩
      · rw [pk_un c]
        refine pv_RM_pl (HM j hj) (fun n hn => ?_) (fun n hn => pv_wv4 _ _ _ _) (fun n hn => pv_wv8 _ _ _ _) (fun n hn k' hk1 hk6 => h2 _ (fun q hq => by unfold pv_mx; omega))
        rw [pv_wv0 _ _ (by decide) (by omega), hlw j (by omega) n hn, decide_eq_false c, if_neg pv_ft, h2 _ (fun q hq => by unfold pv_mx; omega)]
        exact (HM j hj n hn).1
    · intro f hf n hn
      have b1 := pv_mk_b lw a_dictSet (i := 7) (j := f) (l := 8 * j + n) hf (by omega)
      have b2 := pv_mk_b lw a_dictSome (i := 7) (j := f) (l := 8 * j + n) hf (by omega)
      have b3 := pv_mk_rd lw a_dictPlanes (i := 28) (B := 4 * f) (l := 8 * j + n) (by omega) (by omega)
      rw [hlw j (by omega) n hn] at b1 b2 b3
      rw [b1, b2, b3]
      by_cases c : j = i
      · subst c
        rw [decide_eq_true rfl, if_pos rfl]
        refine ⟨?_, fun _ z => absurd z (by decide)⟩
        rw [show pv_dx j f n = j * 49 + (f * 7 + n) by unfold pv_dx; omega, pv_blg (by omega)]
        rfl
      · rw [decide_eq_false c, if_neg pv_ft, if_neg pv_ft, if_neg pv_ft, pk_un c, pv_blo (by unfold pv_dx; omega)]
        exact HD j hj f hf n hn
    · have et (n : Nat) (hn : n < 7) : bt tn (8 * j + n) = if decide (j = i) then false else bt f_tainted (8 * j + n) := by
        rw [etn, pv_cr _ _ (by omega), hlw j (by omega) n hn]
      by_cases c : j = i
      · subst c
        rw [pk_us]
        refine ⟨?_, by decide⟩
        apply b_ext
        intro n hn
        rw [b_0, pv_tw_b _ i4]
        by_cases c : n < 7
        · rw [et n c, decide_eq_true rfl, if_pos rfl, Bool.and_false]
        · rw [decide_eq_false c]; rfl
      · rw [pk_un c]
        obtain ⟨t1, t2⟩ := HT j hj
        refine ⟨t1.trans (pv_tw_cg (by omega) (fun n hn => ?_)).symm, t2⟩
        rw [et n hn, decide_eq_false c, if_neg pv_ft]
  · exact xw_biN hb (br_f pv_01 (yw_biN hb (br_f pv_01 ⟨rfl, HR⟩)))
theorem i_vc_setPolicy {k : Nat} {u : SX} {v : SY} (I : i_Rel k u v) (hk : k + 5 ≤ 2564) (v1 : Int32) (v2 : Int32) : wpX_setPolicy (fun r u' => wpY_setPolicy (fun r' v' => r' = r ∧ i_Rel (k + 5) u' v') v v1 v2) u v1 v2 := by
  refine pv_el (P := fun u v => wpX_setPolicy (fun r u' => wpY_setPolicy (fun r' v' => r' = r ∧ i_Rel (k + 5) u' v') v v1 v2) u v1 v2) ?_ I
  intro NI NV D FK L f_allLanes f_firstLanes f_oddLanes f_sevenNodes f_tainted f_echoSome f_candidateSome f_bits f_proposalSome f_proposalOne f_strong f_corrupted f_valueLanes f_echoLanes f_exchangeLanes f_proposeLanes f_kingLanes f_kingBits f_dueSome f_sum0 f_sum1 f_sum2 f_ledgerHead f_ledgerSize a_rounds a_planes a_policies a_dictSet a_dictSome a_dictPlanes a_splitPlanes a_duePlanes a_sentSome a_sentPlanes a_match a_ledgerInstance a_ledgerValue a_ledgerTainted g_bc b_tn b_mem b_dic b_pol b_book b_msg H
  have HR : i_Rel (k + 5) (f_allLanes, f_firstLanes, f_oddLanes, f_sevenNodes, nI NI, nI NV, nI D, nI FK, f_tainted, f_echoSome, f_candidateSome, f_bits, f_proposalSome, f_proposalOne, f_strong, f_corrupted, f_valueLanes, f_echoLanes, f_exchangeLanes, f_proposeLanes, f_kingLanes, f_valueLanes ||| f_echoLanes, (f_exchangeLanes ||| f_proposeLanes) ||| f_kingLanes, (f_valueLanes ||| f_echoLanes) ||| ((f_exchangeLanes ||| f_proposeLanes) ||| f_kingLanes), f_kingBits, f_dueSome, f_sum0, f_sum1, f_sum2, f_ledgerHead, f_ledgerSize, a_rounds, a_planes, a_policies, a_dictSet, a_dictSome, a_dictPlanes, a_splitPlanes, a_duePlanes, a_sentSome, a_sentPlanes, a_match, a_ledgerInstance, a_ledgerValue, a_ledgerTainted) (nI NI, nI NV, nI D, nI FK, g_bc, a_rounds, b_tn, b_mem, b_dic, b_pol, b_book, b_msg) := pv_mkR H
  obtain ⟨⟨N1, N2, N3, N4, N5, N6⟩, hk, HM, HD, ⟨C1, C2, C3, C4⟩, HT, HLN, HS, HX, HY⟩ := H
  unfold wpX_setPolicy wpY_setPolicy
  rcases pv_csN v1 with ⟨n, hn, rfl⟩ | hb
  · have hv : vp_in (nI n) 7 := vp_in_nI hn (by decide)
    have hc : (nI n).toNatClampNeg = n := nI_clamp (by omega)
    have c1 := C1 n hn
    refine xw_bnY hn (br_t rfl (br_c (fun z => ?_) (fun z => br_c (fun y => xw_cor hn (fun w => br_f pv_01 ⟨hv, fun pl epl => ?_⟩) (fun w => br_t rfl ?_)) (fun y => ?_))))
    · exact yw_bnY hn (br_t rfl (br_t z ⟨rfl, HR⟩))
    · have hy : ¬ b_pol n = -1 := fun e => by rw [w, decide_eq_true e] at c1; exact absurd c1 (by decide)
      rw [hc] at epl
      subst epl
      refine yw_bnY hn (br_t rfl (br_f z (br_t y ⟨hv, ?_⟩)))
      rw [hc]
      refine br_f hy ⟨hv, fun yp eyp => ?_⟩
      subst eyp
      refine ⟨rfl, pv_mkR ⟨⟨N1, N2, N3, N4, N5, N6⟩, hk, HM, HD, ⟨fun m hm => ?_, C2, fun m hm hne => ?_, C4⟩, HT, HLN, HS, HX, HY⟩⟩
      · by_cases c : m = n
        · subst c
          rw [pk_us, w, decide_eq_false]
          · rfl
          · intro e; rw [e] at z; exact z (by decide)
        · rw [pk_un c]; exact C1 m hm
      · by_cases c : m = n
        · subst c; rw [pk_us, pk_us]
        · rw [pk_un c] at hne
          rw [pk_un c, pk_un c]; exact C3 m hm hne
    · have hy : b_pol n = -1 := Classical.byContradiction (fun e => by rw [w, decide_eq_false e] at c1; exact absurd c1 (by decide))
      refine yw_bnY hn (br_t rfl (br_f z (br_t y ⟨hv, ?_⟩)))
      rw [hc]
      exact br_t hy ⟨rfl, HR⟩
    · exact yw_bnY hn (br_t rfl (br_f z (br_f y ⟨rfl, HR⟩)))
  · exact xw_bnN hb (br_f pv_01 (yw_bnN hb (br_f pv_01 ⟨rfl, HR⟩)))
theorem pv_cn_mono {p q : Nat → Bool} {m : Nat} (h : ∀ n, n < m → p n = true → q n = true) : pv_cn p m ≤ pv_cn q m := by
  induction m with
  | zero => exact Nat.le_refl _
  | succ m ih =>
    have ih' := ih (fun n hn => h n (by omega))
    show pv_cn p m + (p m).toNat ≤ pv_cn q m + (q m).toNat
    have : (p m).toNat ≤ (q m).toNat := by
      cases hp : p m
      · exact Nat.zero_le _
      · rw [h m (by omega) hp]; exact Nat.le_refl _
    omega
theorem i_vc_heal {k : Nat} {u : SX} {v : SY} (I : i_Rel k u v) (hk : k + 5 ≤ 2564) (v1 : Int32) : wpX_heal (fun r u' => wpY_heal (fun r' v' => r' = r ∧ i_Rel (k + 5) u' v') v v1) u v1 := by
  refine pv_el (P := fun u v => wpX_heal (fun r u' => wpY_heal (fun r' v' => r' = r ∧ i_Rel (k + 5) u' v') v v1) u v1) ?_ I
  intro NI NV D FK L f_allLanes f_firstLanes f_oddLanes f_sevenNodes f_tainted f_echoSome f_candidateSome f_bits f_proposalSome f_proposalOne f_strong f_corrupted f_valueLanes f_echoLanes f_exchangeLanes f_proposeLanes f_kingLanes f_kingBits f_dueSome f_sum0 f_sum1 f_sum2 f_ledgerHead f_ledgerSize a_rounds a_planes a_policies a_dictSet a_dictSome a_dictPlanes a_splitPlanes a_duePlanes a_sentSome a_sentPlanes a_match a_ledgerInstance a_ledgerValue a_ledgerTainted g_bc b_tn b_mem b_dic b_pol b_book b_msg H
  have HR : i_Rel (k + 5) (f_allLanes, f_firstLanes, f_oddLanes, f_sevenNodes, nI NI, nI NV, nI D, nI FK, f_tainted, f_echoSome, f_candidateSome, f_bits, f_proposalSome, f_proposalOne, f_strong, f_corrupted, f_valueLanes, f_echoLanes, f_exchangeLanes, f_proposeLanes, f_kingLanes, f_valueLanes ||| f_echoLanes, (f_exchangeLanes ||| f_proposeLanes) ||| f_kingLanes, (f_valueLanes ||| f_echoLanes) ||| ((f_exchangeLanes ||| f_proposeLanes) ||| f_kingLanes), f_kingBits, f_dueSome, f_sum0, f_sum1, f_sum2, f_ledgerHead, f_ledgerSize, a_rounds, a_planes, a_policies, a_dictSet, a_dictSome, a_dictPlanes, a_splitPlanes, a_duePlanes, a_sentSome, a_sentPlanes, a_match, a_ledgerInstance, a_ledgerValue, a_ledgerTainted) (nI NI, nI NV, nI D, nI FK, g_bc, a_rounds, b_tn, b_mem, b_dic, b_pol, b_book, b_msg) := pv_mkR H
  obtain ⟨⟨N1, N2, N3, N4, N5, N6⟩, hk, HM, HD, ⟨C1, C2, C3, C4⟩, HT, HLN, HS, HX, HY⟩ := H
  unfold wpX_heal wpY_heal
  rcases pv_csN v1 with ⟨g, hg, rfl⟩ | hb
  · have hv : vp_in (nI g) 7 := vp_in_nI hg (by decide)
    have hc : (nI g).toNatClampNeg = g := nI_clamp (by omega)
    have c1 := C1 g hg
    refine xw_bnY hg (br_t rfl (xw_cor hg (fun w => br_f pv_01 ?_) (fun w => br_t rfl ?_)))
    · have hy : ¬ b_pol g = -1 := fun e => by rw [w, decide_eq_true e] at c1; exact absurd c1 (by decide)
      intro cor' ecor
      refine ⟨hv, fun pl epl => ?_⟩
      rw [hc] at epl
      subst epl
      refine xw_wf hg ?_
      refine yw_bnY hg (br_t rfl ⟨hv, ?_⟩)
      rw [hc]
      refine br_f hy ⟨hv, fun yp eyp => ?_⟩
      subst eyp
      refine yw_hl hg ?_
      intro dic hd
      have cb (n : Nat) (hn : n < 32) : bt cor' n = if n = g then false else bt f_corrupted n := by
        rw [ecor, pv_cr _ _ hn, pv_one g (by omega) n hn]
        by_cases c : n = g
        · rw [decide_eq_true c, if_pos rfl, if_pos c]
        · rw [decide_eq_false c, if_neg pv_ft, if_neg c]
      refine ⟨rfl, pv_mkR ⟨⟨N1, N2, N3, N4, N5, N6⟩, hk, HM, fun j hj f hf n hn => ?_, ⟨fun m hm => ?_, fun m hm => ?_, fun m hm hne => ?_, ?_⟩, HT, HLN, HS, HX, HY⟩⟩
      · rw [hd j (by omega) f hf n hn]
        by_cases c : f = g
        · subst c
          have b1 : bt (upd a_dictSet f ((a_dictSet f) &&& (2139062143 ^^^ (-1))) f) (8 * j + n) = false := by
            rw [pk_us, pv_cr _ _ (by omega), pv_al j (by omega) n (by omega), decide_eq_true hn, if_pos rfl]
          rw [if_pos rfl, b1]
          exact ⟨rfl, fun _ z => absurd z (by decide)⟩
        · rw [if_neg c, pk_un c, pk_un c, pv_rd_bo (by omega)]
          exact HD j hj f hf n hn
      · rw [cb m (by omega)]
        by_cases c : m = g
        · rw [if_pos c, c, pk_us]; rfl
        · rw [if_neg c, pk_un c]; exact C1 m hm
      · rcases Nat.lt_or_ge m 32 with z | z
        · rw [cb m z, if_neg (by omega)]; exact C2 m hm
        · exact b_big z
      · by_cases c : m = g
        · rw [c, pk_us] at hne; exact absurd rfl hne
        · rw [pk_un c] at hne
          rw [pk_un c, pk_un c]; exact C3 m hm hne
      · refine Nat.le_trans (pv_cn_mono (fun n hn hb => ?_)) C4
        have hb' : bt cor' n = true := hb
        rw [cb n (by omega)] at hb'
        by_cases c : n = g
        · rw [if_pos c] at hb'; exact absurd hb' (by decide)
        · rw [if_neg c] at hb'; exact hb'
    · have hy : b_pol g = -1 := Classical.byContradiction (fun e => by rw [w, decide_eq_false e] at c1; exact absurd c1 (by decide))
      refine yw_bnY hg (br_t rfl ⟨hv, ?_⟩)
      rw [hc]
      exact br_t hy ⟨rfl, HR⟩
  · exact xw_bnN hb (br_f pv_01 (yw_bnN hb (br_f pv_01 ⟨rfl, HR⟩)))
end
section
/-! corrupt -/
theorem pv_128 {t : Int32} (h : ∀ n, 7 ≤ n → bt t n = false) : ∃ m, m < 128 ∧ t = nI m := by
  refine ⟨t.toBitVec.toNat % 2 ^ 7, Nat.mod_lt _ (by decide), ?_⟩
  rw [← pk_and t (m := 127) 7 (by decide)]
  apply b_ext
  intro n hn
  rw [b_and, pv_b127]
  by_cases c : n < 7
  · rw [decide_eq_true c, Bool.and_true]
  · rw [h n (by omega), decide_eq_false c]; rfl
theorem pv_pop' : ∀ m, m < 128 → ((nI m &&& (nI m - 1)) = 0 ↔ pv_cn (fun n => bt (nI m) n) 7 < 2) := by decide +kernel
theorem pv_pop {t : Int32} (h : ∀ n, 7 ≤ n → bt t n = false) : (t &&& (t - 1)) = 0 ↔ pv_cn (fun n => bt t n) 7 < 2 := by
  obtain ⟨m, hm, rfl⟩ := pv_128 h
  exact pv_pop' m hm
theorem pv_tw7 (t : Int32) {i : Nat} (hi : i < 4) : ∀ n, 7 ≤ n → bt (pv_tw t i) n = false := by
  intro n hn
  rw [pv_tw_b t hi, decide_eq_false (by omega)]; rfl
def pv_bad (rd tn : Nat → Int32) (g i : Nat) : Prop := pv_ir (rd i) = true ∧ 2 ≤ pv_cn (fun n => bt (tn i) n) 7 ∧ bt (tn i) g = false
section
variable {f_allLanes f_firstLanes f_oddLanes f_sevenNodes f_instances f_values f_defaultValue f_firstKing f_tainted f_echoSome f_candidateSome f_bits f_proposalSome f_proposalOne f_strong f_corrupted f_valueLanes f_echoLanes f_exchangeLanes f_proposeLanes f_kingLanes f_wideLanes f_narrowLanes f_runningLanes f_kingBits f_dueSome f_sum0 f_sum1 f_sum2 f_ledgerHead f_ledgerSize : Int32} {a_rounds a_planes a_policies a_dictSet a_dictSome a_dictPlanes a_splitPlanes a_duePlanes a_sentSome a_sentPlanes a_match a_ledgerInstance a_ledgerValue a_ledgerTainted : Nat → Int32}
theorem xw_c41 {post : Int32 → SX → Prop} {NI g : Nat} (h4 : NI ≤ 4) (hg : g < 7) (hk : ∀ i, i < 4 → pv_rk (a_rounds i)) (hB : (∃ i, i < NI ∧ pv_bad a_rounds (pv_tw f_tainted) g i) → post (-16) (f_allLanes, f_firstLanes, f_oddLanes, f_sevenNodes, nI NI, f_values, f_defaultValue, f_firstKing, f_tainted, f_echoSome, f_candidateSome, f_bits, f_proposalSome, f_proposalOne, f_strong, f_corrupted, f_valueLanes, f_echoLanes, f_exchangeLanes, f_proposeLanes, f_kingLanes, f_wideLanes, f_narrowLanes, f_runningLanes, f_kingBits, f_dueSome, f_sum0, f_sum1, f_sum2, f_ledgerHead, f_ledgerSize, a_rounds, a_planes, a_policies, a_dictSet, a_dictSome, a_dictPlanes, a_splitPlanes, a_duePlanes, a_sentSome, a_sentPlanes, a_match, a_ledgerInstance, a_ledgerValue, a_ledgerTainted)) (hG : (∀ i, i < NI → ¬ pv_bad a_rounds (pv_tw f_tainted) g i) → post 0 (f_allLanes, f_firstLanes, f_oddLanes, f_sevenNodes, nI NI, f_values, f_defaultValue, f_firstKing, f_tainted ||| (((16843009 : Int32) <<< (nI g &&& 31)) &&& f_runningLanes), f_echoSome, f_candidateSome, f_bits, f_proposalSome, f_proposalOne, f_strong, f_corrupted ||| ((1 : Int32) <<< (nI g &&& 31)), f_valueLanes, f_echoLanes, f_exchangeLanes, f_proposeLanes, f_kingLanes, f_wideLanes, f_narrowLanes, f_runningLanes, f_kingBits, f_dueSome, f_sum0, f_sum1, f_sum2, f_ledgerHead, f_ledgerSize, a_rounds, a_planes, upd a_policies g 0, a_dictSet, a_dictSome, a_dictPlanes, a_splitPlanes, a_duePlanes, a_sentSome, a_sentPlanes, a_match, a_ledgerInstance, a_ledgerValue, a_ledgerTainted)) : ∃ n, wX_corrupt_41 post (nI g) f_allLanes f_firstLanes f_oddLanes f_sevenNodes (nI NI) f_values f_defaultValue f_firstKing f_tainted f_echoSome f_candidateSome f_bits f_proposalSome f_proposalOne f_strong f_corrupted f_valueLanes f_echoLanes f_exchangeLanes f_proposeLanes f_kingLanes f_wideLanes f_narrowLanes f_runningLanes f_kingBits f_dueSome f_sum0 f_sum1 f_sum2 f_ledgerHead f_ledgerSize a_rounds a_planes a_policies a_dictSet a_dictSome a_dictPlanes a_splitPlanes a_duePlanes a_sentSome a_sentPlanes a_match a_ledgerInstance a_ledgerValue a_ledgerTainted n 0 := by
  refine pv_l1 (fun n i (_ : Unit) => wX_corrupt_41 post (nI g) f_allLanes f_firstLanes f_oddLanes f_sevenNodes (nI NI) f_values f_defaultValue f_firstKing f_tainted f_echoSome f_candidateSome f_bits f_proposalSome f_proposalOne f_strong f_corrupted f_valueLanes f_echoLanes f_exchangeLanes f_proposeLanes f_kingLanes f_wideLanes f_narrowLanes f_runningLanes f_kingBits f_dueSome f_sum0 f_sum1 f_sum2 f_ledgerHead f_ledgerSize a_rounds a_planes a_policies a_dictSet a_dictSome a_dictPlanes a_splitPlanes a_duePlanes a_sentSome a_sentPlanes a_match a_ledgerInstance a_ledgerValue a_ledgerTainted n (nI i)) (fun i _ => ∀ j, j < i → ¬ pv_bad a_rounds (pv_tw f_tainted) g j) NI () (fun j hj => by omega) ?_ ?_
  · intro n _ H
    refine br_t (nI_le (Nat.le_refl _) (by omega)) ?_
    intro c ec
    refine ⟨vp_in_nI hg (by decide), fun p ep t et => ?_⟩
    rw [nI_clamp (by omega : g < 2 ^ 31)] at ep
    subst ec ep et
    exact hG H
  · intro n i _ hi H K
    have i4 : i < 4 := by omega
    refine br_f (nI_ge hi (by omega)) ?_
    intro x3 e3
    have e3' : x3 = pv_tw f_tainted i := e3
    clear e3
    subst e3'
    have skip (hn : ¬ pv_bad a_rounds (pv_tw f_tainted) g i) : wX_corrupt_41 post (nI g) f_allLanes f_firstLanes f_oddLanes f_sevenNodes (nI NI) f_values f_defaultValue f_firstKing f_tainted f_echoSome f_candidateSome f_bits f_proposalSome f_proposalOne f_strong f_corrupted f_valueLanes f_echoLanes f_exchangeLanes f_proposeLanes f_kingLanes f_wideLanes f_narrowLanes f_runningLanes f_kingBits f_dueSome f_sum0 f_sum1 f_sum2 f_ledgerHead f_ledgerSize a_rounds a_planes a_policies a_dictSet a_dictSome a_dictPlanes a_splitPlanes a_duePlanes a_sentSome a_sentPlanes a_match a_ledgerInstance a_ledgerValue a_ledgerTainted n (nI (i + 1)) := by
      refine K () (fun j hj => ?_)
      by_cases c : j = i
      · rw [c]; exact hn
      · exact H j (by omega)
    refine br_c (fun z => ?_) (fun z => ?_)
    · have z' := (pv_pop (pv_tw7 f_tainted i4)).mp z
      refine xw_run i4 (hk i i4) (fun hr => br_f pv_01 (br_t rfl (fun x ex => ?_))) (fun hr => br_t rfl (fun x ex => ?_))
      · obtain rfl := ex.trans (nI_1 i)
        exact skip (fun b => by have := b.2.1; omega)
      · obtain rfl := ex.trans (nI_1 i)
        exact skip (fun b => by have := b.1; rw [hr] at this; exact absurd this (by decide))
    · have z' : 2 ≤ pv_cn (fun n => bt (pv_tw f_tainted i) n) 7 := Nat.not_lt.mp (fun y => z ((pv_pop (pv_tw7 f_tainted i4)).mpr y))
      refine xw_run i4 (hk i i4) (fun hr => br_f pv_01 (br_f pv_01 (pv_b0 (by omega) (fun y => ?_) (fun y x ex => ?_)))) (fun hr => br_t rfl (fun x ex => ?_))
      · exact hB ⟨i, hi, hr, z', y⟩
      · obtain rfl := ex.trans (nI_1 i)
        exact skip (fun b => by have := b.2.2; rw [y] at this; exact absurd this (by decide))
      · obtain rfl := ex.trans (nI_1 i)
        exact skip (fun b => by have := b.1; rw [hr] at this; exact absurd this (by decide))
end
def pv_t1 (rd tn : Nat → Int32) (g i : Nat) : Nat → Int32 := fun j => if j < i ∧ pv_ir (rd j) = true then tn j ||| ((1 : Int32) <<< (nI g &&& 31)) else tn j
section
variable {g_ins g_val g_def g_fk g_bc : Int32} {b_rd b_tn b_mem b_dic b_pol b_book b_msg : Nat → Int32}
theorem yw_c77 {post : Int32 → SY → Prop} {J : Int32 → Prop} {g i : Nat} (hg : g < 7) (hi : i < 4) (hk : pv_rk (b_rd i)) (hB : pv_bad b_rd b_tn g i → post (-16) (g_ins, g_val, g_def, g_fk, g_bc, b_rd, b_tn, b_mem, b_dic, b_pol, b_book, b_msg)) (hJ : ¬ pv_bad b_rd b_tn g i → J (nI (i + 1))) : ∃ n, wY_corrupt_77 post J (nI g) (nI i) g_ins g_val g_def g_fk g_bc b_rd b_tn b_mem b_dic b_pol b_book b_msg n 0 0 := by
  have hv : vp_in (nI i) 4 := vp_in_nI hi (by decide)
  have hc : (nI i).toNatClampNeg = i := nI_clamp (by omega)
  refine pv_l1 (fun n m s => wY_corrupt_77 post J (nI g) (nI i) g_ins g_val g_def g_fk g_bc b_rd b_tn b_mem b_dic b_pol b_book b_msg n s (nI m)) (fun m s => s = nI (pv_cn (fun n => bt (b_tn i) n) m)) 7 0 rfl ?_ ?_
  · rintro n s rfl
    have hle := pv_cn_le (fun n => bt (b_tn i) n) 7
    refine br_t pv_77 (yw_run hi hk (fun hr => br_f pv_01 (pk_lt (pv_cn (fun n => bt (b_tn i) n) 7) 2 (fun z x ex => ?_) (fun z => ⟨hv, ?_⟩))) (fun hr => br_t rfl (fun x ex => ?_)))
    · obtain rfl := ex.trans (nI_1 i)
      exact hJ (fun b => by have := b.2.1; omega)
    · rw [hc]
      refine pv_c0 (by omega) (fun y => hB ⟨hr, z, y⟩) (fun y x ex => ?_)
      obtain rfl := ex.trans (nI_1 i)
      exact hJ (fun b => by have := b.2.2; rw [y] at this; exact absurd this (by decide))
    · obtain rfl := ex.trans (nI_1 i)
      exact hJ (fun b => by have := b.1; rw [hr] at this; exact absurd this (by decide))
  · rintro n m s hm rfl K
    refine br_f (pv_n7 hm) ⟨hv, fun x ex y ey => ?_⟩
    obtain rfl := ey.trans (nI_1 m)
    refine K x ?_
    rw [ex, hc, pv_s1 (by omega)]
    show _ = nI (pv_cn _ m + (bt (b_tn i) m).toNat)
    cases bt (b_tn i) m
    · rw [if_neg pv_ft]
      show nI _ + nI 0 = _
      rw [nI_add]; rfl
    · rw [if_pos rfl, nI_1]; rfl
theorem yw_c151 {post : Int32 → SY → Prop} {NI g : Nat} (h4 : NI ≤ 4) (hg : g < 7) (hk : ∀ i, i < 4 → pv_rk (b_rd i)) (h : post 0 (nI NI, g_val, g_def, g_fk, g_bc, b_rd, pv_t1 b_rd b_tn g NI, b_mem, b_dic, b_pol, b_book, b_msg)) : ∃ n, wY_corrupt_151 post (nI g) (nI NI) g_val g_def g_fk g_bc n 0 b_rd b_tn b_mem b_dic b_pol b_book b_msg := by
  refine pv_l1 (fun n i s => wY_corrupt_151 post (nI g) (nI NI) g_val g_def g_fk g_bc n (nI i) b_rd s b_mem b_dic b_pol b_book b_msg) (fun i s => s = pv_t1 b_rd b_tn g i) NI b_tn (funext fun j => (if_neg (by omega)).symm) ?_ ?_
  · rintro n s rfl
    exact br_t (nI_le (Nat.le_refl _) (by omega)) h
  · rintro n i s hi rfl K
    have i4 : i < 4 := by omega
    have hv : vp_in (nI i) 4 := vp_in_nI i4 (by decide)
    have hc : (nI i).toNatClampNeg = i := nI_clamp (by omega)
    refine br_f (nI_ge hi (by omega)) (yw_run i4 (hk i i4) (fun hr => br_f pv_01 ⟨hv, hv, fun s' es x ex => ?_⟩) (fun hr => br_t rfl (fun x ex => ?_)))
    · obtain rfl := ex.trans (nI_1 i)
      refine K s' ?_
      rw [es, hc]
      funext j
      unfold upd pv_t1
      by_cases c : j = i
      · subst c; rw [if_pos rfl, if_neg (by omega), if_pos ⟨by omega, hr⟩]
      · rw [if_neg c]
        by_cases d : j < i ∧ pv_ir (b_rd j) = true
        · rw [if_pos d, if_pos ⟨by omega, d.2⟩]
        · rw [if_neg d, if_neg (fun z => d ⟨by omega, z.2⟩)]
    · obtain rfl := ex.trans (nI_1 i)
      refine K _ ?_
      funext j
      unfold pv_t1
      by_cases d : j < i ∧ pv_ir (b_rd j) = true
      · rw [if_pos d, if_pos ⟨by omega, d.2⟩]
      · rw [if_neg d, if_neg (fun z => d ⟨?_, z.2⟩)]
        have : j ≠ i := fun c => by rw [c, hr] at z; exact absurd z.2 (by decide)
        omega
theorem yw_c63 {post : Int32 → SY → Prop} {NI g : Nat} (h4 : NI ≤ 4) (hg : g < 7) (hk : ∀ i, i < 4 → pv_rk (b_rd i)) (hB : (∃ i, i < NI ∧ pv_bad b_rd b_tn g i) → post (-16) (nI NI, g_val, g_def, g_fk, g_bc, b_rd, b_tn, b_mem, b_dic, b_pol, b_book, b_msg)) (hG : (∀ i, i < NI → ¬ pv_bad b_rd b_tn g i) → post 0 (nI NI, g_val, g_def, g_fk, g_bc, b_rd, pv_t1 b_rd b_tn g NI, b_mem, b_dic, upd b_pol g 0, b_book, b_msg)) : ∃ n, wY_corrupt_63 post (nI g) (nI NI) g_val g_def g_fk g_bc b_rd b_tn b_mem b_dic b_pol b_book b_msg n 0 := by
  refine pv_l1 (fun n i (_ : Unit) => wY_corrupt_63 post (nI g) (nI NI) g_val g_def g_fk g_bc b_rd b_tn b_mem b_dic b_pol b_book b_msg n (nI i)) (fun i _ => ∀ j, j < i → ¬ pv_bad b_rd b_tn g j) NI () (fun j hj => by omega) ?_ ?_
  · intro n _ H
    refine br_t (nI_le (Nat.le_refl _) (by omega)) ⟨vp_in_nI hg (by decide), fun p ep => ?_⟩
    rw [nI_clamp (by omega : g < 2 ^ 31)] at ep
    subst ep
    exact yw_c151 h4 hg hk (hG H)
  · intro n i _ hi H K
    refine br_f (nI_ge hi (by omega)) (yw_c77 hg (by omega) (hk i (by omega)) (fun b => hB ⟨i, hi, b⟩) (fun b => K () (fun j hj => ?_)))
    by_cases c : j = i
    · rw [c]; exact b
    · exact H j (by omega)
theorem yw_c28 {post : Int32 → SY → Prop} {NI g : Nat} (h4 : NI ≤ 4) (hg : g < 7) (hk : ∀ i, i < 4 → pv_rk (b_rd i)) (hM : 2 ≤ pv_cn (fun n => !decide (b_pol n = -1)) 7 → post (-16) (nI NI, g_val, g_def, g_fk, g_bc, b_rd, b_tn, b_mem, b_dic, b_pol, b_book, b_msg)) (hB : pv_cn (fun n => !decide (b_pol n = -1)) 7 < 2 → (∃ i, i < NI ∧ pv_bad b_rd b_tn g i) → post (-16) (nI NI, g_val, g_def, g_fk, g_bc, b_rd, b_tn, b_mem, b_dic, b_pol, b_book, b_msg)) (hG : pv_cn (fun n => !decide (b_pol n = -1)) 7 < 2 → (∀ i, i < NI → ¬ pv_bad b_rd b_tn g i) → post 0 (nI NI, g_val, g_def, g_fk, g_bc, b_rd, pv_t1 b_rd b_tn g NI, b_mem, b_dic, upd b_pol g 0, b_book, b_msg)) : ∃ n, wY_corrupt_28 post (nI g) (nI NI) g_val g_def g_fk g_bc b_rd b_tn b_mem b_dic b_pol b_book b_msg n 0 0 := by
  refine pv_l1 (fun n m s => wY_corrupt_28 post (nI g) (nI NI) g_val g_def g_fk g_bc b_rd b_tn b_mem b_dic b_pol b_book b_msg n s (nI m)) (fun m s => s = nI (pv_cn (fun n => !decide (b_pol n = -1)) m)) 7 0 rfl ?_ ?_
  · rintro n s rfl
    have hle := pv_cn_le (fun n => !decide (b_pol n = -1)) 7
    exact br_t pv_77 (pk_lt (pv_cn (fun n => !decide (b_pol n = -1)) 7) 2 (fun z => yw_c63 h4 hg hk (hB z) (hG z)) (fun z => hM z))
  · rintro n m s hm rfl K
    refine br_f (pv_n7 hm) ⟨vp_in_nI hm (by decide), ?_⟩
    rw [nI_clamp (by omega : m < 2 ^ 31)]
    refine br_c (fun z x ex => ?_) (fun z y ey x ex => ?_)
    · obtain rfl := ex.trans (nI_1 m)
      refine K _ ?_
      show _ = nI (_ + (!decide (b_pol m = -1)).toNat)
      rw [decide_eq_true z]; rfl
    · obtain rfl := ex.trans (nI_1 m)
      refine K y ?_
      rw [ey, nI_1]
      show _ = nI (_ + (!decide (b_pol m = -1)).toNat)
      rw [decide_eq_false z]; rfl
end
theorem pv_cn_1 {p q : Nat → Bool} {g : Nat} : ∀ m, (∀ n, n < m → n ≠ g → q n = p n) → pv_cn q m ≤ pv_cn p m + 1 ∧ (m ≤ g → pv_cn q m ≤ pv_cn p m)
  | 0, _ => ⟨Nat.zero_le _, fun _ => Nat.le_refl _⟩
  | m + 1, h => by
    obtain ⟨h1, h2⟩ := pv_cn_1 (p := p) (q := q) (g := g) m (fun n hn => h n (by omega))
    show pv_cn q m + (q m).toNat ≤ pv_cn p m + (p m).toNat + 1 ∧ (m + 1 ≤ g → pv_cn q m + (q m).toNat ≤ pv_cn p m + (p m).toNat)
    by_cases c : m = g
    · have := h2 (by omega)
      have b := Bool.toNat_le (q m)
      exact ⟨by omega, fun z => by omega⟩
    · rw [h m (by omega) c]
      exact ⟨by omega, fun z => by have := h2 (by omega); omega⟩
theorem i_vc_corrupt {k : Nat} {u : SX} {v : SY} (I : i_Rel k u v) (hk : k + 5 ≤ 2564) (v1 : Int32) : wpX_corrupt (fun r u' => wpY_corrupt (fun r' v' => r' = r ∧ i_Rel (k + 5) u' v') v v1) u v1 := by
  refine pv_el (P := fun u v => wpX_corrupt (fun r u' => wpY_corrupt (fun r' v' => r' = r ∧ i_Rel (k + 5) u' v') v v1) u v1) ?_ I
  intro NI NV D FK L f_allLanes f_firstLanes f_oddLanes f_sevenNodes f_tainted f_echoSome f_candidateSome f_bits f_proposalSome f_proposalOne f_strong f_corrupted f_valueLanes f_echoLanes f_exchangeLanes f_proposeLanes f_kingLanes f_kingBits f_dueSome f_sum0 f_sum1 f_sum2 f_ledgerHead f_ledgerSize a_rounds a_planes a_policies a_dictSet a_dictSome a_dictPlanes a_splitPlanes a_duePlanes a_sentSome a_sentPlanes a_match a_ledgerInstance a_ledgerValue a_ledgerTainted g_bc b_tn b_mem b_dic b_pol b_book b_msg H
  have HR : i_Rel (k + 5) (f_allLanes, f_firstLanes, f_oddLanes, f_sevenNodes, nI NI, nI NV, nI D, nI FK, f_tainted, f_echoSome, f_candidateSome, f_bits, f_proposalSome, f_proposalOne, f_strong, f_corrupted, f_valueLanes, f_echoLanes, f_exchangeLanes, f_proposeLanes, f_kingLanes, f_valueLanes ||| f_echoLanes, (f_exchangeLanes ||| f_proposeLanes) ||| f_kingLanes, (f_valueLanes ||| f_echoLanes) ||| ((f_exchangeLanes ||| f_proposeLanes) ||| f_kingLanes), f_kingBits, f_dueSome, f_sum0, f_sum1, f_sum2, f_ledgerHead, f_ledgerSize, a_rounds, a_planes, a_policies, a_dictSet, a_dictSome, a_dictPlanes, a_splitPlanes, a_duePlanes, a_sentSome, a_sentPlanes, a_match, a_ledgerInstance, a_ledgerValue, a_ledgerTainted) (nI NI, nI NV, nI D, nI FK, g_bc, a_rounds, b_tn, b_mem, b_dic, b_pol, b_book, b_msg) := pv_mkR H
  obtain ⟨⟨N1, N2, N3, N4, N5, N6⟩, hk, HM, HD, ⟨C1, C2, C3, C4⟩, HT, HLN, HS, HX, HY⟩ := H
  unfold wpX_corrupt wpY_corrupt
  rcases pv_csN v1 with ⟨g, hg, rfl⟩ | hb
  · have hv : vp_in (nI g) 7 := vp_in_nI hg (by decide)
    have hc : (nI g).toNatClampNeg = g := nI_clamp (by omega)
    have c1 := C1 g hg
    have ec : pv_cn (fun n => bt f_corrupted n) 7 = pv_cn (fun n => !decide (b_pol n = -1)) 7 := pv_cn_cg (fun n hn => C1 n hn)
    have eb (i : Nat) (hi : i < NI) : pv_bad a_rounds (pv_tw f_tainted) g i ↔ pv_bad a_rounds b_tn g i := by
      unfold pv_bad
      rw [(HT i hi).1]
    refine xw_bnY hg (br_t rfl (xw_cor hg (fun w => br_f pv_01 ?_) (fun w => br_t rfl (br_c (fun z => ?_) (fun z => ?_)))))
    · have hy : ¬ b_pol g = -1 := fun e => by rw [w, decide_eq_true e] at c1; exact absurd c1 (by decide)
      refine yw_bnY hg (br_t rfl ⟨hv, ?_⟩)
      rw [hc]
      exact br_f hy ⟨rfl, HR⟩
    · have hy : b_pol g = -1 := Classical.byContradiction (fun e => by rw [w, decide_eq_false e] at c1; exact absurd c1 (by decide))
      have z' := (pv_pop C2).mp z
      refine xw_c41 N2 hg hk (fun B => ?_) (fun G => ?_)
      · refine yw_bnY hg (br_t rfl ⟨hv, ?_⟩)
        rw [hc]
        obtain ⟨i, hi, hbad⟩ := B
        exact br_t hy (yw_c28 N2 hg hk (fun q => ⟨rfl, HR⟩) (fun _ _ => ⟨rfl, HR⟩) (fun _ q => absurd ((eb i hi).mp hbad) (q i hi)))
      · refine yw_bnY hg (br_t rfl ⟨hv, ?_⟩)
        rw [hc]
        refine br_t hy (yw_c28 N2 hg hk (fun q => by omega) (fun _ q => ?_) (fun _ q => ⟨rfl, pv_mkR ⟨⟨N1, N2, N3, N4, N5, N6⟩, hk, HM, HD, ⟨fun m hm => ?_, fun m hm => ?_, fun m hm hne => ?_, ?_⟩, fun i hi => ?_, HLN, HS, HX, HY⟩⟩))
        · obtain ⟨i, hi, hbad⟩ := q
          exact absurd ((eb i hi).mpr hbad) (G i hi)
        · rw [b_or, pv_one g (by omega) m (by omega)]
          by_cases c : m = g
          · rw [c, decide_eq_true rfl, pk_us, Bool.or_true]; rfl
          · rw [decide_eq_false c, pk_un c, Bool.or_false]; exact C1 m hm
        · rcases Nat.lt_or_ge m 32 with y | y
          · rw [b_or, pv_one g (by omega) m y, C2 m hm, decide_eq_false (by omega)]; rfl
          · exact b_big y
        · by_cases c : m = g
          · rw [c, pk_us, pk_us]
          · rw [pk_un c] at hne
            rw [pk_un c, pk_un c]; exact C3 m hm hne
        · have := (pv_cn_1 (p := fun n => bt f_corrupted n) (q := fun n => bt (f_corrupted ||| ((1 : Int32) <<< (nI g &&& 31))) n) (g := g) 7 (fun n hn hne => by rw [b_or, pv_one g (by omega) n (by omega), decide_eq_false hne, Bool.or_false])).1
          omega
        · have i4 : i < 4 := by omega
          obtain ⟨t1, t2⟩ := HT i hi
          have hrn (n : Nat) (hn : n < 7) : bt ((f_valueLanes ||| f_echoLanes) ||| ((f_exchangeLanes ||| f_proposeLanes) ||| f_kingLanes)) (8 * i + n) = pv_ir (a_rounds i) := by
            obtain ⟨h1, h2, h3, h5, h6, _⟩ := HLN
            have gg (q : Int32 → Bool) (w : Int32) (h : pv_L1 a_rounds NI q w) : bt w (8 * i + n) = q (a_rounds i) := by
              rw [h i i4 n (by omega), decide_eq_true hi, decide_eq_true hn]; rfl
            rw [b_or, b_or, b_or, b_or, gg _ _ h1, gg _ _ h2, gg _ _ h3, gg _ _ h5, gg _ _ h6]
            unfold pv_ir
            simp only [Bool.or_assoc]
          have htb (n : Nat) (hn : n < 7) : bt (f_tainted ||| (((16843009 : Int32) <<< (nI g &&& 31)) &&& ((f_valueLanes ||| f_echoLanes) ||| ((f_exchangeLanes ||| f_proposeLanes) ||| f_kingLanes)))) (8 * i + n) = (bt f_tainted (8 * i + n) || (decide (n = g) && pv_ir (a_rounds i))) := by
            rw [b_or, b_and, hrn n hn, pv_fl g hg i i4 n (by omega)]
          cases hr : pv_ir (a_rounds i)
          · have e : pv_t1 a_rounds b_tn g NI i = b_tn i := if_neg (fun y => by rw [hr] at y; exact absurd y.2 (by decide))
            rw [e]
            refine ⟨t1.trans (pv_tw_cg i4 (fun n hn => ?_)).symm, t2⟩
            rw [htb n hn, hr, Bool.and_false, Bool.or_false]
          · have e : pv_t1 a_rounds b_tn g NI i = b_tn i ||| ((1 : Int32) <<< (nI g &&& 31)) := if_pos ⟨hi, hr⟩
            rw [e]
            refine ⟨?_, ?_⟩
            · apply b_ext
              intro n hn
              rw [b_or, t1, pv_tw_b _ i4, pv_tw_b _ i4, pv_one g (by omega) n hn]
              by_cases c : n < 7
              · rw [htb n c, hr, decide_eq_true c]; simp
              · rw [decide_eq_false c, decide_eq_false (by omega : ¬ n = g)]; rfl
            · have nb := q i hi
              by_cases hbit : bt (b_tn i) g = true
              · rw [pv_cn_cg (q := fun n => bt (b_tn i) n)]
                · exact t2
                · intro n hn
                  rw [b_or, pv_one g (by omega) n (by omega)]
                  by_cases c : n = g
                  · rw [c, hbit]; rfl
                  · rw [decide_eq_false c, Bool.or_false]
              · have hbit' : bt (b_tn i) g = false := by
                  cases h : bt (b_tn i) g
                  · rfl
                  · exact absurd h hbit
                have lt2 : pv_cn (fun n => bt (b_tn i) n) 7 < 2 := Nat.not_le.mp (fun y => nb ⟨hr, y, hbit'⟩)
                have := (pv_cn_1 (p := fun n => bt (b_tn i) n) (q := fun n => bt (b_tn i ||| ((1 : Int32) <<< (nI g &&& 31))) n) (g := g) 7 (fun n hn hne => by rw [b_or, pv_one g (by omega) n (by omega), decide_eq_false hne, Bool.or_false])).1
                omega
    · have hy : b_pol g = -1 := Classical.byContradiction (fun e => by rw [w, decide_eq_false e] at c1; exact absurd c1 (by decide))
      have z' : 2 ≤ pv_cn (fun n => bt f_corrupted n) 7 := Nat.not_lt.mp (fun y => z ((pv_pop C2).mpr y))
      refine yw_bnY hg (br_t rfl ⟨hv, ?_⟩)
      rw [hc]
      exact br_t hy (yw_c28 N2 hg hk (fun _ => ⟨rfl, HR⟩) (fun q => by omega) (fun q => by omega))
  · exact xw_bnN hb (br_f pv_01 (yw_bnN hb (br_f pv_01 ⟨rfl, HR⟩)))
end
section
/-! dictate -/
/-- sender f's dictations after dictate: sb, ob, v in the lanes L, as before elsewhere -/
def pv_DC (f : Nat) (L : Int32) (sb ob : Bool) (v : Nat) (dset dsome dpl ds ob' dp : Nat → Int32) : Prop := (∀ g, g ≠ f → ds g = dset g ∧ ob' g = dsome g ∧ ∀ l, pv_rd dp (4 * g) l = pv_rd dpl (4 * g) l) ∧ ∀ l, l < 32 → bt (ds f) l = (if bt L l then sb else bt (dset f) l) ∧ bt (ob' f) l = (if bt L l then ob else bt (dsome f) l) ∧ pv_rd dp (4 * f) l = (if bt L l then v else pv_rd dpl (4 * f) l)
def pv_dg (a : Nat → Int32) (f : Nat) (L c : Int32) (k : Nat) : Int32 := if bt c k then a (4 * f + k) ||| L else a (4 * f + k)
theorem pv_or_b (w m : Int32) (i : Nat) : bt (w ||| m) i = if bt m i then true else bt w i := by
  rw [b_or]
  cases bt m i <;> cases bt w i <;> rfl
theorem pv_kz {rd : Nat → Int32} {FK NI i : Nat} {v e x p k kb : Int32} (HL : pv_LN rd FK NI v e x p k kb) (hi : i < NI) (h4 : NI ≤ 4) : (k &&& ((127 : Int32) <<< (8 * nI i &&& 31))) = 0 ↔ pv_ik (rd i) = false := by
  obtain ⟨_, _, _, _, h6, _⟩ := HL
  have i4 : i < 4 := by omega
  constructor
  · intro z
    have := congrArg (fun w => bt w (8 * i + 0)) z
    rw [b_and, h6 i i4 0 (by decide), pv_127 i i4 i i4 0 (by decide), decide_eq_true hi, decide_eq_true rfl, b_0] at this
    revert this
    cases pv_ik (rd i) <;> simp
  · intro z
    apply b_ext
    refine pv_by8 ?_
    intro j hj n hn
    rw [b_and, h6 j hj n hn, pv_127 i i4 j hj n hn, b_0]
    by_cases c : j = i
    · rw [c, z]; simp
    · rw [decide_eq_false c]; simp
section
variable {f_allLanes f_firstLanes f_oddLanes f_sevenNodes f_instances f_values f_defaultValue f_firstKing f_tainted f_echoSome f_candidateSome f_bits f_proposalSome f_proposalOne f_strong f_corrupted f_valueLanes f_echoLanes f_exchangeLanes f_proposeLanes f_kingLanes f_wideLanes f_narrowLanes f_runningLanes f_kingBits f_dueSome f_sum0 f_sum1 f_sum2 f_ledgerHead f_ledgerSize : Int32} {a_rounds a_planes a_policies a_dictSet a_dictSome a_dictPlanes a_splitPlanes a_duePlanes a_sentSome a_sentPlanes a_match a_ledgerInstance a_ledgerValue a_ledgerTainted : Nat → Int32}
theorem xw_d85 {post : Int32 → SX → Prop} {NV i f v : Nat} {mask c : Int32} {sb ob : Bool} (hi : i < 4) (hf : f < 7) (hc : (c = -2 ∧ sb = false ∧ ob = false ∧ v = 0) ∨ (c = -1 ∧ sb = true ∧ ob = false ∧ v = 0) ∨ (c = nI v ∧ v < 16 ∧ sb = true ∧ ob = true)) (hs : c < pv_szo NV (a_rounds i)) (h : ∀ ds so dp, pv_DC f ((mask &&& 127) <<< (8 * nI i &&& 31)) sb ob v a_dictSet a_dictSome a_dictPlanes ds so dp → post 0 (f_allLanes, f_firstLanes, f_oddLanes, f_sevenNodes, f_instances, nI NV, f_defaultValue, f_firstKing, f_tainted, f_echoSome, f_candidateSome, f_bits, f_proposalSome, f_proposalOne, f_strong, f_corrupted, f_valueLanes, f_echoLanes, f_exchangeLanes, f_proposeLanes, f_kingLanes, f_wideLanes, f_narrowLanes, f_runningLanes, f_kingBits, f_dueSome, f_sum0, f_sum1, f_sum2, f_ledgerHead, f_ledgerSize, a_rounds, a_planes, a_policies, ds, so, dp, a_splitPlanes, a_duePlanes, a_sentSome, a_sentPlanes, a_match, a_ledgerInstance, a_ledgerValue, a_ledgerTainted)) : wX_dictate_85 post (nI i) (nI f) mask c f_allLanes f_firstLanes f_oddLanes f_sevenNodes f_instances (nI NV) f_defaultValue f_firstKing f_tainted f_echoSome f_candidateSome f_bits f_proposalSome f_proposalOne f_strong f_corrupted f_valueLanes f_echoLanes f_exchangeLanes f_proposeLanes f_kingLanes f_wideLanes f_narrowLanes f_runningLanes f_kingBits f_dueSome f_sum0 f_sum1 f_sum2 f_ledgerHead f_ledgerSize a_rounds a_planes a_policies a_dictSet a_dictSome a_dictPlanes a_splitPlanes a_duePlanes a_sentSome a_sentPlanes a_match a_ledgerInstance a_ledgerValue a_ledgerTainted := by
  have hv : vp_in (nI f) 7 := vp_in_nI hf (by decide)
  have hcl : (nI f).toNatClampNeg = f := nI_clamp (by omega)
  have hn2 : ¬ c < -2 := by
    rcases hc with ⟨rfl, _⟩ | ⟨rfl, _⟩ | ⟨rfl, hv16, _⟩
    · decide
    · decide
    · intro z
      rw [Int32.lt_iff_toInt_lt, nI_toInt (by omega), show (-2 : Int32).toInt = -2 from by decide] at z
      omega
  unfold wX_dictate_85
  refine br_f hn2 (xw_szo hi (br_t hs ?_))
  intro Lw eL
  rw [← eL] at h
  clear eL
  refine xw_wf hf ?_
  have cs (l : Nat) (hl : l < 32) : bt (a_dictSet f &&& (Lw ^^^ (-1))) l = if bt Lw l then false else bt (a_dictSet f) l := pv_cr _ _ hl
  have co (l : Nat) (hl : l < 32) : bt (a_dictSome f &&& (Lw ^^^ (-1))) l = if bt Lw l then false else bt (a_dictSome f) l := pv_cr _ _ hl
  rcases hc with ⟨rfl, rfl, rfl, rfl⟩ | ⟨rfl, rfl, rfl, rfl⟩ | ⟨rfl, hv16, rfl, rfl⟩
  · refine br_t rfl (br_t (by decide) (h _ _ _ ⟨fun g hg => ⟨pk_un hg, pk_un hg, fun l => pv_rd_bo (by omega)⟩, fun l hl => ⟨?_, ?_, pv_wf_rd _ _ _ hl⟩⟩))
    · rw [pk_us]; exact cs l hl
    · rw [pk_us]; exact co l hl
  · refine br_f (by decide) ⟨hv, hv, fun ds eds => br_t (by decide) ?_⟩
    rw [hcl, pk_us, pv_uu] at eds
    subst eds
    refine h _ _ _ ⟨fun g hg => ⟨pk_un hg, pk_un hg, fun l => pv_rd_bo (by omega)⟩, fun l hl => ⟨?_, ?_, pv_wf_rd _ _ _ hl⟩⟩
    · rw [pk_us, pv_or_b, cs l hl]
      cases bt Lw l <;> rfl
    · rw [pk_us]; exact co l hl
  · refine br_f (pv_nIm2 (by omega)) ⟨hv, hv, fun ds eds => br_f (nI_pos (by omega)) ⟨hv, hv, fun so eso => ?_⟩⟩
    rw [hcl, pk_us, pv_uu] at eds eso
    subst eds eso
    have H : pv_DC f Lw true true v a_dictSet a_dictSome a_dictPlanes (upd a_dictSet f ((a_dictSet f &&& (Lw ^^^ (-1))) ||| Lw)) (upd a_dictSome f ((a_dictSome f &&& (Lw ^^^ (-1))) ||| Lw)) (pv_bl (4 * f) (pv_dg (pv_bl (4 * f) (pv_wfg a_dictPlanes f Lw) a_dictPlanes 4) f Lw (nI v)) (pv_bl (4 * f) (pv_wfg a_dictPlanes f Lw) a_dictPlanes 4) 4) := by
      refine ⟨fun g hg => ⟨pk_un hg, pk_un hg, fun l => (pv_rd_bo (by omega)).trans (pv_rd_bo (by omega))⟩, fun l hl => ⟨?_, ?_, ?_⟩⟩
      · rw [pk_us, pv_or_b, cs l hl]
        cases bt Lw l <;> rfl
      · rw [pk_us, pv_or_b, co l hl]
        cases bt Lw l <;> rfl
      · have gb (k : Nat) (hk : k < 4) : bt (pv_bl (4 * f) (pv_dg (pv_bl (4 * f) (pv_wfg a_dictPlanes f Lw) a_dictPlanes 4) f Lw (nI v)) (pv_bl (4 * f) (pv_wfg a_dictPlanes f Lw) a_dictPlanes 4) 4 (4 * f + k)) l = if bt Lw l then bt (nI v) k else bt (a_dictPlanes (4 * f + k)) l := by
          rw [pv_blg hk]
          unfold pv_dg
          rw [pv_blg hk]
          unfold pv_wfg
          cases hb : bt (nI v) k
          · rw [if_neg pv_ft, pv_cr _ _ hl]
          · rw [if_pos rfl, pv_or_b, pv_cr _ _ hl]
            cases bt Lw l <;> rfl
        cases hL : bt Lw l
        · rw [if_neg pv_ft]
          exact pv_rd_cg (fun k hk => by rw [gb k hk, hL, if_neg pv_ft])
        · rw [if_pos rfl]
          exact pv_rd_v hv16 (fun k hk => by rw [gb k hk, hL, if_pos rfl])
    have h' := h _ _ _ H
    clear h H
    generalize upd a_dictSet f ((a_dictSet f &&& (Lw ^^^ (-1))) ||| Lw) = ds at h' ⊢
    generalize upd a_dictSome f ((a_dictSome f &&& (Lw ^^^ (-1))) ||| Lw) = so at h' ⊢
    generalize pv_bl (4 * f) (pv_wfg a_dictPlanes f Lw) a_dictPlanes 4 = dp at h' ⊢
    refine pv_l1 (fun n k s => wX_dictate_160 post (nI f) (nI v) Lw f_allLanes f_firstLanes f_oddLanes f_sevenNodes f_instances (nI NV) f_defaultValue f_firstKing f_tainted f_echoSome f_candidateSome f_bits f_proposalSome f_proposalOne f_strong f_corrupted f_valueLanes f_echoLanes f_exchangeLanes f_proposeLanes f_kingLanes f_wideLanes f_narrowLanes f_runningLanes f_kingBits f_dueSome f_sum0 f_sum1 f_sum2 f_ledgerHead f_ledgerSize n (nI k) a_rounds a_planes a_policies ds so s a_splitPlanes a_duePlanes a_sentSome a_sentPlanes a_match a_ledgerInstance a_ledgerValue a_ledgerTainted) (fun k s => s = pv_bl (4 * f) (pv_dg dp f Lw (nI v)) dp k) 4 dp (pv_bl0 _ _ _).symm ?_ ?_
    · rintro n s rfl
      exact br_t pv_44 h'
    · rintro n k s hk rfl K
      have hx : vp_in (4 * nI f + nI k) 28 := pv_in4 (by omega) (by decide)
      refine br_f (pv_n4 hk) (pv_b1 (by omega) (fun hb => ⟨hx, hx, fun a' ea x ex => ?_⟩) (fun hb x ex => ?_))
      · obtain rfl := ex.trans (nI_1 k)
        refine K a' ?_
        rw [ea, pv_cl4 (by omega), pv_blr]
        exact pv_bls _ _ _ _ (by unfold pv_dg; rw [if_pos hb])
      · obtain rfl := ex.trans (nI_1 k)
        exact K _ (pv_blk _ _ _ _ (by unfold pv_dg; rw [hb, if_neg pv_ft]))
theorem xw_d85n {post : Int32 → SX → Prop} {NV i : Nat} {p1 mask c : Int32} (hi : i < 4) (hc : c < -2 ∨ (¬ c < -2 ∧ ¬ c < pv_szo NV (a_rounds i))) (h : post (-12) (f_allLanes, f_firstLanes, f_oddLanes, f_sevenNodes, f_instances, nI NV, f_defaultValue, f_firstKing, f_tainted, f_echoSome, f_candidateSome, f_bits, f_proposalSome, f_proposalOne, f_strong, f_corrupted, f_valueLanes, f_echoLanes, f_exchangeLanes, f_proposeLanes, f_kingLanes, f_wideLanes, f_narrowLanes, f_runningLanes, f_kingBits, f_dueSome, f_sum0, f_sum1, f_sum2, f_ledgerHead, f_ledgerSize, a_rounds, a_planes, a_policies, a_dictSet, a_dictSome, a_dictPlanes, a_splitPlanes, a_duePlanes, a_sentSome, a_sentPlanes, a_match, a_ledgerInstance, a_ledgerValue, a_ledgerTainted)) : wX_dictate_85 post (nI i) p1 mask c f_allLanes f_firstLanes f_oddLanes f_sevenNodes f_instances (nI NV) f_defaultValue f_firstKing f_tainted f_echoSome f_candidateSome f_bits f_proposalSome f_proposalOne f_strong f_corrupted f_valueLanes f_echoLanes f_exchangeLanes f_proposeLanes f_kingLanes f_wideLanes f_narrowLanes f_runningLanes f_kingBits f_dueSome f_sum0 f_sum1 f_sum2 f_ledgerHead f_ledgerSize a_rounds a_planes a_policies a_dictSet a_dictSome a_dictPlanes a_splitPlanes a_duePlanes a_sentSome a_sentPlanes a_match a_ledgerInstance a_ledgerValue a_ledgerTainted := by
  unfold wX_dictate_85
  rcases hc with z | ⟨z, y⟩
  · exact br_t z h
  · exact br_f z (xw_szo hi (br_f y h))
end
section
variable {g_ins g_val g_def g_fk g_bc : Int32} {b_rd b_tn b_mem b_dic b_pol b_book b_msg : Nat → Int32}
theorem yw_d76 {post : Int32 → SY → Prop} {NV i f : Nat} {mask c : Int32} (hi : i < 4) (hf : f < 7) (h1 : ¬ c < -2) (hs : c < pv_szo NV (b_rd i)) (h : ∀ dic, (∀ q, q < 7 → dic (pv_dx i f q) = if bt mask q then c else b_dic (pv_dx i f q)) → (∀ j, (∀ q, q < 7 → j ≠ pv_dx i f q) → dic j = b_dic j) → post 0 (g_ins, nI NV, g_def, g_fk, g_bc, b_rd, b_tn, b_mem, dic, b_pol, b_book, b_msg)) : wY_dictate_76 post (nI i) (nI f) mask c g_ins (nI NV) g_def g_fk g_bc b_rd b_tn b_mem b_dic b_pol b_book b_msg := by
  unfold wY_dictate_76
  refine br_f h1 (yw_szo hi (br_t hs ?_))
  refine pv_l1 (fun n m s => wY_dictate_99 post (nI i) (nI f) mask c g_ins (nI NV) g_def g_fk g_bc n (nI m) b_rd b_tn b_mem s b_pol b_book b_msg) (fun m s => (∀ q, q < 7 → s (pv_dx i f q) = if q < m ∧ bt mask q = true then c else b_dic (pv_dx i f q)) ∧ (∀ j, (∀ q, q < 7 → j ≠ pv_dx i f q) → s j = b_dic j)) 7 b_dic ⟨fun q _ => by rw [if_neg (by omega)], fun j _ => rfl⟩ ?_ ?_
  · rintro n s ⟨h1, h2⟩
    refine br_t pv_77 (h s (fun q hq => ?_) h2)
    rw [h1 q hq]
    cases bt mask q
    · rw [if_neg (fun z => absurd z.2 (by decide)), if_neg pv_ft]
    · rw [if_pos ⟨hq, rfl⟩, if_pos rfl]
  · rintro n m s hm ⟨h1, h2⟩ K
    refine br_f (pv_n7 hm) (pv_c1 (by omega) (fun z => ⟨pv_inD hi hf hm (pv_i77 i f m), fun s' es x ex => ?_⟩) (fun z x ex => ?_))
    · obtain rfl := ex.trans (nI_1 m)
      rw [pv_clD hi hf hm (pv_i77 i f m)] at es
      subst es
      refine K _ ⟨fun q hq => ?_, fun j hj => ?_⟩
      · by_cases c : q = m
        · subst c; rw [pk_us, if_pos ⟨by omega, z⟩]
        · rw [pk_un (by unfold pv_dx; omega), h1 q hq]
          by_cases d : q < m ∧ bt mask q = true
          · rw [if_pos d, if_pos ⟨by omega, d.2⟩]
          · rw [if_neg d, if_neg (fun y => d ⟨by omega, y.2⟩)]
      · rw [pk_un (hj m hm)]; exact h2 j hj
    · obtain rfl := ex.trans (nI_1 m)
      refine K _ ⟨fun q hq => ?_, h2⟩
      rw [h1 q hq]
      by_cases d : q < m ∧ bt mask q = true
      · rw [if_pos d, if_pos ⟨by omega, d.2⟩]
      · rw [if_neg d, if_neg (fun y => d ⟨?_, y.2⟩)]
        have : q ≠ m := fun c => by rw [c, z] at y; exact absurd y.2 (by decide)
        omega
theorem yw_d76n {post : Int32 → SY → Prop} {NV i : Nat} {p1 mask c : Int32} (hi : i < 4) (hc : c < -2 ∨ (¬ c < -2 ∧ ¬ c < pv_szo NV (b_rd i))) (h : post (-12) (g_ins, nI NV, g_def, g_fk, g_bc, b_rd, b_tn, b_mem, b_dic, b_pol, b_book, b_msg)) : wY_dictate_76 post (nI i) p1 mask c g_ins (nI NV) g_def g_fk g_bc b_rd b_tn b_mem b_dic b_pol b_book b_msg := by
  unfold wY_dictate_76
  rcases hc with z | ⟨z, y⟩
  · exact br_t z h
  · exact br_f z (yw_szo hi (br_f y h))
end
theorem pv_cls {c : Int32} {m : Nat} (hm : m ≤ 16) (h1 : ¬ c < -2) (h2 : c < nI m) : ∃ sb ob v, ((c = -2 ∧ sb = false ∧ ob = false ∧ v = 0) ∨ (c = -1 ∧ sb = true ∧ ob = false ∧ v = 0) ∨ (c = nI v ∧ v < 16 ∧ sb = true ∧ ob = true)) ∧ c = pv_md sb ob v ∧ (ob = true → v < m) := by
  by_cases z : c < 0
  · rw [Int32.lt_iff_toInt_lt] at h1 z
    have e2 : (-2 : Int32).toInt = -2 := by decide
    have e1 : (-1 : Int32).toInt = -1 := by decide
    have e0 : (0 : Int32).toInt = 0 := by decide
    by_cases y : c.toInt = -2
    · have : c = -2 := Int32.toInt_inj.mp (y.trans e2.symm)
      exact ⟨false, false, 0, Or.inl ⟨this, rfl, rfl, rfl⟩, this, fun q => absurd q (by decide)⟩
    · have : c = -1 := Int32.toInt_inj.mp (by omega)
      exact ⟨true, false, 0, Or.inr (Or.inl ⟨this, rfl, rfl, rfl⟩), this, fun q => absurd q (by decide)⟩
  · obtain ⟨j, hj, rfl⟩ := nI_of z
    have hjm := (nI_ltI hj (by omega)).mp h2
    exact ⟨true, true, j, Or.inr (Or.inr ⟨rfl, by omega, rfl, rfl⟩), rfl, fun _ => hjm⟩
theorem i_vc_dictate {k : Nat} {u : SX} {v : SY} (I : i_Rel k u v) (hk : k + 5 ≤ 2564) (v1 : Int32) (v2 : Int32) (v3 : Int32) (v4 : Int32) : wpX_dictate (fun r u' => wpY_dictate (fun r' v' => r' = r ∧ i_Rel (k + 5) u' v') v v1 v2 v3 v4) u v1 v2 v3 v4 := by
  refine pv_el (P := fun u v => wpX_dictate (fun r u' => wpY_dictate (fun r' v' => r' = r ∧ i_Rel (k + 5) u' v') v v1 v2 v3 v4) u v1 v2 v3 v4) ?_ I
  intro NI NV D FK L f_allLanes f_firstLanes f_oddLanes f_sevenNodes f_tainted f_echoSome f_candidateSome f_bits f_proposalSome f_proposalOne f_strong f_corrupted f_valueLanes f_echoLanes f_exchangeLanes f_proposeLanes f_kingLanes f_kingBits f_dueSome f_sum0 f_sum1 f_sum2 f_ledgerHead f_ledgerSize a_rounds a_planes a_policies a_dictSet a_dictSome a_dictPlanes a_splitPlanes a_duePlanes a_sentSome a_sentPlanes a_match a_ledgerInstance a_ledgerValue a_ledgerTainted g_bc b_tn b_mem b_dic b_pol b_book b_msg H
  have HR : i_Rel (k + 5) (f_allLanes, f_firstLanes, f_oddLanes, f_sevenNodes, nI NI, nI NV, nI D, nI FK, f_tainted, f_echoSome, f_candidateSome, f_bits, f_proposalSome, f_proposalOne, f_strong, f_corrupted, f_valueLanes, f_echoLanes, f_exchangeLanes, f_proposeLanes, f_kingLanes, f_valueLanes ||| f_echoLanes, (f_exchangeLanes ||| f_proposeLanes) ||| f_kingLanes, (f_valueLanes ||| f_echoLanes) ||| ((f_exchangeLanes ||| f_proposeLanes) ||| f_kingLanes), f_kingBits, f_dueSome, f_sum0, f_sum1, f_sum2, f_ledgerHead, f_ledgerSize, a_rounds, a_planes, a_policies, a_dictSet, a_dictSome, a_dictPlanes, a_splitPlanes, a_duePlanes, a_sentSome, a_sentPlanes, a_match, a_ledgerInstance, a_ledgerValue, a_ledgerTainted) (nI NI, nI NV, nI D, nI FK, g_bc, a_rounds, b_tn, b_mem, b_dic, b_pol, b_book, b_msg) := pv_mkR H
  obtain ⟨⟨N1, N2, N3, N4, N5, N6⟩, hk, HM, HD, HC, HT, HLN, HS, HX, HY⟩ := H
  have C1 := HC.1
  rcases pv_csI v1 (N := NI) (by omega) with ⟨i, hi, rfl⟩ | hb
  · have i4 : i < 4 := by omega
    rcases pv_csN v2 with ⟨f, hf, rfl⟩ | hb
    · have hvf : vp_in (nI f) 7 := vp_in_nI hf (by decide)
      have hcf : (nI f).toNatClampNeg = f := nI_clamp (by omega)
      have c1 := C1 f hf
      -- the reference's walk up to the king's check
      have Y0 (post : Int32 → SY → Prop) (z : ¬ (v3 &&& 127) = 0) (hr : pv_ir (a_rounds i) = true) (hy : ¬ b_pol f = -1) (h : wpY_kingRound (fun r_46 => (((r_46 = 0 → (wY_dictate_76 post (nI i) (nI f) v3 v4 (nI NI) (nI NV) (nI D) (nI FK) g_bc a_rounds b_tn b_mem b_dic b_pol b_book b_msg)) ∧ (¬ r_46 = 0 → (wpY_kingOf (fun r_81 => (((nI f = r_81 → (wY_dictate_76 post (nI i) (nI f) v3 v4 (nI NI) (nI NV) (nI D) (nI FK) g_bc a_rounds b_tn b_mem b_dic b_pol b_book b_msg)) ∧ (¬ nI f = r_81 → (post (-18) (nI NI, nI NV, nI D, nI FK, g_bc, a_rounds, b_tn, b_mem, b_dic, b_pol, b_book, b_msg)))))) (nI NI, nI NV, nI D, nI FK, g_bc, a_rounds, b_tn, b_mem, b_dic, b_pol, b_book, b_msg) (nI i)))))) (nI NI, nI NV, nI D, nI FK, g_bc, a_rounds, b_tn, b_mem, b_dic, b_pol, b_book, b_msg) (nI i)) : wpY_dictate post (nI NI, nI NV, nI D, nI FK, g_bc, a_rounds, b_tn, b_mem, b_dic, b_pol, b_book, b_msg) (nI i) (nI f) v3 v4 := by
        unfold wpY_dictate
        refine yw_biY N2 hi (br_t rfl (yw_bnY hf (br_t rfl (br_f z (yw_run i4 (hk i i4) (fun _ => br_f pv_01 ⟨hvf, ?_⟩) (fun q => ?_))))))
        · rw [hcf]
          exact br_f hy h
        · rw [q] at hr; exact absurd hr (by decide)
      -- what follows the king's check
      have T (hr : pv_ir (a_rounds i) = true) (YK : ∀ post : Int32 → SY → Prop, wY_dictate_76 post (nI i) (nI f) v3 v4 (nI NI) (nI NV) (nI D) (nI FK) g_bc a_rounds b_tn b_mem b_dic b_pol b_book b_msg → wpY_dictate post (nI NI, nI NV, nI D, nI FK, g_bc, a_rounds, b_tn, b_mem, b_dic, b_pol, b_book, b_msg) (nI i) (nI f) v3 v4) : wX_dictate_85 (fun r u' => wpY_dictate (fun r' v' => r' = r ∧ i_Rel (k + 5) u' v') (nI NI, nI NV, nI D, nI FK, g_bc, a_rounds, b_tn, b_mem, b_dic, b_pol, b_book, b_msg) (nI i) (nI f) v3 v4) (nI i) (nI f) v3 v4 f_allLanes f_firstLanes f_oddLanes f_sevenNodes (nI NI) (nI NV) (nI D) (nI FK) f_tainted f_echoSome f_candidateSome f_bits f_proposalSome f_proposalOne f_strong f_corrupted f_valueLanes f_echoLanes f_exchangeLanes f_proposeLanes f_kingLanes (f_valueLanes ||| f_echoLanes) ((f_exchangeLanes ||| f_proposeLanes) ||| f_kingLanes) ((f_valueLanes ||| f_echoLanes) ||| ((f_exchangeLanes ||| f_proposeLanes) ||| f_kingLanes)) f_kingBits f_dueSome f_sum0 f_sum1 f_sum2 f_ledgerHead f_ledgerSize a_rounds a_planes a_policies a_dictSet a_dictSome a_dictPlanes a_splitPlanes a_duePlanes a_sentSome a_sentPlanes a_match a_ledgerInstance a_ledgerValue a_ledgerTainted := by
        by_cases z : v4 < -2
        · exact xw_d85n i4 (Or.inl z) (YK _ (yw_d76n i4 (Or.inl z) ⟨rfl, HR⟩))
        by_cases y : v4 < pv_szo NV (a_rounds i)
        · obtain ⟨m, hm, hm2, em⟩ := pv_szo_le (x := a_rounds i) N3 N4
          obtain ⟨sb, ob, a, hcl, hmd, hlt⟩ := pv_cls hm z (by rw [← em]; exact y)
          refine xw_d85 i4 hf hcl y ?_
          intro ds so dp HDC
          refine YK _ (yw_d76 i4 hf z y ?_)
          intro dic h1 h2
          refine ⟨rfl, pv_mkR ⟨⟨N1, N2, N3, N4, N5, N6⟩, hk, HM, fun j hj g hg n hn => ?_, HC, HT, HLN, HS, HX, HY⟩⟩
          obtain ⟨D1, D2⟩ := HDC
          obtain ⟨o1, o2⟩ := HD j hj g hg n hn
          by_cases c : g = f
          · subst c
            obtain ⟨e1, e2, e3⟩ := D2 (8 * j + n) (by omega)
            rw [pv_lay _ i4 (by omega) (by omega), decide_eq_true hn, Bool.true_and] at e1 e2 e3
            by_cases c2 : j = i
            · subst c2
              rw [decide_eq_true rfl, Bool.true_and] at e1 e2 e3
              rw [e1, e2, e3, h1 n hn]
              cases hb : bt v3 n
              · rw [if_neg pv_ft, if_neg pv_ft, if_neg pv_ft, if_neg pv_ft]
                exact ⟨o1, o2⟩
              · rw [if_pos rfl, if_pos rfl, if_pos rfl, if_pos rfl]
                refine ⟨hmd, fun q _ hob => ?_⟩
                have e9 : pv_szo NV (a_rounds j) = 2 := by
                  unfold pv_szo
                  rw [if_pos]
                  rcases hk j i4 with e | ⟨R, hR, e⟩
                  · rw [e] at q; exact absurd (by decide) q
                  · rw [e] at q ⊢
                    have : 2 ≤ R := Nat.not_lt.mp (fun w => q (nI_lt (b := 2) w (by decide)))
                    exact nI_lt (a := 1) (by omega) (by omega)
                have : m = 2 := (nI_eq (b := 2) (by omega) (by decide)).mp (em.symm.trans e9)
                have := hlt hob
                omega
            · rw [decide_eq_false c2, Bool.false_and, if_neg pv_ft] at e1 e2 e3
              rw [e1, e2, e3, h2 _ (fun q hq => by unfold pv_dx; omega)]
              exact ⟨o1, o2⟩
          · obtain ⟨e1, e2, e3⟩ := D1 g c
            rw [e1, e2, e3, h2 _ (fun q hq => by unfold pv_dx; omega)]
            exact ⟨o1, o2⟩
        · exact xw_d85n i4 (Or.inr ⟨z, y⟩) (YK _ (yw_d76n i4 (Or.inr ⟨z, y⟩) ⟨rfl, HR⟩))
      unfold wpX_dictate
      refine xw_biY N2 hi (br_t rfl (xw_bnY hf (br_t rfl (br_c (fun z => ?_) (fun z => xw_run i4 (hk i i4) (fun hr => br_f pv_01 (xw_cor hf (fun w => br_f pv_01 ?_) (fun w => br_t rfl ?_))) (fun hr => br_t rfl ?_))))))
      · unfold wpY_dictate
        exact yw_biY N2 hi (br_t rfl (yw_bnY hf (br_t rfl (br_t z ⟨rfl, HR⟩))))
      · have hy : ¬ b_pol f = -1 := fun e => by rw [w, decide_eq_true e] at c1; exact absurd c1 (by decide)
        intro x5 e5
        subst e5
        refine br_c (fun q => ?_) (fun q => xw_kgo i4 ?_)
        · have q' := (pv_kz HLN hi N2).mp q
          refine T hr (fun post h => Y0 post z hr hy (yw_kr i4 (fun e => ?_) (fun _ => br_t rfl h)))
          rw [q'] at e; exact absurd e (by decide)
        · have q' : pv_ik (a_rounds i) = true := by
            cases e : pv_ik (a_rounds i)
            · exact absurd ((pv_kz HLN hi N2).mpr e) q
            · rfl
          refine br_c (fun e => ?_) (fun e => ?_)
          · refine T hr (fun post h => Y0 post z hr hy (yw_kr i4 (fun _ => br_f pv_01 (yw_kgo i4 (br_t e.symm h))) (fun e' => ?_)))
            rw [q'] at e'; exact absurd e' (by decide)
          · refine Y0 _ z hr hy (yw_kr i4 (fun _ => br_f pv_01 (yw_kgo i4 (br_f (fun e' => e e'.symm) ⟨rfl, HR⟩))) (fun e' => ?_))
            rw [q'] at e'; exact absurd e' (by decide)
      · have hy : b_pol f = -1 := Classical.byContradiction (fun e => by rw [w, decide_eq_false e] at c1; exact absurd c1 (by decide))
        unfold wpY_dictate
        refine yw_biY N2 hi (br_t rfl (yw_bnY hf (br_t rfl (br_f z (yw_run i4 (hk i i4) (fun _ => br_f pv_01 ⟨hvf, ?_⟩) (fun q => ?_))))))
        · rw [hcf]
          exact br_t hy ⟨rfl, HR⟩
        · rw [q] at hr; exact absurd hr (by decide)
      · unfold wpY_dictate
        refine yw_biY N2 hi (br_t rfl (yw_bnY hf (br_t rfl (br_f z (yw_run i4 (hk i i4) (fun q => ?_) (fun _ => br_t rfl ⟨rfl, HR⟩))))))
        rw [q] at hr; exact absurd hr (by decide)
    · unfold wpX_dictate wpY_dictate
      exact xw_biY N2 hi (br_t rfl (xw_bnN hb (br_f pv_01 (yw_biY N2 hi (br_t rfl (yw_bnN hb (br_f pv_01 ⟨rfl, HR⟩)))))))
  · unfold wpX_dictate wpY_dictate
    exact xw_biN hb (br_f pv_01 (yw_biN hb (br_f pv_01 ⟨rfl, HR⟩)))
end
section
/-! the constructors -/
theorem pv_clpN (p : Int32) {lo hi : Nat} (h : lo ≤ hi) (hh : hi < 2 ^ 31) : ∃ m, lo ≤ m ∧ m ≤ hi ∧ pv_clp p (nI lo) (nI hi) = nI m := by
  unfold pv_clp
  by_cases c : nI lo ≤ p
  · rw [if_pos c]
    by_cases d : p ≤ nI hi
    · rw [if_pos d]
      have hn : ¬ p < 0 := by
        rw [Int32.lt_iff_toInt_lt]
        rw [Int32.le_iff_toInt_le, nI_toInt (by omega)] at c
        have e0 : (0 : Int32).toInt = 0 := by decide
        omega
      obtain ⟨j, hj, rfl⟩ := nI_of hn
      exact ⟨j, (nI_leI (by omega) hj).mp c, (nI_leI hj hh).mp d, rfl⟩
    · rw [if_neg d]; exact ⟨hi, h, Nat.le_refl _, rfl⟩
  · rw [if_neg c]; exact ⟨lo, Nat.le_refl _, h, rfl⟩
def pv_sg (sw : Nat → Int32) (r c : Nat) (k : Nat) : Int32 := if bt (nI c) k then sw k ||| ((16843009 : Int32) <<< (nI r &&& 31)) else sw k
def pv_SPI (NV r : Nat) (sw : Nat → Int32) : Prop := ∀ i, i < 4 → ∀ n, n < 7 → pv_rd sw 0 (8 * i + n) = if n < r then n % NV else 0
theorem pv_e0z {a b c d : Bool} (h : pv_e a b c d = 0) : a = false ∧ b = false ∧ c = false ∧ d = false := by
  revert a b c d
  decide
theorem pv_SPs {NV r : Nat} {sw : Nat → Int32} (hV : 2 ≤ NV) (hV2 : NV ≤ 16) (hr : r < 7) (H : pv_SPI NV r sw) : pv_SPI NV (r + 1) (pv_bl 0 (pv_sg sw r (r % NV)) sw 4) := by
  intro i hi n hn
  have hm : r % NV < 16 := by have := Nat.mod_lt r (by omega : 0 < NV); omega
  have gb (k : Nat) (hk : k < 4) : bt (pv_bl 0 (pv_sg sw r (r % NV)) sw 4 (0 + k)) (8 * i + n) = if n = r then (bt (sw k) (8 * i + n) || bt (nI (r % NV)) k) else bt (sw k) (8 * i + n) := by
    rw [pv_blg hk]
    unfold pv_sg
    cases hb : bt (nI (r % NV)) k
    · rw [if_neg pv_ft, Bool.or_false]
      split <;> rfl
    · rw [if_pos rfl, b_or, pv_fl r hr i hi n (by omega)]
      by_cases c : n = r
      · rw [decide_eq_true c, if_pos c]
      · rw [decide_eq_false c, if_neg c, Bool.or_false]
  by_cases c : n = r
  · have h0 := H i hi n hn
    rw [if_neg (by omega)] at h0
    obtain ⟨z0, z1, z2, z3⟩ := pv_e0z h0
    rw [if_pos (by omega)]
    have := pv_rd_v (a := pv_bl 0 (pv_sg sw r (r % NV)) sw 4) (b := 0) (l := 8 * i + n) hm (fun k hk => by
      rw [gb k hk, if_pos c]
      have : bt (sw k) (8 * i + n) = false := by
        rcases k with _ | _ | _ | _ | k
        · exact z0
        · exact z1
        · exact z2
        · exact z3
        · omega
      rw [this, Bool.false_or])
    rw [this, c]
  · have : pv_rd (pv_bl 0 (pv_sg sw r (r % NV)) sw 4) 0 (8 * i + n) = pv_rd sw 0 (8 * i + n) := pv_rd_cg (fun k hk => by rw [gb k hk, if_neg c, Nat.zero_add])
    rw [this, H i hi n hn]
    by_cases d : n < r
    · rw [if_pos d, if_pos (by omega)]
    · rw [if_neg d, if_neg (by omega)]
section
variable {f_allLanes f_firstLanes f_oddLanes f_sevenNodes f_instances f_values f_defaultValue f_firstKing f_tainted f_echoSome f_candidateSome f_bits f_proposalSome f_proposalOne f_strong f_corrupted f_valueLanes f_echoLanes f_exchangeLanes f_proposeLanes f_kingLanes f_wideLanes f_narrowLanes f_runningLanes f_kingBits f_dueSome f_sum0 f_sum1 f_sum2 f_ledgerHead f_ledgerSize : Int32} {a_rounds a_planes a_policies a_dictSet a_dictSome a_dictPlanes a_splitPlanes a_duePlanes a_sentSome a_sentPlanes a_match a_ledgerInstance a_ledgerValue a_ledgerTainted : Nat → Int32}
theorem xw_i215 {post : SX → Prop} {NV : Nat} (hV : 2 ≤ NV) (hV2 : NV ≤ 16) (hs : pv_SPI NV 0 a_splitPlanes) (h : ∀ sw, pv_SPI NV 7 sw → post (f_allLanes, f_firstLanes, f_oddLanes, f_sevenNodes, f_instances, nI NV, f_defaultValue, f_firstKing, f_tainted, f_echoSome, f_candidateSome, f_bits, f_proposalSome, f_proposalOne, f_strong, f_corrupted, f_valueLanes, f_echoLanes, f_exchangeLanes, f_proposeLanes, f_kingLanes, f_wideLanes, f_narrowLanes, f_runningLanes, f_kingBits, f_dueSome, f_sum0, f_sum1, f_sum2, f_ledgerHead, f_ledgerSize, a_rounds, a_planes, a_policies, a_dictSet, a_dictSome, a_dictPlanes, sw, a_duePlanes, a_sentSome, a_sentPlanes, a_match, a_ledgerInstance, a_ledgerValue, a_ledgerTainted)) : ∃ n, wX_init_215 post f_allLanes f_firstLanes f_oddLanes f_sevenNodes f_instances (nI NV) f_defaultValue f_firstKing f_tainted f_echoSome f_candidateSome f_bits f_proposalSome f_proposalOne f_strong f_corrupted f_valueLanes f_echoLanes f_exchangeLanes f_proposeLanes f_kingLanes f_wideLanes f_narrowLanes f_runningLanes f_kingBits f_dueSome f_sum0 f_sum1 f_sum2 f_ledgerHead f_ledgerSize n 0 a_rounds a_planes a_policies a_dictSet a_dictSome a_dictPlanes a_splitPlanes a_duePlanes a_sentSome a_sentPlanes a_match a_ledgerInstance a_ledgerValue a_ledgerTainted := by
  refine pv_l1 (fun n r s => wX_init_215 post f_allLanes f_firstLanes f_oddLanes f_sevenNodes f_instances (nI NV) f_defaultValue f_firstKing f_tainted f_echoSome f_candidateSome f_bits f_proposalSome f_proposalOne f_strong f_corrupted f_valueLanes f_echoLanes f_exchangeLanes f_proposeLanes f_kingLanes f_wideLanes f_narrowLanes f_runningLanes f_kingBits f_dueSome f_sum0 f_sum1 f_sum2 f_ledgerHead f_ledgerSize n (nI r) a_rounds a_planes a_policies a_dictSet a_dictSome a_dictPlanes s a_duePlanes a_sentSome a_sentPlanes a_match a_ledgerInstance a_ledgerValue a_ledgerTainted) (fun r s => pv_SPI NV r s) 7 a_splitPlanes hs ?_ ?_
  · intro n sw H
    exact br_t pv_77 (h sw H)
  · intro n r sw hr H K
    refine br_f (pv_n7 hr) ⟨nI_ne0 (by omega) (by omega), fun x6 e6 => ?_⟩
    rw [pk_rem (by omega) (by omega) (by omega)] at e6
    subst e6
    refine pv_l1 (fun m k s => wX_init_234 post (wX_init_215 post f_allLanes f_firstLanes f_oddLanes f_sevenNodes f_instances (nI NV) f_defaultValue f_firstKing f_tainted f_echoSome f_candidateSome f_bits f_proposalSome f_proposalOne f_strong f_corrupted f_valueLanes f_echoLanes f_exchangeLanes f_proposeLanes f_kingLanes f_wideLanes f_narrowLanes f_runningLanes f_kingBits f_dueSome f_sum0 f_sum1 f_sum2 f_ledgerHead f_ledgerSize n) (nI r) (nI (r % NV)) f_allLanes f_firstLanes f_oddLanes f_sevenNodes f_instances (nI NV) f_defaultValue f_firstKing f_tainted f_echoSome f_candidateSome f_bits f_proposalSome f_proposalOne f_strong f_corrupted f_valueLanes f_echoLanes f_exchangeLanes f_proposeLanes f_kingLanes f_wideLanes f_narrowLanes f_runningLanes f_kingBits f_dueSome f_sum0 f_sum1 f_sum2 f_ledgerHead f_ledgerSize m (nI k) a_rounds a_planes a_policies a_dictSet a_dictSome a_dictPlanes s a_duePlanes a_sentSome a_sentPlanes a_match a_ledgerInstance a_ledgerValue a_ledgerTainted) (fun k s => s = pv_bl 0 (pv_sg sw r (r % NV)) sw k) 4 sw (pv_bl0 _ _ _).symm ?_ ?_
    · rintro m s rfl
      refine br_t pv_44 (fun x ex => ?_)
      obtain rfl := ex.trans (nI_1 r)
      exact K _ (pv_SPs hV hV2 hr H)
    · rintro m k s hk rfl K2
      have hv : vp_in (nI k) 4 := vp_in_nI hk (by decide)
      have e0 : pv_bl 0 (pv_sg sw r (r % NV)) sw k k = sw k := by
        have := pv_blr 0 (pv_sg sw r (r % NV)) sw k
        rwa [Nat.zero_add] at this
      refine br_f (pv_n4 hk) (pv_b1 (by omega) (fun hb => ⟨hv, hv, fun a' ea x ex => ?_⟩) (fun hb x ex => ?_))
      · obtain rfl := ex.trans (nI_1 k)
        refine K2 a' ?_
        rw [ea, nI_clamp (by omega : k < 2 ^ 31), e0]
        have := pv_bls 0 (pv_sg sw r (r % NV)) sw k (x := sw k ||| ((16843009 : Int32) <<< (nI r &&& 31))) (by unfold pv_sg; rw [if_pos hb])
        rwa [Nat.zero_add] at this
      · obtain rfl := ex.trans (nI_1 k)
        refine K2 _ (pv_blk _ _ _ _ ?_)
        unfold pv_sg
        rw [hb, if_neg pv_ft, Nat.zero_add]
theorem xw_i192 {post : SX → Prop} {NV : Nat} (hV : 2 ≤ NV) (hV2 : NV ≤ 16) (hs : pv_SPI NV 0 a_splitPlanes) (h : ∀ sw, pv_SPI NV 7 sw → post (f_allLanes, f_firstLanes, f_oddLanes, f_sevenNodes, f_instances, nI NV, f_defaultValue, f_firstKing, f_tainted, f_echoSome, f_candidateSome, f_bits, f_proposalSome, f_proposalOne, f_strong, f_corrupted, f_valueLanes, f_echoLanes, f_exchangeLanes, f_proposeLanes, f_kingLanes, f_wideLanes, f_narrowLanes, f_runningLanes, f_kingBits, f_dueSome, f_sum0, f_sum1, f_sum2, f_ledgerHead, f_ledgerSize, pv_mm (fun _ => -1) a_rounds 4, a_planes, a_policies, a_dictSet, a_dictSome, a_dictPlanes, sw, a_duePlanes, a_sentSome, a_sentPlanes, a_match, a_ledgerInstance, a_ledgerValue, a_ledgerTainted)) : ∃ n, wX_init_192 post f_allLanes f_firstLanes f_oddLanes f_sevenNodes f_instances (nI NV) f_defaultValue f_firstKing f_tainted f_echoSome f_candidateSome f_bits f_proposalSome f_proposalOne f_strong f_corrupted f_valueLanes f_echoLanes f_exchangeLanes f_proposeLanes f_kingLanes f_wideLanes f_narrowLanes f_runningLanes f_kingBits f_dueSome f_sum0 f_sum1 f_sum2 f_ledgerHead f_ledgerSize n 0 a_rounds a_planes a_policies a_dictSet a_dictSome a_dictPlanes a_splitPlanes a_duePlanes a_sentSome a_sentPlanes a_match a_ledgerInstance a_ledgerValue a_ledgerTainted := by
  refine pv_l1 (fun n r s => wX_init_192 post f_allLanes f_firstLanes f_oddLanes f_sevenNodes f_instances (nI NV) f_defaultValue f_firstKing f_tainted f_echoSome f_candidateSome f_bits f_proposalSome f_proposalOne f_strong f_corrupted f_valueLanes f_echoLanes f_exchangeLanes f_proposeLanes f_kingLanes f_wideLanes f_narrowLanes f_runningLanes f_kingBits f_dueSome f_sum0 f_sum1 f_sum2 f_ledgerHead f_ledgerSize n (nI r) s a_planes a_policies a_dictSet a_dictSome a_dictPlanes a_splitPlanes a_duePlanes a_sentSome a_sentPlanes a_match a_ledgerInstance a_ledgerValue a_ledgerTainted) (fun r s => s = pv_mm (fun _ => -1) a_rounds r) 4 a_rounds (pv_mm0 _ _).symm ?_ ?_
  · rintro n s rfl
    exact br_t pv_44 (xw_i215 hV hV2 hs h)
  · rintro n r s hr rfl K
    refine br_f (pv_n4 hr) ⟨vp_in_nI hr (by decide), fun a' ea x ex => ?_⟩
    obtain rfl := ex.trans (nI_1 r)
    refine K a' ?_
    rw [ea, nI_clamp (by omega : r < 2 ^ 31)]
    exact pv_mms _ _ _ rfl
end
section
variable {g_ins g_val g_def g_fk g_bc : Int32} {b_rd b_tn b_mem b_dic b_pol b_book b_msg : Nat → Int32}
theorem yw_i111 {post : SY → Prop} (h : post (g_ins, g_val, g_def, g_fk, g_bc, pv_mm (fun _ => -1) b_rd 4, b_tn, b_mem, pv_mm (fun _ => -2) b_dic 196, pv_mm (fun _ => -1) b_pol 7, b_book, b_msg)) : ∃ n, wY_init_111 post g_ins g_val g_def g_fk g_bc n 0 b_rd b_tn b_mem b_dic b_pol b_book b_msg := by
  refine pv_l1 (fun n r s => wY_init_111 post g_ins g_val g_def g_fk g_bc n (nI r) s b_tn b_mem b_dic b_pol b_book b_msg) (fun r s => s = pv_mm (fun _ => -1) b_rd r) 4 b_rd (pv_mm0 _ _).symm ?_ ?_
  · rintro n s rfl
    refine br_t pv_44 ?_
    refine pv_l1 (fun n r s => wY_init_134 post g_ins g_val g_def g_fk g_bc n (nI r) (pv_mm (fun _ => -1) b_rd 4) b_tn b_mem s b_pol b_book b_msg) (fun r s => s = pv_mm (fun _ => -2) b_dic r) 196 b_dic (pv_mm0 _ _).symm ?_ ?_
    · rintro n s rfl
      refine br_t (by decide +kernel) ?_
      refine pv_l1 (fun n r s => wY_init_160 post g_ins g_val g_def g_fk g_bc n (nI r) (pv_mm (fun _ => -1) b_rd 4) b_tn b_mem (pv_mm (fun _ => -2) b_dic 196) s b_book b_msg) (fun r s => s = pv_mm (fun _ => -1) b_pol r) 7 b_pol (pv_mm0 _ _).symm ?_ ?_
      · rintro n s rfl
        exact br_t pv_77 h
      · rintro n r s hr rfl K
        refine br_f (pv_n7 hr) ⟨vp_in_nI hr (by decide), fun a' ea x ex => ?_⟩
        obtain rfl := ex.trans (nI_1 r)
        refine K a' ?_
        rw [ea, nI_clamp (by omega : r < 2 ^ 31)]
        exact pv_mms _ _ _ rfl
    · rintro n r s hr rfl K
      refine br_f (nI_ge (b := 196) hr (by decide)) ⟨vp_in_nI hr (by decide), fun a' ea x ex => ?_⟩
      obtain rfl := ex.trans (nI_1 r)
      refine K a' ?_
      rw [ea, nI_clamp (by omega : r < 2 ^ 31)]
      exact pv_mms _ _ _ rfl
  · rintro n r s hr rfl K
    refine br_f (pv_n4 hr) ⟨vp_in_nI hr (by decide), fun a' ea x ex => ?_⟩
    obtain rfl := ex.trans (nI_1 r)
    refine K a' ?_
    rw [ea, nI_clamp (by omega : r < 2 ^ 31)]
    exact pv_mms _ _ _ rfl
end
theorem pv_mmv {g a : Nat → Int32} {i j : Nat} (h : j < i) : pv_mm g a i j = g j := if_pos h
theorem i_vc0 (k0 : Int32) (k1 : Int32) (k2 : Int32) (k3 : Int32) : wpX_init (fun u => wpY_init (fun v => i_Rel 4 u v) k0 k1 k2 k3) k0 k1 k2 k3 := by
  obtain ⟨NI, n1, n2, en⟩ := pv_clpN k0 (lo := 1) (hi := 4) (by decide) (by decide)
  obtain ⟨NV, w1, w2, ew⟩ := pv_clpN k1 (lo := 2) (hi := 16) (by decide) (by decide)
  obtain ⟨D, d1, d2, ed⟩ := pv_clpN k2 (lo := 0) (hi := NV - 1) (by omega) (by omega)
  obtain ⟨FK, f1, f2, ef⟩ := pv_clpN k3 (lo := 0) (hi := 6) (by decide) (by decide)
  have en' : pv_clp k0 1 4 = nI NI := en
  have ew' : pv_clp k1 2 16 = nI NV := ew
  have ef' : pv_clp k3 0 6 = nI FK := ef
  have es : nI NV - 1 = nI (NV - 1) := pk_sub (b := 1) (by omega)
  have ed' : pv_clp k2 0 (nI NV - 1) = nI D := by rw [es]; exact ed
  have rdz (l : Nat) : pv_rd (fun _ => (0 : Int32)) 0 l = 0 := pv_rd_0 (fun k hk => b_0 _)
  unfold wpX_init
  refine xw_clp ?_
  rw [en']
  refine xw_clp ?_
  rw [ew']
  refine xw_clp ?_
  rw [ed']
  refine xw_clp ?_
  rw [ef']
  refine xw_i192 w1 w2 (fun i hi n hn => by rw [rdz, if_neg (by omega)]) ?_
  intro sw HSP
  unfold wpY_init
  refine yw_clp ?_
  rw [en']
  refine yw_clp ?_
  rw [ew']
  refine yw_clp ?_
  rw [ed']
  refine yw_clp ?_
  rw [ef']
  refine yw_i111 ?_
  have hrd (i : Nat) (hi : i < 4) : pv_mm (fun _ => -1) (fun _ => 0) 4 i = -1 := pv_mmv hi
  have L1 (p : Int32 → Bool) (hp : p (-1) = false) : pv_L1 (pv_mm (fun _ => -1) (fun _ => 0) 4) NI p 0 := by
    intro j hj n hn
    rw [b_0, hrd j hj, hp]; simp
  have LK : pv_LK (pv_mm (fun _ => -1) (fun _ => 0) 4) FK NI 0 := by
    intro j hj n hn
    rw [b_0, hrd j hj, show pv_ik (-1) = false from by decide]; simp
  have H : pv_R NI NV D FK (0, (fun _ => 0), (fun _ => 0), (fun _ => 0)) 0 0 0 0 0 0 0 0 0 0 0 0 0 0 0 0 (pv_mm (fun _ => -1) (fun _ => 0) 4) (fun _ => 0) (fun _ => 0) (fun _ => 0) (fun _ => 0) (fun _ => 0) sw (fun _ => 0) (fun _ => 0) (fun _ => 0) 0 (fun _ => 0) (fun _ => 0) (pv_mm (fun _ => -2) (fun _ => 0) 196) (pv_mm (fun _ => -1) (fun _ => 0) 7) (fun _ => 0) := by
    refine ⟨⟨n1, n2, w1, w2, by omega, by omega⟩, fun i hi => by rw [hrd i hi]; exact pv_rkm, fun i hi => ?_, fun i hi f hf n hn => ?_, ⟨fun n hn => ?_, fun n hn => b_0 n, fun n hn hne => ?_, ?_⟩, fun i hi => ⟨?_, ?_⟩, ⟨L1 _ (by decide), L1 _ (by decide), L1 _ (by decide), L1 _ (by decide), L1 _ (by decide), LK⟩, fun i hi n hn => ?_, ⟨0, by decide, rfl, Nat.zero_le _, rfl, fun k hk => absurd hk (Nat.not_lt_zero k)⟩, ⟨Nat.zero_le _, rfl, fun k hk => absurd hk (Nat.not_lt_zero k)⟩⟩
    · rw [hrd i (by omega)]
      refine pv_RM_0 (by decide) (by decide) (by decide) (by decide) (fun n hn => ?_)
      rw [rdz]
      exact ⟨rfl, by omega⟩
    · rw [b_0]
      refine ⟨?_, fun _ z => absurd z (by decide)⟩
      rw [pv_mmv (by unfold pv_dx; omega)]
      rfl
    · rw [b_0, pv_mmv hn]; rfl
    · rw [pv_mmv hn] at hne; exact absurd rfl hne
    · rw [pv_cn0.mpr (fun i _ => b_0 i)]; exact Nat.zero_le _
    · apply b_ext
      intro n hn
      rw [b_0, pv_tw_b _ (by omega), b_0, Bool.and_false]
    · rw [pv_cn0.mpr (fun i _ => b_0 i)]; exact Nat.zero_le _
    · rw [HSP i hi n hn, if_pos hn]
  exact ⟨NI, NV, D, FK, (0, (fun _ => 0), (fun _ => 0), (fun _ => 0)), ⟨rfl, rfl, rfl, rfl⟩, ⟨rfl, rfl, rfl, rfl⟩, ⟨by decide, by decide, by decide⟩, rfl, H⟩
end
