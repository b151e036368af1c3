section
/-! pure rows to paste: stores, nI and lN arithmetic, masks, shifts, narrowing, branches by naturals (pk_le, pk_lt, pk_eq), loops (lp1 .. lp16: the measure of the state; rp1 ..: recursion), negatives. Take what you need -/
theorem pk_us {f : Nat → Int32} {k : Nat} {x : Int32} : upd f k x k = x := if_pos rfl
theorem pk_un {f : Nat → Int32} {k j : Nat} {x : Int32} (h : j ≠ k) : upd f k x j = f j := if_neg h
theorem pk_uLs {f : Nat → Int64} {k : Nat} {x : Int64} : vp_updL f k x k = x := if_pos rfl
theorem pk_uLn {f : Nat → Int64} {k j : Nat} {x : Int64} (h : j ≠ k) : vp_updL f k x j = f j := if_neg h
theorem pk_sub {a b : Nat} (h : b ≤ a) : nI a - nI b = nI (a - b) := by
  obtain ⟨c, rfl⟩ : ∃ c, a = c + b := ⟨a - b, by omega⟩
  rw [← nI_add, Int32.add_sub_cancel, Nat.add_sub_cancel]
theorem pk_m1 (n : Nat) : nI (n + 1) + (-1) = nI n := by
  rw [← nI_1, Int32.add_assoc, show (1 : Int32) + (-1) = 0 from rfl, Int32.add_zero]
theorem pk_mul (a b : Nat) : nI a * nI b = nI (a * b) := (Int32.ofNat_mul a b).symm
theorem pk_div {a d : Nat} (ha : a < 2 ^ 31) (h0 : 0 < d) (hd : d < 2 ^ 31) : nI a / nI d = nI (a / d) := by
  apply Int32.toInt_inj.mp
  rw [lg_idiv_nonneg (by rw [nI_toInt ha]; omega) (by rw [nI_toInt hd]; omega), nI_toInt ha, nI_toInt hd, nI_toInt (Nat.lt_of_le_of_lt (Nat.div_le_self a d) ha)]
  first | rfl | exact (Int.natCast_ediv _ _).symm
theorem pk_rem {a d : Nat} (ha : a < 2 ^ 31) (h0 : 0 < d) (hd : d < 2 ^ 31) : nI a - nI a / nI d * nI d = nI (a % d) := by
  rw [pk_div ha h0 hd, pk_mul, pk_sub (Nat.div_mul_le_self a d)]
  exact congrArg nI (by have := Nat.div_add_mod' a d; omega)
theorem pk_sub_toInt {a b : Nat} (ha : a < 2 ^ 30) (hb : b < 2 ^ 30) : (nI a - nI b).toInt = (a : Int) - b := by
  rw [Int32.toInt_sub, nI_toInt (by omega), nI_toInt (by omega)]
  exact Int.bmod_eq_of_le (by omega) (by omega)
theorem pk_sneg {a b : Nat} (hb : b < 2 ^ 30) (h : a < b) : nI a - nI b < 0 := by
  rw [Int32.lt_iff_toInt_lt, pk_sub_toInt (by omega) hb, show (0 : Int32).toInt = 0 from by decide]
  omega
theorem pk_ix (x : Int32) {n : Nat} (hn : n < 2 ^ 31) : x < 0 ∨ nI n ≤ x ∨ ∃ j : Nat, j < n ∧ x = nI j := by
  by_cases h : x < 0
  · exact Or.inl h
  · obtain ⟨j, hj, rfl⟩ := nI_of h
    by_cases h2 : j < n
    · exact Or.inr (Or.inr ⟨j, h2, rfl⟩)
    · exact Or.inr (Or.inl (nI_le (by omega) hj))
theorem pk_le {x y : Int32} {A B : Prop} (a b : Nat) (f : a ≤ b → A) (g : b < a → B) (hx : x = nI a := by rfl) (hy : y = nI b := by rfl) (ha : a < 2 ^ 31 := by omega) (hb : b < 2 ^ 31 := by omega) : (x ≤ y → A) ∧ (¬ x ≤ y → B) := by
  subst hx hy
  rw [nI_leI ha hb]
  exact ⟨f, fun z => g (by omega)⟩
theorem pk_lt {x y : Int32} {A B : Prop} (a b : Nat) (f : a < b → A) (g : b ≤ a → B) (hx : x = nI a := by rfl) (hy : y = nI b := by rfl) (ha : a < 2 ^ 31 := by omega) (hb : b < 2 ^ 31 := by omega) : (x < y → A) ∧ (¬ x < y → B) := by
  subst hx hy
  rw [nI_ltI ha hb]
  exact ⟨f, fun z => g (by omega)⟩
theorem pk_eq {x y : Int32} {A B : Prop} (a b : Nat) (f : a = b → A) (g : a ≠ b → B) (hx : x = nI a := by rfl) (hy : y = nI b := by rfl) (ha : a < 2 ^ 31 := by omega) (hb : b < 2 ^ 31 := by omega) : (x = y → A) ∧ (¬ x = y → B) := by
  subst hx hy
  rw [nI_eq ha hb]
  exact ⟨f, g⟩
theorem pk_in {x : Int32} (n N : Nat) (h : n < N) (hx : x = nI n := by rfl) (hN : N < 2 ^ 31 := by omega) : vp_in x N := by
  subst hx
  exact vp_in_nI h hN
theorem pk_cl {x : Int32} (n : Nat) (hx : x = nI n := by rfl) (h : n < 2 ^ 31 := by omega) : x.toNatClampNeg = n := by
  subst hx
  exact nI_clamp h
theorem pk_tn {n : Nat} (h : n < 2 ^ 32) : (nI n).toBitVec.toNat = n := Nat.mod_eq_of_lt h
theorem pk_and (x : Int32) {m : Int32} (k : Nat) (hm : m.toBitVec.toNat = 2 ^ k - 1) : x &&& m = nI (x.toBitVec.toNat % 2 ^ k) := by
  apply Int32.toBitVec_inj.mp
  apply BitVec.eq_of_toNat_eq
  rw [Int32.toBitVec_and, BitVec.toNat_and, hm, Nat.and_two_pow_sub_one_eq_mod]
  show _ = (BitVec.ofNat 32 _).toNat
  rw [BitVec.toNat_ofNat]
  exact (Nat.mod_eq_of_lt (Nat.lt_of_le_of_lt (Nat.mod_le _ _) x.toBitVec.isLt)).symm
theorem pk_andN {n : Nat} (h : n < 2 ^ 32) {m : Int32} (k : Nat) (hm : m.toBitVec.toNat = 2 ^ k - 1) : nI n &&& m = nI (n % 2 ^ k) := by
  rw [pk_and _ k hm, pk_tn h]
theorem pk_andE (x : Int32) {m : Int32} (k : Nat) (hm : m.toBitVec.toNat = 2 ^ k - 1) : ∃ j : Nat, j < 2 ^ k ∧ x &&& m = nI j := ⟨_, Nat.mod_lt _ (Nat.two_pow_pos k), pk_and x k hm⟩
theorem pk_andIn (x : Int32) {m : Int32} (k : Nat) (hm : m.toBitVec.toNat = 2 ^ k - 1) (hk : k ≤ 30) : vp_in (x &&& m) (2 ^ k) := by
  obtain ⟨j, hj, e⟩ := pk_andE x k hm
  rw [e]
  exact vp_in_nI hj (Nat.lt_of_le_of_lt (Nat.pow_le_pow_right (by decide) hk) (by decide))
theorem pk_shl (a s : Int32) (k : Nat) (hs : (s.toBitVec.smod 32).toNat = k) : (a <<< s).toBitVec.toNat = a.toBitVec.toNat * 2 ^ k % 2 ^ 32 := by
  show (a.toBitVec <<< (s.toBitVec.smod 32).toNat).toNat = _
  rw [hs, BitVec.toNat_shiftLeft, Nat.shiftLeft_eq]
theorem pk_shlN {n : Nat} (s : Int32) (k : Nat) (hs : (s.toBitVec.smod 32).toNat = k) (h : n * 2 ^ k < 2 ^ 32) : nI n <<< s = nI (n * 2 ^ k) := by
  apply Int32.toBitVec_inj.mp
  apply BitVec.eq_of_toNat_eq
  have hn : n < 2 ^ 32 := Nat.lt_of_le_of_lt (Nat.le_mul_of_pos_right n (Nat.two_pow_pos k)) h
  rw [pk_shl _ _ k hs, pk_tn hn, pk_tn h, Nat.mod_eq_of_lt h]
theorem pk_shr (a s : Int32) (k : Nat) (hs : (s.toBitVec.smod 32).toNat = k) : (a >>> s).toInt = a.toInt >>> k := by
  show (a.toBitVec.sshiftRight (s.toBitVec.smod 32).toNat).toInt = _
  rw [hs, BitVec.toInt_sshiftRight]
  rfl
theorem pk_shrN {n : Nat} (h : n < 2 ^ 31) (s : Int32) (k : Nat) (hs : (s.toBitVec.smod 32).toNat = k) : nI n >>> s = nI (n / 2 ^ k) := by
  apply Int32.toInt_inj.mp
  have h2 : n / 2 ^ k ≤ n := Nat.div_le_self _ _
  rw [pk_shr _ _ k hs, nI_toInt h, nI_toInt (by omega), Int.shiftRight_eq_div_pow]
  rfl
theorem pk_ushr (x s : Int32) (k : Nat) (hs : ((s.toUInt32 &&& Int32.toUInt32 31).toBitVec % 32).toNat = k) : (x.toUInt32 >>> (s.toUInt32 &&& Int32.toUInt32 31)).toInt32.toBitVec.toNat = x.toBitVec.toNat / 2 ^ k := by
  have e : (x.toUInt32 >>> (s.toUInt32 &&& Int32.toUInt32 31)).toInt32.toBitVec = x.toBitVec >>> k := by
    rw [← hs]
    exact UInt32.toBitVec_shiftRight _ _
  rw [e, BitVec.toNat_ushiftRight, Nat.shiftRight_eq_div_pow]
theorem pk_ushrN {n : Nat} (hn : n < 2 ^ 32) (s : Int32) (k : Nat) (hs : ((s.toUInt32 &&& Int32.toUInt32 31).toBitVec % 32).toNat = k) : ((nI n).toUInt32 >>> (s.toUInt32 &&& Int32.toUInt32 31)).toInt32 = nI (n / 2 ^ k) := by
  apply Int32.toBitVec_inj.mp
  apply BitVec.eq_of_toNat_eq
  rw [pk_ushr _ s k hs, pk_tn hn, pk_tn (Nat.lt_of_le_of_lt (Nat.div_le_self _ _) hn)]
theorem pk_nb (z : Int32) : narrow .byte (.int z.toInt8.toInt32) = .int z.toInt8.toInt32 := congrArg Value.int (by simp)
theorem pk_ns (z : Int32) : narrow .short (.int z.toInt16.toInt32) = .int z.toInt16.toInt32 := congrArg Value.int (by simp)
theorem pk_fb (r : Int32) : fits .byte (.int r.toInt8.toInt32) = true := by
  have ⟨a, b⟩ := lg_i2b_range r
  have h1 : (-128 : Int32).toInt = -128 := by decide
  have h2 : (127 : Int32).toInt = 127 := by decide
  simp only [fits, Bool.and_eq_true, decide_eq_true_eq, Int32.le_iff_toInt_le, h1, h2]
  omega
theorem pk_fs (r : Int32) : fits .short (.int r.toInt16.toInt32) = true := by
  have ⟨a, b⟩ := lg_i2s_range r
  have h1 : (-32768 : Int32).toInt = -32768 := by decide
  have h2 : (32767 : Int32).toInt = 32767 := by decide
  simp only [fits, Bool.and_eq_true, decide_eq_true_eq, Int32.le_iff_toInt_le, h1, h2]
  omega
theorem pk_charN {q : Nat} (hq : q < 65536) : narrow .char (.int (nI q)) = .int (nI q) ∧ fits .char (.int (nI q)) = true := by
  constructor
  · have e : (nI q).toUInt32.toUInt16.toUInt32.toInt32 = nI q := by
      apply Int32.toBitVec_inj.mp
      apply BitVec.eq_of_toNat_eq
      show (nI q).toUInt32.toUInt16.toUInt32.toNat = q % 2 ^ 32
      rw [UInt16.toNat_toUInt32, UInt32.toNat_toUInt16, show (nI q).toUInt32.toNat = q % 2 ^ 32 from rfl]
      omega
    exact congrArg Value.int e
  · have a : (0 : Int32) ≤ nI q := nI_pos' (by omega)
    have b : nI q ≤ 65535 := nI_le (b := 65535) (by omega) (by decide)
    show (decide ((0 : Int32) ≤ nI q) && decide (nI q ≤ 65535)) = true
    rw [decide_eq_true a, decide_eq_true b]
    rfl
theorem pk_char (x : Int32) : (x.toUInt32 % 65536).toInt32 = nI (x.toBitVec.toNat % 65536) := by
  apply Int32.toBitVec_inj.mp
  apply BitVec.eq_of_toNat_eq
  rw [pk_tn (by omega)]
  show (x.toUInt32 % 65536).toNat = _
  rw [UInt32.toNat_mod]
  rfl
theorem pk_nc (x : Int32) : narrow .char (.int (x.toUInt32 % 65536).toInt32) = .int (x.toUInt32 % 65536).toInt32 := by
  rw [pk_char]
  exact (pk_charN (Nat.mod_lt _ (by decide))).1
theorem pk_fc (x : Int32) : fits .char (.int (x.toUInt32 % 65536).toInt32) = true := by
  rw [pk_char]
  exact (pk_charN (Nat.mod_lt _ (by decide))).2
theorem pk_vb (z : Int32) : vp_nar .byte z.toInt8.toInt32 = z.toInt8.toInt32 := by rw [vp_nar_byte]; simp
theorem pk_vs (z : Int32) : vp_nar .short z.toInt16.toInt32 = z.toInt16.toInt32 := by rw [vp_nar_short]; simp
theorem pk_vc (z : Int32) : vp_nar .char (z.toUInt32 % 65536).toInt32 = (z.toUInt32 % 65536).toInt32 := Value.int.inj (pk_nc z)
theorem pk_lT {n : Nat} (h : n < 2 ^ 63) : (lN n).toInt = (n : Int) := lg_ofNat_toInt h
theorem pk_lLT {a b : Nat} (ha : a < 2 ^ 63) (hb : b < 2 ^ 63) : lN a < lN b ↔ a < b := by
  rw [Int64.lt_iff_toInt_lt, pk_lT ha, pk_lT hb]; omega
theorem pk_lLE {a b : Nat} (ha : a < 2 ^ 63) (hb : b < 2 ^ 63) : lN a ≤ lN b ↔ a ≤ b := by
  rw [Int64.le_iff_toInt_le, pk_lT ha, pk_lT hb]; omega
theorem pk_lEQ {a b : Nat} (ha : a < 2 ^ 63) (hb : b < 2 ^ 63) : lN a = lN b ↔ a = b := by
  rw [← Int64.toInt_inj, pk_lT ha, pk_lT hb]; omega
theorem pk_lOf {x : Int64} (h : ¬ x < 0) : ∃ k : Nat, k < 2 ^ 63 ∧ x = lN k := by
  rw [Int64.lt_iff_toInt_lt] at h
  have h0 : (0 : Int64).toInt = 0 := by decide
  have hx := Int64.toInt_lt x
  refine ⟨x.toInt.toNat, by omega, Int64.toInt_inj.mp ?_⟩
  rw [pk_lT (by omega)]
  omega
theorem pk_lDiv {a b : Nat} (ha : a < 2 ^ 63) (h0 : 0 < b) (hb : b < 2 ^ 63) : lN a / lN b = lN (a / b) := by
  apply Int64.toInt_inj.mp
  rw [lg_ldiv_nonneg (by rw [pk_lT ha]; omega) (by rw [pk_lT hb]; omega), pk_lT ha, pk_lT hb, pk_lT (Nat.lt_of_le_of_lt (Nat.div_le_self a b) ha)]
  rfl
theorem pk_lRem {a b : Nat} (ha : a < 2 ^ 63) (h0 : 0 < b) (hb : b < 2 ^ 63) : lN a - lN a / lN b * lN b = lN (a % b) := by
  rw [pk_lDiv ha h0 hb, lN_mul, lN_sub (Nat.div_mul_le_self a b)]
  exact congrArg lN (by have := Nat.div_add_mod' a b; omega)
theorem pk_loop {σ : Type} (W : Nat → Nat → σ → Prop) (I : Nat → σ → Prop) (e i0 : Nat) (s : σ) (hi : i0 ≤ e) (h0 : I i0 s) (hx : ∀ n s, I e s → W (n + 1) e s)
    (hs : ∀ n i s, i < e → I i s → (∀ s', I (i + 1) s' → W n (i + 1) s') → W (n + 1) i s) : ∃ n, W n i0 s :=
  ⟨e + 1, loop_i W I e hx hs (e + 1) i0 s hi (by omega) h0⟩
theorem pk_loopD {σ : Type} (W : Nat → Nat → σ → Prop) (I : Nat → σ → Prop) (hx : ∀ n s, I 0 s → W (n + 1) 0 s)
    (hs : ∀ n i s, I (i + 1) s → (∀ s', I i s' → W n i s') → W (n + 1) (i + 1) s) : ∀ (e : Nat) (s : σ), I e s → W (e + 1) e s := by
  intro e
  induction e with
  | zero => exact fun s h => hx 0 s h
  | succ e ih => exact fun s h => hs (e + 1) e s h (fun s' h' => ih s' h')
end
section
/-! rows on bits, shifts and unsigned numbers, to paste: each family out of a closed proof of our own, whole with what it rests on; each by itself clean at Lean in its own claim (generation 39, form 5). Take a family whole -/
/-! ===== Int32 by its bits: bt x i ===== -/
def bt (x : Int32) (i : Nat) : Bool := x.toBitVec.getLsbD i
theorem b_ext {x y : Int32} (h : ∀ i, i < 32 → bt x i = bt y i) : x = y := Int32.toBitVec_inj.mp (BitVec.eq_of_getLsbD_eq (fun i hi => h i hi))
theorem b_or (x y : Int32) (i : Nat) : bt (x ||| y) i = (bt x i || bt y i) := by unfold bt; rw [Int32.toBitVec_or, BitVec.getLsbD_or]
theorem b_and (x y : Int32) (i : Nat) : bt (x &&& y) i = (bt x i && bt y i) := by unfold bt; rw [Int32.toBitVec_and, BitVec.getLsbD_and]
theorem b_xor (x y : Int32) (i : Nat) : bt (x ^^^ y) i = (bt x i ^^ bt y i) := by unfold bt; rw [Int32.toBitVec_xor, BitVec.getLsbD_xor]
theorem b_big {x : Int32} {i : Nat} (h : 32 ≤ i) : bt x i = false := BitVec.getLsbD_of_ge _ _ h
theorem b_255 (i : Nat) : bt 255 i = decide (i < 8) := by
  rcases Nat.lt_or_ge i 32 with h | h
  · exact (by decide +kernel : ∀ i, i < 32 → bt 255 i = decide (i < 8)) i h
  · rw [b_big h, decide_eq_false (by omega)]
theorem b_65535 (i : Nat) : bt 65535 i = decide (i < 16) := by
  rcases Nat.lt_or_ge i 32 with h | h
  · exact (by decide +kernel : ∀ i, i < 32 → bt 65535 i = decide (i < 16)) i h
  · rw [b_big h, decide_eq_false (by omega)]
theorem b_m1 : ∀ i, i < 32 → bt (-1) i = true := by decide +kernel
theorem b_0 (i : Nat) : bt 0 i = false := BitVec.getLsbD_zero
theorem s_l : ∀ n, n < 32 → ((nI n &&& 31).toBitVec.smod 32).toNat = n := by decide +kernel
theorem s_u : ∀ n, n < 32 → (((nI n).toUInt32 &&& Int32.toUInt32 31).toBitVec % 32).toNat = n := by decide +kernel
theorem b_shl (n : Nat) (hn : n < 32) (x : Int32) {i : Nat} (hi : i < 32) : bt (x <<< (nI n &&& 31)) i = (decide (n ≤ i) && bt x (i - n)) := by
  unfold bt
  rw [Int32.toBitVec_shiftLeft]
  show (x.toBitVec <<< ((nI n &&& 31).toBitVec.smod 32).toNat).getLsbD i = _
  rw [s_l n hn, BitVec.getLsbD_shiftLeft]
  rcases Nat.lt_or_ge i n with h | h
  · simp [h, Nat.not_le.mpr h]
  · simp [hi, h, Nat.not_lt.mpr h]
theorem b_ushr (n : Nat) (hn : n < 32) (x : Int32) (i : Nat) : bt ((x.toUInt32 >>> ((nI n).toUInt32 &&& Int32.toUInt32 31)).toInt32) i = bt x (n + i) := by
  show (x.toUInt32 >>> ((nI n).toUInt32 &&& Int32.toUInt32 31)).toBitVec.getLsbD i = x.toUInt32.toBitVec.getLsbD (n + i)
  rw [UInt32.toBitVec_shiftRight]
  show (x.toUInt32.toBitVec >>> (((nI n).toUInt32 &&& Int32.toUInt32 31).toBitVec % 32).toNat).getLsbD i = _
  rw [s_u n hn, BitVec.getLsbD_ushiftRight]
theorem b_sshr (n : Nat) (hn : n < 32) (x : Int32) {i : Nat} (hi : i < 32) : bt (x >>> (nI n &&& 31)) i = if n + i < 32 then bt x (n + i) else bt x 31 := by
  unfold bt
  rw [Int32.toBitVec_shiftRight]
  show (x.toBitVec.sshiftRight ((nI n &&& 31).toBitVec.smod 32).toNat).getLsbD i = _
  rw [s_l n hn, BitVec.getLsbD_sshiftRight, BitVec.msb_eq_getLsbD_last]
  simp [hi]
theorem b_shl8 (x : Int32) {i : Nat} (hi : i < 32) : bt (x <<< ((8 : Int32) &&& 31)) i = (decide (8 ≤ i) && bt x (i - 8)) := b_shl 8 (by omega) x hi
theorem b_shl16 (x : Int32) {i : Nat} (hi : i < 32) : bt (x <<< ((16 : Int32) &&& 31)) i = (decide (16 ≤ i) && bt x (i - 16)) := b_shl 16 (by omega) x hi
theorem b_shl24 (x : Int32) {i : Nat} (hi : i < 32) : bt (x <<< ((24 : Int32) &&& 31)) i = (decide (24 ≤ i) && bt x (i - 24)) := b_shl 24 (by omega) x hi
theorem b_sshr8 (x : Int32) {i : Nat} (hi : i < 32) : bt (x >>> ((8 : Int32) &&& 31)) i = if 8 + i < 32 then bt x (8 + i) else bt x 31 := b_sshr 8 (by omega) x hi
/-! ===== nI under and, xor, >>>, one bit, 65535 ===== -/
end
section
/-! base: options as ints, numbers with literals, narrowing, pigeonhole, counts -/
def rd_o : Option Nat → Int32
  | none => -1
  | some j => nI j
theorem rd_o0 : rd_o none = -1 := rfl
theorem rd_o1 (j : Nat) : rd_o (some j) = nI j := rfl
theorem rd_m1n : (-1 : Int32) < 0 := by decide
theorem rd_m1p : ¬ (0 : Int32) ≤ -1 := by decide
theorem rd_o_neg {o : Option Nat} (h : ∀ j, o = some j → j < 2 ^ 31) : rd_o o < 0 ↔ o = none := by
  cases o with
  | none => exact ⟨fun _ => rfl, fun _ => rd_m1n⟩
  | some j => exact ⟨fun z => absurd z (nI_pos (h j rfl)), fun z => nomatch z⟩
theorem rd_o_pos {o : Option Nat} (h : ∀ j, o = some j → j < 2 ^ 31) : 0 ≤ rd_o o ↔ o ≠ none := by
  cases o with
  | none => exact ⟨fun z => absurd z rd_m1p, fun z => absurd rfl z⟩
  | some j => exact ⟨fun _ z => (nomatch z), fun _ => nI_pos' (h j rfl)⟩
theorem rd_nm1 {n : Nat} (h : n < 2 ^ 31) : ¬ nI n = -1 := fun e => nI_pos h (e ▸ rd_m1n)
theorem rd_m2 (a : Nat) : (2 : Int32) * nI a = nI (2 * a) := pk_mul 2 a
theorem rd_m3 (a : Nat) : (3 : Int32) * nI a = nI (3 * a) := pk_mul 3 a
theorem rd_m4 (a : Nat) : (4 : Int32) * nI a = nI (4 * a) := pk_mul 4 a
theorem rd_m5 (a : Nat) : (5 : Int32) * nI a = nI (5 * a) := pk_mul 5 a
theorem rd_m12 (a : Nat) : (12 : Int32) * nI a = nI (12 * a) := pk_mul 12 a
theorem rd_m24 (a : Nat) : (24 : Int32) * nI a = nI (24 * a) := pk_mul 24 a
theorem rd_m60 (a : Nat) : (60 : Int32) * nI a = nI (60 * a) := pk_mul 60 a
theorem rd_a2 (a : Nat) : nI a + 2 = nI (a + 2) := nI_add a 2
theorem rd_a3 (a : Nat) : nI a + 3 = nI (a + 3) := nI_add a 3
theorem rd_a4 (a : Nat) : nI a + 4 = nI (a + 4) := nI_add a 4
theorem rd_a10 (a : Nat) : nI a + 10 = nI (a + 10) := nI_add a 10
theorem rd_a12 (a : Nat) : nI a + 12 = nI (a + 12) := nI_add a 12
theorem rd_a24 (a : Nat) : nI a + 24 = nI (a + 24) := nI_add a 24
theorem rd_a60 (a : Nat) : nI a + 60 = nI (a + 60) := nI_add a 60
theorem rd_4a (a : Nat) : (4 : Int32) + nI a = nI (4 + a) := nI_add 4 a
theorem rd_48a (a : Nat) : (48 : Int32) + nI a = nI (48 + a) := nI_add 48 a
theorem rd_100a (a : Nat) : (100 : Int32) + nI a = nI (100 + a) := nI_add 100 a
theorem rd_0a : (0 : Int32) + 1 = nI 1 := by decide
theorem rd_in {n N : Nat} (h : n < N) (hN : N < 2 ^ 31 := by decide) : vp_in (nI n) N := vp_in_nI h hN
theorem rd_in' {x : Int32} (n : Nat) {N : Nat} (e : x = nI n) (h : n < N) (hN : N < 2 ^ 31 := by decide) : vp_in x N := e ▸ vp_in_nI h hN
theorem rd_cl {n : Nat} (h : n < 3000) : (nI n).toNatClampNeg = n := nI_clamp (by omega)
theorem rd_cl' {x : Int32} {n : Nat} (e : x = nI n) (h : n < 3000) : x.toNatClampNeg = n := e ▸ nI_clamp (by omega)
theorem rd_b8 : ∀ n, n < 128 → (nI n).toInt8.toInt32 = nI n := by decide +kernel
theorem rd_s16 : ∀ n, n < 4096 → (nI n).toInt16.toInt32 = nI n := by decide +kernel
theorem rd_nb {n : Nat} (h : n < 128) : vp_nar .byte (nI n) = nI n := by rw [vp_nar_byte]; exact rd_b8 n h
theorem rd_nb8 {n : Nat} (h : n < 128) : vp_nar .byte (nI n).toInt8.toInt32 = nI n := by rw [rd_b8 n h]; exact rd_nb h
theorem rd_ns {n : Nat} (h : n < 4096) : vp_nar .short (nI n) = nI n := by rw [vp_nar_short]; exact rd_s16 n h
theorem rd_ns16 {n : Nat} (h : n < 4096) : vp_nar .short (nI n).toInt16.toInt32 = nI n := by rw [rd_s16 n h]; exact rd_ns h
theorem rd_b8m : (-1 : Int32).toInt8.toInt32 = -1 := by decide
theorem rd_s16m : (-1 : Int32).toInt16.toInt32 = -1 := by decide
theorem rd_nbm : vp_nar .byte (-1) = -1 := by rw [vp_nar_byte]; decide
theorem rd_nsm : vp_nar .short (-1) = -1 := by rw [vp_nar_short]; decide
theorem rd_nb8m : vp_nar .byte (-1 : Int32).toInt8.toInt32 = -1 := by rw [rd_b8m, rd_nbm]
theorem rd_ns16m : vp_nar .short (-1 : Int32).toInt16.toInt32 = -1 := by rw [rd_s16m, rd_nsm]
theorem rd_nbo {o : Option Nat} (h : ∀ j, o = some j → j < 128) : vp_nar .byte (rd_o o) = rd_o o := by
  cases o with
  | none => exact rd_nbm
  | some j => exact rd_nb (h j rfl)
theorem rd_nb8o {o : Option Nat} (h : ∀ j, o = some j → j < 128) : vp_nar .byte (rd_o o).toInt8.toInt32 = rd_o o := by
  cases o with
  | none => exact rd_nb8m
  | some j => exact rd_nb8 (h j rfl)
theorem rd_ns16o {o : Option Nat} (h : ∀ j, o = some j → j < 4096) : vp_nar .short (rd_o o).toInt16.toInt32 = rd_o o := by
  cases o with
  | none => exact rd_ns16m
  | some j => exact rd_ns16 (h j rfl)
theorem rd_nz0 : vp_nar .boolean 0 = 0 := rfl
theorem rd_nz1 : vp_nar .boolean 1 = 1 := rfl
theorem rd_ch : ∀ n, n < 128 → vp_nar .char (((nI n).toUInt32 % 65536).toInt32) = nI n := by
  intro n h
  rw [vp_nar_char]
  revert n
  decide +kernel
theorem rd_bit : ∀ s, s < 4 → ∀ j, j < 2 → ((nI s >>> (nI j &&& 31)) &&& 1) = nI (s / 2 ^ j % 2) := by decide +kernel
theorem rd_bit1 {s j : Nat} (hs : s < 4) (hj : j < 2) : ((nI s >>> (nI j &&& 31)) &&& 1) = 1 ↔ s / 2 ^ j % 2 = 1 := by
  rw [rd_bit s hs j hj]
  have : s / 2 ^ j % 2 < 2 := Nat.mod_lt _ (by omega)
  exact nI_eq (b := 1) (by omega) (by omega)
theorem rd_lnk : ∀ m, m < 8 → ∀ p, p < 3 → ∀ q, q < 3 → ¬ p = q → ((nI m >>> (((nI p + nI q) - 1) &&& 31)) &&& 1) = nI (m / 2 ^ (p + q - 1) % 2) := by decide +kernel
/-! pigeonhole -/
theorem rd_php : ∀ (m n : Nat) (f : Nat → Nat), (∀ i, i < n → f i < m) → (∀ i j, i < j → j < n → f i ≠ f j) → n ≤ m := by
  intro m
  induction m with
  | zero =>
    intro n f h _
    cases n with
    | zero => exact Nat.le_refl 0
    | succ n => exact absurd (h 0 (Nat.succ_pos _)) (Nat.not_lt_zero _)
  | succ m ih =>
    intro n f h inj
    by_cases hx : ∃ i, i < n ∧ f i = m
    · obtain ⟨i0, hi0, e0⟩ := hx
      cases n with
      | zero => omega
      | succ n =>
        have key := ih n (fun i => if i < i0 then f i else f (i + 1)) (by
          intro i hi
          by_cases c : i < i0
          · have h1 := h i (by omega)
            have h2 := inj i i0 c hi0
            show (if i < i0 then f i else f (i + 1)) < m
            rw [if_pos c]; omega
          · have h1 := h (i + 1) (by omega)
            have h2 := inj i0 (i + 1) (by omega) (by omega)
            show (if i < i0 then f i else f (i + 1)) < m
            rw [if_neg c]; omega) (by
          intro i j hij hj
          show (if i < i0 then f i else f (i + 1)) ≠ (if j < i0 then f j else f (j + 1))
          by_cases c : j < i0
          · rw [if_pos (show i < i0 by omega), if_pos c]; exact inj i j hij (by omega)
          · by_cases c2 : i < i0
            · rw [if_pos c2, if_neg c]; exact inj i (j + 1) (by omega) (by omega)
            · rw [if_neg c2, if_neg c]; exact inj (i + 1) (j + 1) (by omega) (by omega))
        omega
    · have key := ih n f (fun i hi => by
        have h1 := h i hi
        have h2 : f i ≠ m := fun e => hx ⟨i, hi, e⟩
        omega) inj
      omega
theorem rd_php1 {m n x : Nat} {f : Nat → Nat} (h : ∀ i, i < n → f i < m) (inj : ∀ i j, i < j → j < n → f i ≠ f j) (hx : x < m) (hn : ∀ i, i < n → f i ≠ x) : n < m := by
  have key := rd_php m (n + 1) (fun i => if i < n then f i else x) (by
    intro i hi
    show (if i < n then f i else x) < m
    by_cases c : i < n
    · rw [if_pos c]; exact h i c
    · rw [if_neg c]; exact hx) (by
    intro i j hij hj
    show (if i < n then f i else x) ≠ (if j < n then f j else x)
    rw [if_pos (show i < n by omega)]
    by_cases c : j < n
    · rw [if_pos c]; exact inj i j hij c
    · rw [if_neg c]; exact hn i (by omega))
  omega
/-! counts -/
def rd_cn (q : Nat → Bool) : Nat → Nat
  | 0 => 0
  | n + 1 => rd_cn q n + (if q n = true then 1 else 0)
theorem rd_cn_le (q : Nat → Bool) : ∀ n, rd_cn q n ≤ n := by
  intro n
  induction n with
  | zero => exact Nat.le_refl 0
  | succ n ih =>
    show rd_cn q n + (if q n = true then 1 else 0) ≤ n + 1
    by_cases c : q n = true
    · rw [if_pos c]; omega
    · rw [if_neg c]; omega
theorem rd_cn_eq {q q' : Nat → Bool} : ∀ n, (∀ i, i < n → q i = q' i) → rd_cn q n = rd_cn q' n := by
  intro n
  induction n with
  | zero => intro _; rfl
  | succ n ih =>
    intro h
    show rd_cn q n + (if q n = true then 1 else 0) = rd_cn q' n + (if q' n = true then 1 else 0)
    rw [ih (fun i hi => h i (by omega)), h n (by omega)]
theorem rd_cn_up {q q' : Nat → Bool} {k : Nat} (hq : q k = false) (hq' : q' k = true) : ∀ n, k < n → (∀ i, i < n → i ≠ k → q' i = q i) → rd_cn q' n = rd_cn q n + 1 := by
  intro n
  induction n with
  | zero => intro h; omega
  | succ n ih =>
    intro hk h
    show rd_cn q' n + (if q' n = true then 1 else 0) = rd_cn q n + (if q n = true then 1 else 0) + 1
    by_cases c : n = k
    · subst c
      rw [rd_cn_eq n (fun i hi => h i (by omega) (by omega)), if_pos hq', if_neg (by rw [hq]; decide)]
    · rw [ih (by omega) (fun i hi hne => h i (by omega) hne), h n (by omega) c]; omega
end
section
/-! groups of the two states; the class table T and the objects' ghosts A; the relation -/
abbrev rt_F : Type := Nat → Int32
abbrev rt_D : Type := rt_F × rt_F × rt_F × rt_F × rt_F × rt_F × rt_F
abbrev rt_CX : Type := rt_F × rt_F × rt_F × rt_F × rt_F × rt_F × rt_F × rt_F
abbrev rt_TX : Type := rt_F × rt_F × rt_F
abbrev rt_W : Type := rt_F × rt_F × rt_F × rt_F × rt_F × rt_F
abbrev rt_OX : Type := Int32 × Int64 × rt_F × rt_F × (Nat → Int64)
abbrev rt_GX : Type := Int32 × rt_F × rt_F × rt_F × rt_F × rt_F × rt_F × rt_F × rt_F × rt_F × rt_F
abbrev rt_CY : Type := Int32 × rt_F × rt_F × rt_F × rt_F × rt_F × rt_F × rt_F × rt_F × rt_F × rt_F
abbrev rt_TY : Type := Int32 × rt_F × rt_F × rt_F × rt_F
abbrev rt_OY : Type := Int32 × rt_F × rt_F × rt_F × rt_F
abbrev rt_GY : Type := Int32 × rt_F × rt_F × rt_F × rt_F × rt_F × rt_F × rt_F × rt_F
def rd_X (pa ab : Int32) (d : rt_D) (c : rt_CX) (t : rt_TX) (w : rt_W) (o : rt_OX) (g : rt_GX) : SX := (o.1, o.2.1, g.1, pa, ab, d.1, d.2.1, d.2.2.1, d.2.2.2.1, d.2.2.2.2.1, d.2.2.2.2.2.1, d.2.2.2.2.2.2, c.1, c.2.1, c.2.2.1, c.2.2.2.1, c.2.2.2.2.1, c.2.2.2.2.2.1, c.2.2.2.2.2.2.1, c.2.2.2.2.2.2.2, t.1, t.2.1, t.2.2, w.1, w.2.1, o.2.2.1, w.2.2.1, o.2.2.2.1, o.2.2.2.2, w.2.2.2.1, w.2.2.2.2.1, w.2.2.2.2.2, g.2.1, g.2.2.1, g.2.2.2.1, g.2.2.2.2.1, g.2.2.2.2.2.1, g.2.2.2.2.2.2.1, g.2.2.2.2.2.2.2.1, g.2.2.2.2.2.2.2.2.1, g.2.2.2.2.2.2.2.2.2.1, g.2.2.2.2.2.2.2.2.2.2)
def rd_Y (py bl : Int32) (d : rt_D) (c : rt_CY) (t : rt_TY) (w : rt_W) (o : rt_OY) (ys : rt_F) (g : rt_GY) : SY := (c.1, t.1, o.1, g.1, py, bl, d.1, d.2.1, d.2.2.1, d.2.2.2.1, d.2.2.2.2.1, d.2.2.2.2.2.1, d.2.2.2.2.2.2, c.2.1, c.2.2.1, c.2.2.2.1, c.2.2.2.2.1, c.2.2.2.2.2.1, c.2.2.2.2.2.2.1, c.2.2.2.2.2.2.2.1, c.2.2.2.2.2.2.2.2.1, c.2.2.2.2.2.2.2.2.2.1, c.2.2.2.2.2.2.2.2.2.2, t.2.1, t.2.2.1, t.2.2.2.1, t.2.2.2.2, w.1, o.2.1, o.2.2.1, w.2.1, w.2.2.1, o.2.2.2.1, w.2.2.2.1, w.2.2.2.2.1, w.2.2.2.2.2, o.2.2.2.2, ys, g.2.1, g.2.2.1, g.2.2.2.1, g.2.2.2.2.1, g.2.2.2.2.2.1, g.2.2.2.2.2.2.1, g.2.2.2.2.2.2.2.1, g.2.2.2.2.2.2.2.2)
/-- the definitions: ranges -/
def rd_DI : rt_D → Prop
  | (_, dP, dS, dF, dG, dR, dA) =>
    (∀ i, i < 84 → (∃ m : Option Nat, dP i = rd_o m ∧ ∀ j, m = some j → j < 12) ∧ (∃ s, s < 4 ∧ dS i = nI s) ∧ (∃ s, s < 8 ∧ dF i = nI s) ∧ (∃ s, s < 4 ∧ dG i = nI s)) ∧
    (∀ i, i < 4 → ∃ s, s < 4096 ∧ dR i = nI s) ∧ (∀ i, i < 3 → ∃ m : Option Nat, dA i = rd_o m ∧ ∀ j, m = some j → j < 4)
/-- the class table: number of classes, place, shape, flags, signer, state, parent of each; what is known at a place -/
abbrev rt_T : Type := Nat × (Nat → Nat) × (Nat → Nat) × (Nat → Nat) × (Nat → Nat) × (Nat → Nat) × (Nat → Option Nat) × (Nat → Option Nat)
def rd_up (P : Nat → Nat) (k i : Nat) : Prop := P i / 60 = k / 60 ∧ (P i / 12 % 5 = k / 12 % 5 ∨ P i / 12 % 5 = 4)
def rd_df (P : Nat → Nat) (kn : Nat → Option Nat) (k : Nat) : Bool := match kn k with
  | none => false
  | some j => decide (P j = k)
def rd_TI : rt_T → Prop
  | (N, P, sh, fl, sg, st, pr, kn) =>
    (∀ j, j < N → P j < 180 ∧ kn (P j) = some j ∧ sh j < 4 ∧ fl j < 8 ∧ sg j < 4 ∧ st j < 3) ∧
    (∀ k, k < 180 → ∀ j, kn k = some j → j < N ∧ rd_up P k j) ∧
    (∀ j, j < N → ∀ i, pr j = some i → i < j ∧ rd_up P (P j) i) ∧
    (∀ p, p < 3 → rd_cn (fun i => rd_df P kn (60 * p + i)) 60 = rd_cn (fun j => decide (P j / 60 = p)) N)
def rd_TX : rt_T → rt_CX → Prop
  | (N, P, sh, fl, sg, st, pr, kn), (_, _, xK, xU, xH, xF, xG, xT) =>
    (∀ k, k < 180 → xK k = rd_o ((kn k).map P)) ∧
    (∀ j, j < N → xU (P j) = rd_o ((pr j).map P) ∧ xH (P j) = nI (sh j) ∧ xF (P j) = nI (fl j) ∧ xG (P j) = nI (sg j) ∧ xT (P j) = nI (st j))
def rd_TY : rt_T → rt_CY → Prop
  | (N, P, sh, fl, sg, st, pr, kn), (yN, _, _, yK, yO, yA, yH, yF, yG, yU, yT) =>
    yN = nI N ∧ (∀ k, k < 180 → yK k = rd_o (kn k)) ∧
    (∀ j, j < N → yO j = nI (P j / 12) ∧ yA j = nI (P j % 12) ∧ yU j = rd_o (pr j) ∧ yH j = nI (sh j) ∧ yF j = nI (fl j) ∧ yG j = nI (sg j) ∧ yT j = nI (st j))
def rd_LR : rt_CX → rt_CY → Prop
  | (xB, xR, _, _, _, _, _, _), (_, yB, yR, _, _, _, _, _, _, _, _) => ∀ p, p < 3 → ∀ l, l < 4 → yB (5 * p + l) = xB (4 * p + l) ∧ yR (5 * p + l) = xR (4 * p + l)
/-- the objects' ghosts: class numbers, tickets, leases, homes, given, links, time -/
abbrev rt_A : Type := (Nat → Nat) × (Nat → Nat) × (Nat → Nat) × (Nat → Nat) × (Nat → Nat) × Nat × Nat
def rd_vr (so : rt_F) (p : Nat) (x : Int32) : Prop := ∃ m : Option Nat, x = rd_o m ∧ ∀ k, m = some k → k < 12 ∧ ¬ so (12 * p + k) = 0
def rd_lr (so : rt_F) (p : Nat) (x : Int32) : Prop := ∃ m : Option Nat, x = rd_o m ∧ ∀ k, m = some k → k < 12 ∧ so (12 * p + k) = 1
def rd_OI (K : Nat) : rt_T → rt_A → rt_W → Prop
  | (N, _, sh, _, _, _, _, _), (oc, tk, le, hm, gv, lm, t), (so, ho, ce, va, la, gi) =>
    (lm < 8 ∧ t ≤ 58 * K) ∧
    (∀ i, i < 36 → (so i = 0 ∨ so i = 1 ∨ so i = 2) ∧ ho i = nI (hm i) ∧ hm i < 3 ∧ tk i ≤ K) ∧
    (∀ i, i < 36 → so i = 1 → oc i < N ∧ tk i ≤ gv (i / 12)) ∧
    (∀ i, i < 36 → so i = 2 → 1 ≤ tk i) ∧
    (∀ i, i < 36 → ∀ j, j < 36 → i / 12 = j / 12 → so i = 1 → so j = 1 → tk i = tk j → ¬ tk i = 0 → i = j) ∧
    (∀ i, i < 36 → ∀ p, p < 3 → le (3 * i + p) ≤ t + 10 ∧ (¬ so i = 1 → le (3 * i + p) = 0)) ∧
    (∀ p, p < 3 → gi p = nI (gv p) ∧ gv p ≤ K) ∧
    (∀ p, p < 3 → ∀ v, v < 4 → rd_vr so p (va (4 * p + v)) ∧ rd_lr so p (la (4 * p + v))) ∧
    (∀ i, i < 36 → so i = 1 → ∀ j, j < 2 → sh (oc i) / 2 ^ j % 2 = 1 → rd_vr so (i / 12) (ce (2 * i + j)))
def rd_OX : rt_T → rt_A → rt_W → rt_OX → Prop
  | (_, P, _, _, _, _, _, _), (oc, tk, le, _, _, lm, t), (so, _, _, _, _, _), (li, nw, xC, xt, xL) =>
    li = nI lm ∧ nw = lN t ∧
    (∀ i, i < 36 → so i = 1 → xC i = nI (P (oc i))) ∧
    (∀ i, i < 36 → ¬ so i = 0 → xt i = nI (tk i)) ∧
    (∀ i, i < 36 → ∀ p, p < 3 → xL (3 * i + p) = lN (le (3 * i + p)))
def rd_lv (t a : Nat) : Nat := if t < a then a else 0
def rd_ap (lm p q : Nat) : Nat := if p = q then 0 else 1 - lm / 2 ^ (p + q - 1) % 2
def rd_OY : rt_A → rt_W → rt_OY → Prop
  | (oc, tk, le, _, _, lm, t), (so, _, _, _, _, _), (tm, yC, yt, yL, ap) =>
    tm = nI t ∧
    (∀ i, i < 36 → so i = 1 → yC i = nI (oc i)) ∧
    (∀ i, i < 36 → ¬ so i = 0 → yt i = nI (tk i)) ∧
    (∀ i, i < 36 → so i = 1 → ∀ p, p < 3 → yL (3 * i + p) = nI (rd_lv t (le (3 * i + p)))) ∧
    (∀ p, p < 3 → ∀ q, q < 3 → ap (3 * p + q) = nI (rd_ap lm p q))
/-- class side, object side, all -/
def rd_CR (T : rt_T) (c : rt_CX) (c' : rt_CY) : Prop := rd_TI T ∧ rd_TX T c ∧ rd_TY T c' ∧ rd_LR c c'
def rd_OR (K : Nat) (T : rt_T) (A : rt_A) (w : rt_W) (o : rt_OX) (o' : rt_OY) : Prop := rd_OI K T A w ∧ rd_OX T A w o ∧ rd_OY A w o'
def i_Rel (k : Nat) (u : SX) (v : SY) : Prop := ∃ (T : rt_T) (A : rt_A) (pa ab bl : Int32) (d : rt_D) (c : rt_CX) (c' : rt_CY) (t : rt_TX) (t' : rt_TY) (w : rt_W) (o : rt_OX) (o' : rt_OY) (ys : rt_F) (g : rt_GX) (g' : rt_GY),
  u = rd_X pa ab d c t w o g ∧ v = rd_Y pa bl d c' t' w o' ys g' ∧ (pa < 0 ∨ bl = ab) ∧ rd_DI d ∧ rd_CR T c c' ∧ rd_OR k T A w o o'
end
section
/-! ranges and the small questions: what each answers -/
theorem xq_in1 {post : Int32 → Prop} {x a b : Int32} (h1 : ¬ x < a) (h2 : ¬ b < x) (hp : post 1) : wpX_in post x a b := br_f h1 (br_f h2 hp)
theorem xq_in0 {post : Int32 → Prop} {x a b : Int32} (h : x < a ∨ b < x) (hp : post 0) : wpX_in post x a b := by
  by_cases h1 : x < a
  · exact br_t h1 hp
  · exact br_f h1 (br_t (h.resolve_left h1) hp)
theorem yq_in1 {post : Int32 → Prop} {x b : Int32} (h1 : ¬ x < 0) (h2 : ¬ b ≤ x) (hp : post 1) : wpY_in post x b := br_f h1 (br_f h2 hp)
theorem yq_in0 {post : Int32 → Prop} {x b : Int32} (h : x < 0 ∨ b ≤ x) (hp : post 0) : wpY_in post x b := by
  by_cases h1 : x < 0
  · exact br_t h1 hp
  · exact br_f h1 (br_t (h.resolve_left h1) hp)
theorem xq_n1 {post : Int32 → Prop} {p n : Nat} (h : p ≤ n) (hn : n < 2 ^ 30) (hp : post 1) : wpX_in post (nI p) 0 (nI n) := xq_in1 (nI_pos (by omega)) (nI_nlt h (by omega)) hp
theorem yq_n1 {post : Int32 → Prop} {p n : Nat} (h : p < n) (hn : n < 2 ^ 30) (hp : post 1) : wpY_in post (nI p) (nI n) := yq_in1 (nI_pos (by omega)) (nI_ge h (by omega)) hp
theorem rd_rng (n : Nat) (hn : n < 2 ^ 30) (x : Int32) : (∃ p, p ≤ n ∧ x = nI p) ∨ ((∀ post : Int32 → Prop, post 0 → wpX_in post x 0 (nI n)) ∧ (∀ post : Int32 → Prop, post 0 → wpY_in post x (nI (n + 1)))) := by
  rcases pk_ix x (n := n + 1) (by omega) with h | h | ⟨j, hj, rfl⟩
  · exact Or.inr ⟨fun _ hp => xq_in0 (Or.inl h) hp, fun _ hp => yq_in0 (Or.inl h) hp⟩
  · refine Or.inr ⟨fun _ hp => xq_in0 (Or.inr ?_) hp, fun _ hp => yq_in0 (Or.inr h) hp⟩
    rw [Int32.lt_iff_toInt_lt, nI_toInt (by omega)]
    rw [Int32.le_iff_toInt_le, nI_toInt (by omega)] at h
    omega
  · exact Or.inl ⟨j, by omega, rfl⟩
theorem xq_o1 {post : Int32 → Prop} {m : Option Nat} {n : Nat} (h : ∀ j, m = some j → j ≤ n) (hn : n < 2 ^ 30) (hp : post 1) : wpX_in post (rd_o m) (-1) (nI n) := by
  cases m with
  | none => exact xq_in1 (fun z => Int32.lt_irrefl z) (fun z => absurd (Int32.lt_trans z rd_m1n) (nI_pos (by omega))) hp
  | some j => exact xq_in1 (fun z => absurd (Int32.lt_trans z rd_m1n) (nI_pos (by have := h j rfl; omega))) (nI_nlt (h j rfl) (by omega)) hp
def rd_os : Option Nat → Nat
  | none => 0
  | some j => j + 1
theorem rd_o_s (m : Option Nat) : rd_o m + 1 = nI (rd_os m) := by
  cases m with
  | none => decide
  | some j => exact nI_1 j
theorem yq_o1 {post : Int32 → Prop} {m : Option Nat} {n : Nat} (h : ∀ j, m = some j → j ≤ n) (hn : n < 2 ^ 30) (hp : post 1) : wpY_in post (rd_o m + 1) (nI (n + 2)) := by
  rw [rd_o_s]
  refine yq_in1 (nI_pos ?_) (nI_ge ?_ (by omega)) hp
  · cases m with
    | none => exact (by omega : (0 : Nat) < 2 ^ 31)
    | some j => have := h j rfl; show j + 1 < 2 ^ 31; omega
  cases m with
  | none => show 0 < n + 2; omega
  | some j => have := h j rfl; show j + 1 < n + 2; omega
theorem rd_rngm (n : Nat) (hn : n < 2 ^ 29) (x : Int32) : (∃ m : Option Nat, x = rd_o m ∧ ∀ j, m = some j → j ≤ n) ∨ ((∀ post : Int32 → Prop, post 0 → wpX_in post x (-1) (nI n)) ∧ (∀ post : Int32 → Prop, post 0 → wpY_in post (x + 1) (nI (n + 2)))) := by
  by_cases hm : x = -1
  · exact Or.inl ⟨none, hm, fun j e => nomatch e⟩
  rcases pk_ix x (n := n + 1) (by omega) with h | h | ⟨j, hj, rfl⟩
  · have hx : x.toInt < -1 := by
      rw [Int32.lt_iff_toInt_lt, show (0 : Int32).toInt = 0 by decide] at h
      have : x.toInt ≠ -1 := fun e => hm (Int32.toInt_inj.mp (by rw [e]; decide))
      omega
    have hb := x.le_toInt
    refine Or.inr ⟨fun _ hp => xq_in0 (Or.inl ?_) hp, fun _ hp => yq_in0 (Or.inl ?_) hp⟩
    · rw [Int32.lt_iff_toInt_lt, show (-1 : Int32).toInt = -1 by decide]; exact hx
    · rw [Int32.lt_iff_toInt_lt, Jvm.Kit.i32_add (by rw [show (1 : Int32).toInt = 1 by decide]; omega) (by rw [show (1 : Int32).toInt = 1 by decide]; omega), show (1 : Int32).toInt = 1 by decide, show (0 : Int32).toInt = 0 by decide]; omega
  · have hb := x.toInt_lt
    have h' := h
    rw [Int32.le_iff_toInt_le, nI_toInt (by omega)] at h'
    refine Or.inr ⟨fun _ hp => xq_in0 (Or.inr ?_) hp, fun _ hp => yq_in0 ?_ hp⟩
    · rw [Int32.lt_iff_toInt_lt, nI_toInt (by omega)]; omega
    · by_cases hM : x.toInt = 2147483647
      · left
        have : x = 2147483647 := Int32.toInt_inj.mp (by rw [hM]; decide)
        rw [this]; decide
      · right
        rw [Int32.le_iff_toInt_le, Jvm.Kit.i32_add (by rw [show (1 : Int32).toInt = 1 by decide]; omega) (by rw [show (1 : Int32).toInt = 1 by decide]; omega), show (1 : Int32).toInt = 1 by decide, nI_toInt (by omega)]; omega
  · exact Or.inl ⟨some j, rfl, fun i e => by cases e; omega⟩
theorem xq_place1 {post : Int32 → Prop} {p : Nat} (h : p < 3) (hp : post 1) : wpX_isPlace post (nI p) := xq_n1 (n := 2) (by omega) (by omega) ⟨rfl, hp⟩
theorem rd_place (x : Int32) : (∃ p, p < 3 ∧ x = nI p) ∨ ((∀ post : Int32 → Prop, post 0 → wpX_isPlace post x) ∧ (∀ post : Int32 → Prop, post 0 → wpY_in post x 3)) := by
  rcases rd_rng 2 (by decide) x with ⟨p, h, e⟩ | ⟨hX, hY⟩
  · exact Or.inl ⟨p, by omega, e⟩
  · exact Or.inr ⟨fun _ hp => hX _ ⟨rfl, hp⟩, fun _ hp => hY _ hp⟩
theorem xq_slot1 {post : Int32 → Prop} {p v : Nat} (h : p < 3) (hv : v < 4) (hp : post 1) : wpX_isSlot post (nI p) (nI v) :=
  xq_place1 h (br_f (by decide) (xq_n1 (n := 3) (by omega) (by omega) (br_f (by decide) hp)))
theorem yq_var1 {post : Int32 → Prop} {u : SY} {p v : Nat} (h : p < 3) (hv : v < 4) (hp : post 1) : wpY_isVariable post u (nI p) (nI v) := by
  obtain ⟨yN, yk, tm, hIt, py, bl, dO, dP, dS, dF, dG, dR, dA, yB, yR, yK, yO, yA, yH, yF, yG, yU, yT, yb, yc, yl, yp, so, yC, yt, ho, ce, yL, va, la, gi, ap, ys, hLi, hOp, hNa, hSh, hSr, hTi, hCe, hRe⟩ := u
  unfold wpY_isVariable
  dsimp only
  exact yq_n1 (n := 3) h (by omega) (br_f (by decide) (yq_n1 (n := 4) hv (by omega) (br_f (by decide) hp)))
theorem rd_slot (x y : Int32) : (∃ p, p < 3 ∧ ∃ v, v < 4 ∧ x = nI p ∧ y = nI v) ∨ ((∀ post : Int32 → Prop, post 0 → wpX_isSlot post x y) ∧ (∀ (u : SY) (post : Int32 → Prop), post 0 → wpY_isVariable post u x y)) := by
  rcases rd_place x with ⟨p, hp3, rfl⟩ | ⟨hX, hY⟩
  · rcases rd_rng 3 (by decide) y with ⟨v, hv, rfl⟩ | ⟨hX, hY⟩
    · exact Or.inl ⟨p, hp3, v, by omega, rfl, rfl⟩
    · exact Or.inr ⟨fun _ hp => xq_place1 hp3 (br_f (by decide) (hX _ (br_t rfl hp))), fun u post hp => by
        obtain ⟨yN, yk, tm, hIt, py, bl, dO, dP, dS, dF, dG, dR, dA, yB, yR, yK, yO, yA, yH, yF, yG, yU, yT, yb, yc, yl, yp, so, yC, yt, ho, ce, yL, va, la, gi, ap, ys, hLi, hOp, hNa, hSh, hSr, hTi, hCe, hRe⟩ := u
        unfold wpY_isVariable
        dsimp only
        exact yq_n1 (n := 3) hp3 (by omega) (br_f (by decide) (hY _ (br_t rfl hp)))⟩
  · exact Or.inr ⟨fun _ hp => hX _ (br_t rfl hp), fun u post hp => by
      obtain ⟨yN, yk, tm, hIt, py, bl, dO, dP, dS, dF, dG, dR, dA, yB, yR, yK, yO, yA, yH, yF, yG, yU, yT, yb, yc, yl, yp, so, yC, yt, ho, ce, yL, va, la, gi, ap, ys, hLi, hOp, hNa, hSh, hSr, hTi, hCe, hRe⟩ := u
      unfold wpY_isVariable
      dsimp only
      exact hY _ (br_t rfl hp)⟩
/-! a loop's run over an abstract W -/
theorem rd_run (W : Nat → Nat → Prop) {i k : Nat} (h : i ≤ k) (hk : ∃ n, W n k) (hs : ∀ n j, i ≤ j → j < k → W n (j + 1) → W (n + 1) j) : ∃ n, W n i := by
  have key : ∀ d j, j + d = k → i ≤ j → ∃ n, W n j := by
    intro d
    induction d with
    | zero => intro j hj _; obtain rfl : j = k := by omega
              exact hk
    | succ d ih =>
      intro j hj hi
      obtain ⟨n, hn⟩ := ih (j + 1) (by omega) (by omega)
      exact ⟨n + 1, hs n j hi (by omega) hn⟩
  exact key (k - i) i (by omega) (Nat.le_refl i)
theorem rd_first (q : Nat → Prop) (i e : Nat) (h : i ≤ e) : ∃ k, i ≤ k ∧ k ≤ e ∧ (∀ j, i ≤ j → j < k → ¬ q j) ∧ (k = e ∨ q k) := by
  have key : ∀ d j, j + d = e → i ≤ j → (∀ x, i ≤ x → x < j → ¬ q x) → ∃ k, i ≤ k ∧ k ≤ e ∧ (∀ j, i ≤ j → j < k → ¬ q j) ∧ (k = e ∨ q k) := by
    intro d
    induction d with
    | zero => intro j hj hi hq; exact ⟨j, hi, by omega, hq, Or.inl (by omega)⟩
    | succ d ih =>
      intro j hj hi hq
      by_cases c : q j
      · exact ⟨j, hi, by omega, hq, Or.inr c⟩
      · refine ih (j + 1) (by omega) (by omega) (fun x hx hx2 => ?_)
        by_cases e : x = j
        · subst e; exact c
        · exact hq x hx (by omega)
  exact key (e - i) i (by omega) (Nat.le_refl i) (fun x h1 h2 => by omega)
end
section
/-! objects: held, isRef, isLinked, exported, fresh -/
section
variable {li gIt pa ab yN yk tm hIt py bl : Int32} {dO dP dS dF dG dR dA xB xR xK xU xH xF xG xT xc xo xl so ho xC ce xt va la gi gSk gOd gIo gSo gNa gSh gSr gMa gTi gCe yB yR yK yO yA yH yF yG yU yT yb yc yl yp yC yt yL ap ys hLi hOp hNa hSh hSr hTi hCe hRe : Nat → Int32} {nw : Int64} {xL : Nat → Int64}
theorem xq_heldN {post : Int32 → Prop} {p v : Nat} (hp3 : p < 3) (hv : v < 4) (e : va (4 * p + v) = -1) (hp : post (-1)) : wpX_held post (li, nw, gIt, pa, ab, dO, dP, dS, dF, dG, dR, dA, xB, xR, xK, xU, xH, xF, xG, xT, xc, xo, xl, so, ho, xC, ce, xt, xL, va, la, gi, gSk, gOd, gIo, gSo, gNa, gSh, gSr, gMa, gTi, gCe) (nI p) (nI v) := by
  unfold wpX_held
  dsimp only
  refine xq_slot1 hp3 hv (br_f (by decide) ?_)
  rw [rd_m4, nI_add]
  refine ⟨rd_in (by omega), ?_⟩
  rw [rd_cl (by omega), e]
  exact br_t rd_m1n hp
theorem xq_heldS {post : Int32 → Prop} {p v k : Nat} (hp3 : p < 3) (hv : v < 4) (hk : k < 12) (e : va (4 * p + v) = nI k) (hp : post (nI (12 * p + k))) : wpX_held post (li, nw, gIt, pa, ab, dO, dP, dS, dF, dG, dR, dA, xB, xR, xK, xU, xH, xF, xG, xT, xc, xo, xl, so, ho, xC, ce, xt, xL, va, la, gi, gSk, gOd, gIo, gSo, gNa, gSh, gSr, gMa, gTi, gCe) (nI p) (nI v) := by
  unfold wpX_held
  dsimp only
  refine xq_slot1 hp3 hv (br_f (by decide) ?_)
  rw [rd_m4, nI_add]
  refine ⟨rd_in (by omega), ?_⟩
  rw [rd_cl (by omega), e]
  refine br_f (nI_pos (by omega)) ⟨rd_in (by omega), ?_⟩
  rw [rd_m12, nI_add]
  exact hp
theorem xq_held0 {post : Int32 → Prop} {x y : Int32} (h : ∀ post : Int32 → Prop, post 0 → wpX_isSlot post x y) (hp : post (-1)) : wpX_held post (li, nw, gIt, pa, ab, dO, dP, dS, dF, dG, dR, dA, xB, xR, xK, xU, xH, xF, xG, xT, xc, xo, xl, so, ho, xC, ce, xt, xL, va, la, gi, gSk, gOd, gIo, gSo, gNa, gSh, gSr, gMa, gTi, gCe) x y := by
  unfold wpX_held
  dsimp only
  exact h _ (br_t rfl hp)
theorem yq_heldS {post : Int32 → Prop} {p v k : Nat} (hp3 : p < 3) (hv : v < 4) (hk : k < 12) (e : va (4 * p + v) = nI k) (hp : post (nI (12 * p + k))) : wpY_held post (yN, yk, tm, hIt, py, bl, dO, dP, dS, dF, dG, dR, dA, yB, yR, yK, yO, yA, yH, yF, yG, yU, yT, yb, yc, yl, yp, so, yC, yt, ho, ce, yL, va, la, gi, ap, ys, hLi, hOp, hNa, hSh, hSr, hTi, hCe, hRe) (nI p) (nI v) := by
  unfold wpY_held
  dsimp only
  rw [rd_m4, nI_add]
  refine ⟨rd_in (by omega), ?_⟩
  rw [rd_cl (by omega), e]
  refine br_t (nI_pos' (by omega)) ⟨rd_in (by omega), ?_⟩
  rw [rd_m12, nI_add]
  exact hp
theorem yq_heldN {post : Int32 → Prop} {p v : Nat} (hp3 : p < 3) (hv : v < 4) (e : va (4 * p + v) = -1) (hp : post (-1)) : wpY_held post (yN, yk, tm, hIt, py, bl, dO, dP, dS, dF, dG, dR, dA, yB, yR, yK, yO, yA, yH, yF, yG, yU, yT, yb, yc, yl, yp, so, yC, yt, ho, ce, yL, va, la, gi, ap, ys, hLi, hOp, hNa, hSh, hSr, hTi, hCe, hRe) (nI p) (nI v) := by
  unfold wpY_held
  dsimp only
  rw [rd_m4, nI_add]
  refine ⟨rd_in (by omega), ?_⟩
  rw [rd_cl (by omega), e]
  exact br_f rd_m1p hp
theorem yq_plain0 {post : Int32 → Prop} {x y : Int32} (h : ∀ (u : SY) (post : Int32 → Prop), post 0 → wpY_isVariable post u x y) (hp : post 0) : wpY_isPlain post (yN, yk, tm, hIt, py, bl, dO, dP, dS, dF, dG, dR, dA, yB, yR, yK, yO, yA, yH, yF, yG, yU, yT, yb, yc, yl, yp, so, yC, yt, ho, ce, yL, va, la, gi, ap, ys, hLi, hOp, hNa, hSh, hSr, hTi, hCe, hRe) x y := by
  unfold wpY_isPlain
  dsimp only
  exact h _ _ (br_t rfl hp)
theorem yq_plainN {post : Int32 → Prop} {p v : Nat} (hp3 : p < 3) (hv : v < 4) (e : va (4 * p + v) = -1) (hp : post 0) : wpY_isPlain post (yN, yk, tm, hIt, py, bl, dO, dP, dS, dF, dG, dR, dA, yB, yR, yK, yO, yA, yH, yF, yG, yU, yT, yb, yc, yl, yp, so, yC, yt, ho, ce, yL, va, la, gi, ap, ys, hLi, hOp, hNa, hSh, hSr, hTi, hCe, hRe) (nI p) (nI v) := by
  unfold wpY_isPlain
  dsimp only
  refine yq_var1 hp3 hv (br_f (by decide) ?_)
  rw [rd_m4, nI_add]
  refine ⟨rd_in (by omega), ?_⟩
  rw [rd_cl (by omega), e]
  exact br_t rd_m1n hp
theorem yq_plainS {post : Int32 → Prop} {p v k : Nat} (hp3 : p < 3) (hv : v < 4) (hk : k < 12) (e : va (4 * p + v) = nI k) (hp : post (if so (12 * p + k) = 1 then 1 else 0)) : wpY_isPlain post (yN, yk, tm, hIt, py, bl, dO, dP, dS, dF, dG, dR, dA, yB, yR, yK, yO, yA, yH, yF, yG, yU, yT, yb, yc, yl, yp, so, yC, yt, ho, ce, yL, va, la, gi, ap, ys, hLi, hOp, hNa, hSh, hSr, hTi, hCe, hRe) (nI p) (nI v) := by
  unfold wpY_isPlain
  dsimp only
  refine yq_var1 hp3 hv (br_f (by decide) ?_)
  rw [rd_m4, nI_add]
  refine ⟨rd_in (by omega), ?_⟩
  rw [rd_cl (by omega), e]
  refine br_f (nI_pos (by omega)) ⟨rd_in (by omega), ?_⟩
  rw [rd_m12, nI_add]
  refine ⟨rd_in (by omega), ?_⟩
  rw [rd_cl (by omega)]
  by_cases c : so (12 * p + k) = 1
  · rw [if_pos c] at hp; exact br_t c hp
  · rw [if_neg c] at hp; exact br_f c hp
/-- isRef: with the class's shape known -/
theorem xq_ref {post : Int32 → Prop} {i j c s : Nat} (hi : i < 36) (hj : j < 2) (h1 : so i = 1) (hc : c < 180) (eC : xC i = nI c) (eH : xH c = nI s) (hs : s < 4) (hp : post (nI (s / 2 ^ j % 2))) : wpX_isRef post (li, nw, gIt, pa, ab, dO, dP, dS, dF, dG, dR, dA, xB, xR, xK, xU, xH, xF, xG, xT, xc, xo, xl, so, ho, xC, ce, xt, xL, va, la, gi, gSk, gOd, gIo, gSo, gNa, gSh, gSr, gMa, gTi, gCe) (nI i) (nI j) := by
  unfold wpX_isRef
  dsimp only
  refine ⟨rd_in hi, ?_⟩
  rw [rd_cl (by omega)]
  refine br_t h1 ⟨rd_in hi, ?_⟩
  rw [eC]
  refine ⟨rd_in hc, ?_⟩
  rw [rd_cl (by omega), eH]
  by_cases b : s / 2 ^ j % 2 = 1
  · rw [b] at hp; exact br_t ((rd_bit1 hs hj).mpr b) hp
  · have b0 : s / 2 ^ j % 2 = 0 := by omega
    rw [b0] at hp; exact br_f (fun z => b ((rd_bit1 hs hj).mp z)) hp
theorem xq_ref0 {post : Int32 → Prop} {i : Nat} {y : Int32} (hi : i < 36) (h1 : ¬ so i = 1) (hp : post 0) : wpX_isRef post (li, nw, gIt, pa, ab, dO, dP, dS, dF, dG, dR, dA, xB, xR, xK, xU, xH, xF, xG, xT, xc, xo, xl, so, ho, xC, ce, xt, xL, va, la, gi, gSk, gOd, gIo, gSo, gNa, gSh, gSr, gMa, gTi, gCe) (nI i) y := by
  unfold wpX_isRef
  dsimp only
  refine ⟨rd_in hi, ?_⟩
  rw [rd_cl (by omega)]
  exact br_f h1 hp
theorem yq_ref {post : Int32 → Prop} {i j c s : Nat} (hi : i < 36) (hj : j < 2) (hc : c < 180) (eC : yC i = nI c) (eH : yH c = nI s) (hs : s < 4) (hp : post (nI (s / 2 ^ j % 2))) : wpY_isRef post (yN, yk, tm, hIt, py, bl, dO, dP, dS, dF, dG, dR, dA, yB, yR, yK, yO, yA, yH, yF, yG, yU, yT, yb, yc, yl, yp, so, yC, yt, ho, ce, yL, va, la, gi, ap, ys, hLi, hOp, hNa, hSh, hSr, hTi, hCe, hRe) (nI i) (nI j) := by
  unfold wpY_isRef
  dsimp only
  refine ⟨rd_in hi, ?_⟩
  rw [rd_cl (by omega), eC]
  refine ⟨rd_in hc, ?_⟩
  rw [rd_cl (by omega), eH]
  by_cases b : s / 2 ^ j % 2 = 1
  · rw [b] at hp; exact br_t ((rd_bit1 hs hj).mpr b) hp
  · have b0 : s / 2 ^ j % 2 = 0 := by omega
    rw [b0] at hp; exact br_f (fun z => b ((rd_bit1 hs hj).mp z)) hp
theorem xq_linked {post : Int32 → Prop} {p q lm : Nat} (hp3 : p < 3) (hq : q < 3) (hl : lm < 8) (el : li = nI lm) (hp : post (nI (1 - rd_ap lm p q))) : wpX_isLinked post (li, nw, gIt, pa, ab, dO, dP, dS, dF, dG, dR, dA, xB, xR, xK, xU, xH, xF, xG, xT, xc, xo, xl, so, ho, xC, ce, xt, xL, va, la, gi, gSk, gOd, gIo, gSo, gNa, gSh, gSr, gMa, gTi, gCe) (nI p) (nI q) := by
  unfold wpX_isLinked
  dsimp only
  unfold rd_ap at hp
  by_cases e : p = q
  · rw [if_pos e] at hp; subst e; exact br_t rfl hp
  · rw [if_neg e] at hp
    refine br_f (fun z => e ((nI_eq (by omega) (by omega)).mp z)) ?_
    rw [el, rd_lnk lm hl p hp3 q hq e]
    have hb : lm / 2 ^ (p + q - 1) % 2 < 2 := Nat.mod_lt _ (by omega)
    by_cases b : lm / 2 ^ (p + q - 1) % 2 = 1
    · rw [b] at hp; rw [b]; exact br_t rfl hp
    · have b0 : lm / 2 ^ (p + q - 1) % 2 = 0 := by omega
      rw [b0] at hp; rw [b0]; exact br_f (by decide) hp
/-- exported: the first plain object with the ticket -/
theorem xq_exp {post : Int32 → Prop} {q t k : Nat} (hq : q < 3) (hk : k ≤ 12) (hn : ∀ j, j < k → ¬ (so (12 * q + j) = 1 ∧ xt (12 * q + j) = nI t)) (he : k = 12 ∨ (so (12 * q + k) = 1 ∧ xt (12 * q + k) = nI t)) (hp : post (if k = 12 then -1 else nI k)) : wpX_exported post (li, nw, gIt, pa, ab, dO, dP, dS, dF, dG, dR, dA, xB, xR, xK, xU, xH, xF, xG, xT, xc, xo, xl, so, ho, xC, ce, xt, xL, va, la, gi, gSk, gOd, gIo, gSo, gNa, gSh, gSr, gMa, gTi, gCe) (nI q) (nI t) := by
  refine rd_run (fun n j => wX_exported_2 post (nI q) (nI t) li nw gIt pa ab dO dP dS dF dG dR dA xB xR xK xU xH xF xG xT xc xo xl so ho xC ce xt xL va la gi gSk gOd gIo gSo gNa gSh gSr gMa gTi gCe n (nI j)) (i := 0) (k := k) (Nat.zero_le _) ⟨1, ?_⟩ (fun n j _ hj W => ?_)
  · by_cases c : k = 12
    · rw [if_pos c] at hp; subst c
      exact br_t (by decide) hp
    · rw [if_neg c] at hp
      have hk' : k < 12 := by omega
      obtain ⟨e1, e2⟩ := he.resolve_left c
      refine br_f (nI_ge (b := 12) hk' (by decide)) ?_
      rw [rd_m12, nI_add, rd_cl (by omega)]
      exact ⟨rd_in (by omega), br_t e1 ⟨rd_in (by omega), br_t e2 hp⟩⟩
  · refine br_f (nI_ge (b := 12) (by omega) (by decide)) ?_
    rw [rd_m12, nI_add, rd_cl (by omega)]
    refine ⟨rd_in (by omega), ?_⟩
    by_cases c : so (12 * q + j) = 1
    · exact br_t c ⟨rd_in (by omega), br_f (fun z => hn j hj ⟨c, z⟩) (nm_r (nI_1 j) W)⟩
    · exact br_f c (nm_r (nI_1 j) W)
theorem yq_exp {post : Int32 → Prop} {q t k : Nat} (hq : q < 3) (ht : 1 ≤ t) (htb : t < 2 ^ 31) (hk : k ≤ 12) (hn : ∀ j, j < k → ¬ (so (12 * q + j) = 1 ∧ yt (12 * q + j) = nI t)) (he : k = 12 ∨ (so (12 * q + k) = 1 ∧ yt (12 * q + k) = nI t)) (hp : post (if k = 12 then -1 else nI (12 * q + k))) : wpY_exported post (yN, yk, tm, hIt, py, bl, dO, dP, dS, dF, dG, dR, dA, yB, yR, yK, yO, yA, yH, yF, yG, yU, yT, yb, yc, yl, yp, so, yC, yt, ho, ce, yL, va, la, gi, ap, ys, hLi, hOp, hNa, hSh, hSr, hTi, hCe, hRe) (nI q) (nI t) := by
  unfold wpY_exported
  dsimp only
  rw [rd_m12]
  refine nm_e ?_
  refine rd_run (fun n j => wY_exported_5 post (nI q) (nI t) yN yk tm hIt py bl dO dP dS dF dG dR dA yB yR yK yO yA yH yF yG yU yT yb yc yl yp so yC yt ho ce yL va la gi ap ys hLi hOp hNa hSh hSr hTi hCe hRe n (nI j)) (i := 12 * q) (k := 12 * q + k) (by omega) ⟨1, ?_⟩ (fun n j h1 hj W => ?_)
  · by_cases c : k = 12
    · rw [if_pos c] at hp; subst c
      exact br_t (by rw [rd_m12, rd_a12]; exact Int32.le_refl _) hp
    · rw [if_neg c] at hp
      have hk' : k < 12 := by omega
      obtain ⟨e1, e2⟩ := he.resolve_left c
      refine br_f (by rw [rd_m12, rd_a12]; exact nI_ge (by omega) (by omega)) ?_
      rw [rd_cl (by omega)]
      exact ⟨rd_in (by omega), br_t e1 ⟨rd_in (by omega), br_t e2 (br_f (nI_nle ht htb) hp)⟩⟩
  · obtain ⟨x, rfl⟩ : ∃ x, j = 12 * q + x := ⟨j - 12 * q, by omega⟩
    refine br_f (by rw [rd_m12, rd_a12]; exact nI_ge (by omega) (by omega)) ?_
    rw [rd_cl (by omega)]
    refine ⟨rd_in (by omega), ?_⟩
    by_cases c : so (12 * q + x) = 1
    · exact br_t c ⟨rd_in (by omega), br_f (fun z => hn x (by omega) ⟨c, z⟩) (nm_r (nI_1 _) W)⟩
    · exact br_f c (nm_r (nI_1 _) W)
theorem yq_exp0 {post : Int32 → Prop} {q : Nat} {x : Int32} (hq : q < 3) (hx : x ≤ 0) (hp : post (-1)) : wpY_exported post (yN, yk, tm, hIt, py, bl, dO, dP, dS, dF, dG, dR, dA, yB, yR, yK, yO, yA, yH, yF, yG, yU, yT, yb, yc, yl, yp, so, yC, yt, ho, ce, yL, va, la, gi, ap, ys, hLi, hOp, hNa, hSh, hSr, hTi, hCe, hRe) (nI q) x := by
  unfold wpY_exported
  dsimp only
  rw [rd_m12]
  refine nm_e ?_
  refine rd_run (fun n j => wY_exported_5 post (nI q) x yN yk tm hIt py bl dO dP dS dF dG dR dA yB yR yK yO yA yH yF yG yU yT yb yc yl yp so yC yt ho ce yL va la gi ap ys hLi hOp hNa hSh hSr hTi hCe hRe n (nI j)) (i := 12 * q) (k := 12 * q + 12) (by omega) ⟨1, ?_⟩ (fun n j h1 hj W => ?_)
  · exact br_t (by rw [rd_m12, rd_a12]; exact Int32.le_refl _) hp
  · refine br_f (by rw [rd_m12, rd_a12]; exact nI_ge (by omega) (by omega)) ?_
    rw [rd_cl (by omega)]
    refine ⟨rd_in (by omega), ?_⟩
    by_cases c : so j = 1
    · refine br_t c ⟨rd_in (by omega), ?_⟩
      by_cases c2 : yt j = x
      · exact br_t c2 (br_t hx (nm_r (nI_1 _) W))
      · exact br_f c2 (nm_r (nI_1 _) W)
    · exact br_f c (nm_r (nI_1 _) W)
/-- fresh: the first free place -/
theorem xq_fresh {post : Int32 → SX → Prop} {p s k : Nat} (hp3 : p < 3) (hs : s < 3) (hk : k ≤ 12) (hn : ∀ j, j < k → ¬ so (12 * p + j) = 0) (he : k = 12 ∨ so (12 * p + k) = 0)
    (h0 : k = 12 → post (-1) (li, nw, gIt, pa, ab, dO, dP, dS, dF, dG, dR, dA, xB, xR, xK, xU, xH, xF, xG, xT, xc, xo, xl, so, ho, xC, ce, xt, xL, va, la, gi, gSk, gOd, gIo, gSo, gNa, gSh, gSr, gMa, gTi, gCe)) (h1 : k < 12 → post (nI k) (li, nw, gIt, pa, ab, dO, dP, dS, dF, dG, dR, dA, xB, xR, xK, xU, xH, xF, xG, xT, xc, xo, xl, upd so (12 * p + k) (nI s), ho, xC, ce, upd xt (12 * p + k) 0, xL, va, la, gi, gSk, gOd, gIo, gSo, gNa, gSh, gSr, gMa, gTi, gCe)) : wpX_fresh post (li, nw, gIt, pa, ab, dO, dP, dS, dF, dG, dR, dA, xB, xR, xK, xU, xH, xF, xG, xT, xc, xo, xl, so, ho, xC, ce, xt, xL, va, la, gi, gSk, gOd, gIo, gSo, gNa, gSh, gSr, gMa, gTi, gCe) (nI p) (nI s) := by
  have hend : wX_fresh_28 post (nI p) (nI s) (nI k) li nw gIt pa ab dO dP dS dF dG dR dA xB xR xK xU xH xF xG xT xc xo xl so ho xC ce xt xL va la gi gSk gOd gIo gSo gNa gSh gSr gMa gTi gCe := by
    unfold wX_fresh_28
    by_cases c : k = 12
    · subst c; exact br_t rfl (h0 rfl)
    · refine br_f (fun z => c ((nI_eq (b := 12) (by omega) (by omega)).mp z)) ?_
      rw [rd_m12, nI_add, rd_cl (by omega), rd_nb8 (by omega)]
      exact ⟨rd_in (by omega), nm_e ⟨rd_in (by omega), nm_e (h1 (by omega))⟩⟩
  refine rd_run (fun n j => wX_fresh_2 post (nI p) (nI s) li nw gIt pa ab dO dP dS dF dG dR dA xB xR xK xU xH xF xG xT xc xo xl so ho xC ce xt xL va la gi gSk gOd gIo gSo gNa gSh gSr gMa gTi gCe n (nI j)) (i := 0) (k := k) (Nat.zero_le _) ⟨1, ?_⟩ (fun n j _ hj W => ?_)
  · by_cases c : k = 12
    · subst c; exact br_t (by decide) hend
    · refine br_f (nI_ge (b := 12) (by omega) (by decide)) ?_
      rw [rd_m12, nI_add, rd_cl (by omega)]
      exact ⟨rd_in (by omega), br_t (he.resolve_left c) hend⟩
  · refine br_f (nI_ge (b := 12) (by omega) (by decide)) ?_
    rw [rd_m12, nI_add, rd_cl (by omega)]
    exact ⟨rd_in (by omega), br_f (hn j hj) (nm_r (nI_1 j) W)⟩
theorem yq_fresh {post : Int32 → SY → Prop} {p s k : Nat} (hp3 : p < 3) (hk : k ≤ 12) (hn : ∀ j, j < k → ¬ so (12 * p + j) = 0) (he : k = 12 ∨ so (12 * p + k) = 0)
    (h0 : k = 12 → post (-1) (yN, yk, tm, hIt, py, bl, dO, dP, dS, dF, dG, dR, dA, yB, yR, yK, yO, yA, yH, yF, yG, yU, yT, yb, yc, yl, yp, so, yC, yt, ho, ce, yL, va, la, gi, ap, ys, hLi, hOp, hNa, hSh, hSr, hTi, hCe, hRe)) (h1 : k < 12 → post (nI k) (yN, yk, tm, hIt, py, bl, dO, dP, dS, dF, dG, dR, dA, yB, yR, yK, yO, yA, yH, yF, yG, yU, yT, yb, yc, yl, yp, upd so (12 * p + k) (nI s), yC, upd yt (12 * p + k) 0, ho, ce, upd (upd (upd yL (3 * (12 * p + k)) 0) (3 * (12 * p + k) + 1) 0) (3 * (12 * p + k) + 2) 0, va, la, gi, ap, ys, hLi, hOp, hNa, hSh, hSr, hTi, hCe, hRe)) : wpY_fresh post (yN, yk, tm, hIt, py, bl, dO, dP, dS, dF, dG, dR, dA, yB, yR, yK, yO, yA, yH, yF, yG, yU, yT, yb, yc, yl, yp, so, yC, yt, ho, ce, yL, va, la, gi, ap, ys, hLi, hOp, hNa, hSh, hSr, hTi, hCe, hRe) (nI p) (nI s) := by
  have hend : wY_fresh_28 post (nI p) (nI s) (nI k) yN yk tm hIt py bl dO dP dS dF dG dR dA yB yR yK yO yA yH yF yG yU yT yb yc yl yp so yC yt ho ce yL va la gi ap ys hLi hOp hNa hSh hSr hTi hCe hRe := by
    unfold wY_fresh_28
    by_cases c : k = 12
    · subst c; exact br_t rfl (h0 rfl)
    · have hk' : k < 12 := by omega
      refine br_f (fun z => c ((nI_eq (b := 12) (by omega) (by omega)).mp z)) ?_
      rw [rd_m12, nI_add]
      refine nm_e ?_
      rw [rd_cl (by omega)]
      refine ⟨rd_in (by omega), nm_e ⟨rd_in (by omega), nm_e ⟨4, ?_⟩⟩⟩
      refine br_f (by decide) ?_
      rw [show (0 : Int32) = nI 0 from rfl, rd_m3, nI_add, rd_cl (by omega)]
      refine ⟨rd_in (by omega), nm_e (nm_r (nI_1 0) ?_)⟩
      refine br_f (by decide) ?_
      rw [rd_m3, nI_add, rd_cl (by omega)]
      refine ⟨rd_in (by omega), nm_e (nm_r (nI_1 (0 + 1)) ?_)⟩
      refine br_f (by decide) ?_
      rw [rd_m3, nI_add, rd_cl (by omega)]
      refine ⟨rd_in (by omega), nm_e (nm_r (nI_1 (0 + 1 + 1)) ?_)⟩
      exact br_t (by decide) (h1 hk')
  refine rd_run (fun n j => wY_fresh_2 post (nI p) (nI s) yN yk tm hIt py bl dO dP dS dF dG dR dA yB yR yK yO yA yH yF yG yU yT yb yc yl yp so yC yt ho ce yL va la gi ap ys hLi hOp hNa hSh hSr hTi hCe hRe n (nI j)) (i := 0) (k := k) (Nat.zero_le _) ⟨1, ?_⟩ (fun n j _ hj W => ?_)
  · by_cases c : k = 12
    · subst c; exact br_t (by decide) hend
    · refine br_f (nI_ge (b := 12) (by omega) (by decide)) ?_
      rw [rd_m12, nI_add, rd_cl (by omega)]
      exact ⟨rd_in (by omega), br_t (he.resolve_left c) hend⟩
  · refine br_f (nI_ge (b := 12) (by omega) (by decide)) ?_
    rw [rd_m12, nI_add, rd_cl (by omega)]
    exact ⟨rd_in (by omega), br_f (hn j hj) (nm_r (nI_1 j) W)⟩
end
end
section
/-! the class table: a birth, a delegation; both sides' arrays follow -/
def rd_u {α : Type} (f : Nat → α) (k : Nat) (v : α) : Nat → α := fun j => if j = k then v else f j
theorem rd_us {α : Type} {f : Nat → α} {k : Nat} {v : α} : rd_u f k v k = v := if_pos rfl
theorem rd_un {α : Type} {f : Nat → α} {k j : Nat} {v : α} (h : j ≠ k) : rd_u f k v j = f j := if_neg h
theorem rd_mapc {o : Option Nat} {f g : Nat → Nat} (h : ∀ j, o = some j → f j = g j) : o.map f = o.map g := by
  cases o with
  | none => rfl
  | some j => exact congrArg some (h j rfl)
def rd_TE : rt_T → rt_T → Prop
  | (N, P, sh, fl, sg, _, _, _), (N', P', sh', fl', sg', _, _, _) => N ≤ N' ∧ ∀ j, j < N → P' j = P j ∧ sh' j = sh j ∧ fl' j = fl j ∧ sg' j = sg j
theorem rd_TE_rfl (T : rt_T) : rd_TE T T := ⟨Nat.le_refl _, fun _ _ => ⟨rfl, rfl, rfl, rfl⟩⟩
theorem rd_TE_tr {T T' T'' : rt_T} (h : rd_TE T T') (h' : rd_TE T' T'') : rd_TE T T'' := by
  obtain ⟨N, P, sh, fl, sg, st, pr, kn⟩ := T
  obtain ⟨N', P', sh', fl', sg', st', pr', kn'⟩ := T'
  obtain ⟨N2, P2, sh2, fl2, sg2, st2, pr2, kn2⟩ := T''
  obtain ⟨a, b⟩ := h
  obtain ⟨a', b'⟩ := h'
  refine ⟨Nat.le_trans a a', fun j hj => ?_⟩
  obtain ⟨e1, e2, e3, e4⟩ := b j hj
  obtain ⟨f1, f2, f3, f4⟩ := b' j (Nat.lt_of_lt_of_le hj a)
  exact ⟨f1.trans e1, f2.trans e2, f3.trans e3, f4.trans e4⟩
section
variable {N c s f g : Nat} {P sh fl sg st : Nat → Nat} {pr kn : Nat → Option Nat} {par : Option Nat}
theorem rd_inj (h : rd_TI (N, P, sh, fl, sg, st, pr, kn)) {i j : Nat} (hi : i < N) (hj : j < N) (e : P i = P j) : i = j := by
  have h1 := (h.1 i hi).2.1
  have h2 := (h.1 j hj).2.1
  rw [e, h2] at h1
  exact (Option.some.inj h1).symm
theorem rd_NB (h : rd_TI (N, P, sh, fl, sg, st, pr, kn)) (hc : c < 180) (hk : kn c = none) : N < 180 := by
  refine rd_php1 (f := P) (fun i hi => (h.1 i hi).1) (fun i j hij hj e => ?_) hc (fun i hi e => ?_)
  · have := rd_inj h (by omega) hj e
    omega
  · have := (h.1 i hi).2.1
    rw [e, hk] at this
    exact nomatch this
theorem rd_NB' (h : rd_TI (N, P, sh, fl, sg, st, pr, kn)) : N ≤ 180 :=
  rd_php 180 N P (fun i hi => (h.1 i hi).1) (fun i j hij hj e => by have := rd_inj h (by omega) hj e; omega)
theorem rd_birthE : rd_TE (N, P, sh, fl, sg, st, pr, kn) (N + 1, rd_u P N c, rd_u sh N s, rd_u fl N f, rd_u sg N g, rd_u st N 0, rd_u pr N par, rd_u kn c (some N)) :=
  ⟨Nat.le_succ _, fun j hj => ⟨rd_un (by omega), rd_un (by omega), rd_un (by omega), rd_un (by omega)⟩⟩
theorem rd_birthI (h : rd_TI (N, P, sh, fl, sg, st, pr, kn)) (hc : c < 180) (hk : kn c = none) (hs : s < 4) (hf : f < 8) (hg : g < 4) (hpar : ∀ i, par = some i → i < N ∧ rd_up P c i) :
    rd_TI (N + 1, rd_u P N c, rd_u sh N s, rd_u fl N f, rd_u sg N g, rd_u st N 0, rd_u pr N par, rd_u kn c (some N)) := by
  obtain ⟨h1, h2, h3, h4⟩ := h
  have hne : ∀ j, j < N → P j ≠ c := fun j hj e => by
    have := (h1 j hj).2.1
    rw [e, hk] at this
    exact nomatch this
  refine ⟨fun j hj => ?_, fun k hk' j e => ?_, fun j hj i e => ?_, fun p hp => ?_⟩
  · by_cases e : j = N
    · subst e
      rw [rd_us, rd_us, rd_us, rd_us, rd_us, rd_us]
      exact ⟨hc, rfl, hs, hf, hg, by omega⟩
    · obtain ⟨a1, a2, a3, a4, a5, a6⟩ := h1 j (by omega)
      rw [rd_un e, rd_un e, rd_un e, rd_un e, rd_un e, rd_un (hne j (by omega))]
      exact ⟨a1, a2, a3, a4, a5, a6⟩
  · by_cases ek : k = c
    · subst ek
      rw [rd_us] at e
      cases e
      refine ⟨by omega, ?_⟩
      unfold rd_up
      rw [rd_us]
      exact ⟨rfl, Or.inl rfl⟩
    · rw [rd_un ek] at e
      obtain ⟨a1, a2⟩ := h2 k hk' j e
      refine ⟨by omega, ?_⟩
      unfold rd_up at a2 ⊢
      rw [rd_un (show j ≠ N by omega)]
      exact a2
  · by_cases ej : j = N
    · subst ej
      rw [rd_us] at e
      rw [rd_us]
      obtain ⟨a1, a2⟩ := hpar i e
      refine ⟨a1, ?_⟩
      unfold rd_up at a2 ⊢
      rw [rd_un (show i ≠ j by omega)]
      exact a2
    · rw [rd_un ej] at e
      rw [rd_un ej]
      obtain ⟨a1, a2⟩ := h3 j (by omega) i e
      refine ⟨a1, ?_⟩
      unfold rd_up at a2 ⊢
      rw [rd_un (show i ≠ N by omega)]
      exact a2
  · have same : ∀ k, k < 180 → k ≠ c → rd_df (rd_u P N c) (rd_u kn c (some N)) k = rd_df P kn k := by
      intro k hk' hkc
      unfold rd_df
      rw [rd_un hkc]
      cases e : kn k with
      | none => rfl
      | some j =>
        have := (h2 k hk' j e).1
        dsimp only
        rw [rd_un (show j ≠ N by omega)]
    have atc : rd_df (rd_u P N c) (rd_u kn c (some N)) c = true := by
      unfold rd_df
      rw [rd_us]
      dsimp only
      rw [rd_us]
      exact decide_eq_true rfl
    have atc0 : rd_df P kn c = false := by
      unfold rd_df
      rw [hk]
    have old : rd_cn (fun j => decide (rd_u P N c j / 60 = p)) N = rd_cn (fun j => decide (P j / 60 = p)) N :=
      rd_cn_eq N (fun i hi => by rw [rd_un (show i ≠ N by omega)])
    show rd_cn (fun i => rd_df (rd_u P N c) (rd_u kn c (some N)) (60 * p + i)) 60 = rd_cn (fun j => decide (rd_u P N c j / 60 = p)) N + (if decide (rd_u P N c N / 60 = p) = true then 1 else 0)
    rw [old, rd_us, ← h4 p hp]
    by_cases e : c / 60 = p
    · rw [if_pos (decide_eq_true e)]
      refine rd_cn_up (k := c - 60 * p) ?_ ?_ 60 (by omega) (fun i hi hne' => same (60 * p + i) (by omega) (by omega))
      · rw [show 60 * p + (c - 60 * p) = c by omega]; exact atc0
      · rw [show 60 * p + (c - 60 * p) = c by omega]; exact atc
    · rw [if_neg (by rw [decide_eq_false e]; decide), Nat.add_zero]
      exact rd_cn_eq 60 (fun i hi => same (60 * p + i) (by omega) (by omega))
theorem rd_birthX {xB xR xK xU xH xF xG xT : rt_F} (h : rd_TI (N, P, sh, fl, sg, st, pr, kn)) (hk : kn c = none) (hpar : ∀ i, par = some i → i < N ∧ rd_up P c i) (hX : rd_TX (N, P, sh, fl, sg, st, pr, kn) (xB, xR, xK, xU, xH, xF, xG, xT)) :
    rd_TX (N + 1, rd_u P N c, rd_u sh N s, rd_u fl N f, rd_u sg N g, rd_u st N 0, rd_u pr N par, rd_u kn c (some N)) (xB, xR, upd xK c (nI c), upd xU c (rd_o (par.map P)), upd xH c (nI s), upd xF c (nI f), upd xG c (nI g), upd xT c 0) := by
  obtain ⟨x1, x2⟩ := hX
  have hne : ∀ j, j < N → P j ≠ c := fun j hj e => by
    have := (h.1 j hj).2.1
    rw [e, hk] at this
    exact nomatch this
  refine ⟨fun k hk' => ?_, fun j hj => ?_⟩
  · by_cases ek : k = c
    · subst ek
      rw [pk_us, rd_us]
      show nI k = rd_o (some (rd_u P N k N))
      rw [rd_us]; rfl
    · rw [pk_un ek, rd_un ek, x1 k hk']
      exact congrArg rd_o (rd_mapc (fun j e => (rd_un (show j ≠ N by have := (h.2.1 k hk' j e).1; omega)).symm))
  · by_cases ej : j = N
    · subst ej
      rw [rd_us, rd_us, rd_us, rd_us, rd_us, rd_us, pk_us, pk_us, pk_us, pk_us, pk_us]
      exact ⟨congrArg rd_o (rd_mapc (fun i e => (rd_un (show i ≠ j by have := (hpar i e).1; omega)).symm)), rfl, rfl, rfl, rfl⟩
    · obtain ⟨a1, a2, a3, a4, a5⟩ := x2 j (by omega)
      rw [rd_un ej, rd_un ej, rd_un ej, rd_un ej, rd_un ej, rd_un ej, pk_un (hne j (by omega)), pk_un (hne j (by omega)), pk_un (hne j (by omega)), pk_un (hne j (by omega)), pk_un (hne j (by omega))]
      exact ⟨a1.trans (congrArg rd_o (rd_mapc (fun i e => (rd_un (show i ≠ N by have := (h.2.2.1 j (by omega) i e).1; omega)).symm))), a2, a3, a4, a5⟩
theorem rd_birthY {yB yR yK yO yA yH yF yG yU yT : rt_F} {yN : Int32} (h : rd_TI (N, P, sh, fl, sg, st, pr, kn)) (hc : c < 180) (hk : kn c = none) (hY : rd_TY (N, P, sh, fl, sg, st, pr, kn) (yN, yB, yR, yK, yO, yA, yH, yF, yG, yU, yT)) :
    rd_TY (N + 1, rd_u P N c, rd_u sh N s, rd_u fl N f, rd_u sg N g, rd_u st N 0, rd_u pr N par, rd_u kn c (some N)) (nI (N + 1), yB, yR, upd yK c (nI N), upd yO N (nI (c / 12)), upd yA N (nI (c % 12)), upd yH N (nI s), upd yF N (nI f), upd yG N (nI g), upd yU N (rd_o par), upd yT N 0) := by
  obtain ⟨y0, y1, y2⟩ := hY
  refine ⟨rfl, fun k hk' => ?_, fun j hj => ?_⟩
  · by_cases ek : k = c
    · subst ek
      rw [pk_us, rd_us]; rfl
    · rw [pk_un ek, rd_un ek]; exact y1 k hk'
  · by_cases ej : j = N
    · subst ej
      rw [rd_us, rd_us, rd_us, rd_us, rd_us, rd_us, pk_us, pk_us, pk_us, pk_us, pk_us, pk_us, pk_us]
      exact ⟨rfl, rfl, rfl, rfl, rfl, rfl, rfl⟩
    · rw [rd_un ej, rd_un ej, rd_un ej, rd_un ej, rd_un ej, rd_un ej, pk_un ej, pk_un ej, pk_un ej, pk_un ej, pk_un ej, pk_un ej, pk_un ej]
      exact y2 j (by omega)
/-- a delegation: place k now knows class j of the place's own loader -/
theorem rd_delI {k j : Nat} (h : rd_TI (N, P, sh, fl, sg, st, pr, kn)) (hk : kn k = none) (hj : j < N) (hu : rd_up P k j) : rd_TI (N, P, sh, fl, sg, st, pr, rd_u kn k (some j)) := by
  obtain ⟨h1, h2, h3, h4⟩ := h
  have hne : ∀ i, i < N → P i ≠ k := fun i hi e => by
    have := (h1 i hi).2.1
    rw [e, hk] at this
    exact nomatch this
  refine ⟨fun i hi => ?_, fun k' hk' i e => ?_, h3, fun p hp => ?_⟩
  · rw [rd_un (hne i hi)]; exact h1 i hi
  · by_cases ek : k' = k
    · subst ek
      rw [rd_us] at e
      cases e
      exact ⟨hj, hu⟩
    · rw [rd_un ek] at e; exact h2 k' hk' i e
  · rw [← h4 p hp]
    refine rd_cn_eq 60 (fun i hi => ?_)
    unfold rd_df
    by_cases ek : 60 * p + i = k
    · rw [ek, rd_us, hk]
      exact decide_eq_false (hne j hj)
    · rw [rd_un ek]
theorem rd_delX {k j : Nat} {xB xR xK xU xH xF xG xT : rt_F} (hX : rd_TX (N, P, sh, fl, sg, st, pr, kn) (xB, xR, xK, xU, xH, xF, xG, xT)) : rd_TX (N, P, sh, fl, sg, st, pr, rd_u kn k (some j)) (xB, xR, upd xK k (nI (P j)), xU, xH, xF, xG, xT) := by
  refine ⟨fun k' hk' => ?_, hX.2⟩
  by_cases ek : k' = k
  · subst ek
    rw [pk_us, rd_us]; rfl
  · rw [pk_un ek, rd_un ek]; exact hX.1 k' hk'
theorem rd_delY {k j : Nat} {yB yR yK yO yA yH yF yG yU yT : rt_F} {yN : Int32} (hY : rd_TY (N, P, sh, fl, sg, st, pr, kn) (yN, yB, yR, yK, yO, yA, yH, yF, yG, yU, yT)) : rd_TY (N, P, sh, fl, sg, st, pr, rd_u kn k (some j)) (yN, yB, yR, upd yK k (nI j), yO, yA, yH, yF, yG, yU, yT) := by
  refine ⟨hY.1, fun k' hk' => ?_, hY.2.2⟩
  by_cases ek : k' = k
  · subst ek
    rw [pk_us, rd_us]; rfl
  · rw [pk_un ek, rd_un ek]; exact hY.2.1 k' hk'
end
end
section
/-! one definition of a class, both sides -/
def rd_sd (p l : Nat) : Nat := if l = 4 then 4 + p else l
theorem rd_sd_lt {p l n : Nat} (hp : p < 3) (hl : l < 5) (hn : n < 12) : 12 * rd_sd p l + n < 84 := by
  unfold rd_sd
  by_cases h : l = 4
  · rw [if_pos h]; omega
  · rw [if_neg h]; omega
def rd_cls (N : Nat) (P sg : Nat → Nat) (b n g : Nat) : Prop := ∃ j, j < N ∧ P j / 12 = b ∧ P j % 12 / 4 = n / 4 ∧ sg j ≠ g
theorem xq_source {post : Int32 → Prop} {p l n : Nat} (hl : l < 5) (hp : post (nI (12 * rd_sd p l + n))) : wpX_source post (nI p) (nI l) (nI n) := by
  unfold rd_sd at hp
  unfold wpX_source
  by_cases h : l = 4
  · rw [if_pos h] at hp
    refine br_t (by rw [h]; rfl) ?_
    rw [rd_4a, rd_m12, nI_add]; exact hp
  · rw [if_neg h] at hp
    refine br_f (fun z => h ((nI_eq (b := 4) (by omega) (by omega)).mp z)) ?_
    rw [rd_m12, nI_add]; exact hp
theorem rd_pl (p l n : Nat) : ((60 * nI p) + (12 * nI l)) + nI n = nI (12 * (5 * p + l) + n) := by
  rw [rd_m60, rd_m12, nI_add, nI_add]
  exact congrArg nI (by omega)
theorem xq_place {post : Int32 → Prop} {p l n : Nat} (h : post (nI (12 * (5 * p + l) + n))) : wpX_place post (nI p) (nI l) (nI n) := by
  unfold wpX_place
  rw [rd_pl]
  exact h
theorem rd_plY (p l n : Nat) : (12 * ((5 * nI p) + nI l)) + nI n = nI (12 * (5 * p + l) + n) := by
  rw [rd_m5, nI_add, rd_m12, nI_add]
section
variable {N : Nat} {P sh fl sg st : Nat → Nat} {pr kn : Nat → Option Nat}
variable {li gIt pa ab yN yk tm hIt py bl : Int32} {dO dP dS dF dG dR dA xB xR xK xU xH xF xG xT xc xo xl so ho xC ce xt va la gi gSk gOd gIo gSo gNa gSh gSr gMa gTi gCe yB yR yK yO yA yH yF yG yU yT yb yc yl yp yC yt yL ap ys hLi hOp hNa hSh hSr hTi hCe hRe : Nat → Int32} {nw : Int64} {xL : Nat → Int64}
theorem rd_xKc (h : rd_TI (N, P, sh, fl, sg, st, pr, kn)) (hX : rd_TX (N, P, sh, fl, sg, st, pr, kn) (xB, xR, xK, xU, xH, xF, xG, xT)) {k : Nat} (hk : k < 180) : xK k = nI k ↔ ∃ j, j < N ∧ P j = k := by
  rw [hX.1 k hk]
  cases e : kn k with
  | none =>
    refine ⟨fun z => absurd z.symm (rd_nm1 (by omega)), fun ⟨j, hj, ej⟩ => ?_⟩
    have := (h.1 j hj).2.1
    rw [ej, e] at this
    exact nomatch this
  | some j =>
    have hj := (h.2.1 k hk j e).1
    have hP := (h.1 j hj).1
    refine ⟨fun z => ⟨j, hj, (nI_eq (by omega) (by omega)).mp z⟩, fun ⟨i, hi, ei⟩ => ?_⟩
    have := (h.1 i hi).2.1
    rw [ei, e] at this
    cases this
    exact congrArg nI ei
theorem xq_foreign {post : Int32 → Prop} {p l n g : Nat} (h : rd_TI (N, P, sh, fl, sg, st, pr, kn)) (hX : rd_TX (N, P, sh, fl, sg, st, pr, kn) (xB, xR, xK, xU, xH, xF, xG, xT)) (hp3 : p < 3) (hl : l < 5) (hn : n < 12) (hg : g < 4)
    (h1 : rd_cls N P sg (5 * p + l) n g → post 1) (h0 : ¬ rd_cls N P sg (5 * p + l) n g → post 0) : wpX_isForeign post (li, nw, gIt, pa, ab, dO, dP, dS, dF, dG, dR, dA, xB, xR, xK, xU, xH, xF, xG, xT, xc, xo, xl, so, ho, xC, ce, xt, xL, va, la, gi, gSk, gOd, gIo, gSo, gNa, gSh, gSr, gMa, gTi, gCe) (nI p) (nI l) (nI n) (nI g) := by
  have e4 : nI n / 4 * 4 = nI (n / 4 * 4) := by
    rw [show (4 : Int32) = nI 4 from rfl, pk_div (by omega) (by omega) (by omega), pk_mul]
  obtain ⟨k, k1, k2, k3, k4⟩ := rd_first (fun i => ∃ j, j < N ∧ P j = 12 * (5 * p + l) + i ∧ sg j ≠ g) (n / 4 * 4) (n / 4 * 4 + 4) (by omega)
  unfold wpX_isForeign
  dsimp only
  refine ⟨by decide, nm_r e4 ?_⟩
  refine rd_run (fun f j => wX_isForeign_7 post (nI p) (nI l) (nI n) (nI g) li nw gIt pa ab dO dP dS dF dG dR dA xB xR xK xU xH xF xG xT xc xo xl so ho xC ce xt xL va la gi gSk gOd gIo gSo gNa gSh gSr gMa gTi gCe f (nI j)) k1 ⟨1, ?_⟩ (fun f j hj1 hj2 W => ?_)
  · refine ⟨by decide, ?_⟩
    rw [e4, rd_a4]
    rcases k4 with e | ⟨j, hj, ej, hsg⟩
    · refine br_t (by rw [e]; exact Int32.le_refl _) (h0 ?_)
      rintro ⟨j, hj, a1, a2, a3⟩
      exact k3 (P j % 12) (by omega) (by omega) ⟨j, hj, by omega, a3⟩
    · by_cases ke : k = n / 4 * 4 + 4
      · refine br_t (by rw [ke]; exact Int32.le_refl _) (h0 ?_)
        rintro ⟨j, hj, a1, a2, a3⟩
        exact k3 (P j % 12) (by omega) (by omega) ⟨j, hj, by omega, a3⟩
      · refine br_f (nI_ge (by omega) (by omega)) ?_
        refine xq_place ?_
        rw [rd_cl (by omega)]
        have hG := (hX.2 j hj).2.2.2.1
        rw [ej] at hG
        refine ⟨rd_in (by omega), br_t ((rd_xKc h hX (by omega)).mpr ⟨j, hj, ej⟩) ⟨rd_in (by omega), br_f ?_ (h1 ⟨j, hj, by omega, by omega, hsg⟩)⟩⟩
        rw [hG]
        exact fun z => hsg ((nI_eq (by have := (h.1 j hj).2.2.2.2.1; omega) (by omega)).mp z)
  · refine ⟨by decide, ?_⟩
    rw [e4, rd_a4]
    refine br_f (nI_ge (by omega) (by omega)) ?_
    refine xq_place ?_
    rw [rd_cl (by omega)]
    refine ⟨rd_in (by omega), ?_⟩
    by_cases c : ∃ i, i < N ∧ P i = 12 * (5 * p + l) + j
    · obtain ⟨i, hi, ei⟩ := c
      have hG := (hX.2 i hi).2.2.2.1
      rw [ei] at hG
      have hs : sg i = g := Classical.byContradiction fun z => k3 j hj1 hj2 ⟨i, hi, ei, z⟩
      refine br_t ((rd_xKc h hX (by omega)).mpr ⟨i, hi, ei⟩) ⟨rd_in (by omega), br_t (by rw [hG, hs]) (nm_r (nI_1 j) W)⟩
    · exact br_f (fun z => c ((rd_xKc h hX (by omega)).mp z)) (nm_r (nI_1 j) W)
theorem yq_clash {post : Int32 → Prop} {p l n g : Nat} (h : rd_TI (N, P, sh, fl, sg, st, pr, kn)) (hY : rd_TY (N, P, sh, fl, sg, st, pr, kn) (yN, yB, yR, yK, yO, yA, yH, yF, yG, yU, yT)) (hp3 : p < 3) (hl : l < 5) (hn : n < 12) (hg : g < 4)
    (h1 : rd_cls N P sg (5 * p + l) n g → post 1) (h0 : ¬ rd_cls N P sg (5 * p + l) n g → post 0) : wpY_clashes post (yN, yk, tm, hIt, py, bl, dO, dP, dS, dF, dG, dR, dA, yB, yR, yK, yO, yA, yH, yF, yG, yU, yT, yb, yc, yl, yp, so, yC, yt, ho, ce, yL, va, la, gi, ap, ys, hLi, hOp, hNa, hSh, hSr, hTi, hCe, hRe) (nI p) (nI l) (nI n) (nI g) := by
  have hN := rd_NB' h
  have e4 : ∀ a, a < 200 → nI a / 4 = nI (a / 4) := fun a ha => by
    rw [show (4 : Int32) = nI 4 from rfl, pk_div (by omega) (by omega) (by omega)]
  obtain ⟨k, k1, k2, k3, k4⟩ := rd_first (fun j => P j / 12 = 5 * p + l ∧ P j % 12 / 4 = n / 4 ∧ sg j ≠ g) 0 N (Nat.zero_le _)
  refine rd_run (fun f j => wY_clashes_3 post (nI p) (nI l) (nI n) (nI g) yN yk tm hIt py bl dO dP dS dF dG dR dA yB yR yK yO yA yH yF yG yU yT yb yc yl yp so yC yt ho ce yL va la gi ap ys hLi hOp hNa hSh hSr hTi hCe hRe f (nI j)) (i := 0) (k := k) k1 ⟨1, ?_⟩ (fun f j hj1 hj2 W => ?_)
  · by_cases e : k = N
    · refine br_t (by rw [hY.1, e]; exact Int32.le_refl _) (h0 ?_)
      rintro ⟨j, hj, a⟩
      exact k3 j (Nat.zero_le _) (by omega) a
    · have hk : k < N := by omega
      obtain ⟨q1, q2, q3⟩ := k4.resolve_left e
      obtain ⟨y1, y2, _, _, _, y6, _⟩ := hY.2.2 k hk
      have hPk := (h.1 k hk).1
      have hsk := (h.1 k hk).2.2.2.2.1
      refine br_f (by rw [hY.1]; exact nI_ge hk (by omega)) ?_
      rw [rd_cl (by omega), y1, y2, y6, rd_m5, nI_add, e4 _ (by omega), e4 n (by omega)]
      refine ⟨rd_in (by omega), br_t (by rw [q1]) ⟨rd_in (by omega), by decide, by decide, br_t (by rw [q2]) ⟨rd_in (by omega), br_f (fun z => q3 ((nI_eq (by omega) (by omega)).mp z)) (h1 ⟨k, hk, q1, q2, q3⟩)⟩⟩⟩
  · have hj : j < N := by omega
    obtain ⟨y1, y2, _, _, _, y6, _⟩ := hY.2.2 j hj
    have hPk := (h.1 j hj).1
    have hsk := (h.1 j hj).2.2.2.2.1
    refine br_f (by rw [hY.1]; exact nI_ge hj (by omega)) ?_
    rw [rd_cl (by omega), y1, y2, y6, rd_m5, nI_add, e4 _ (by omega), e4 n (by omega)]
    refine ⟨rd_in (by omega), ?_⟩
    by_cases q1 : P j / 12 = 5 * p + l
    · refine br_t (by rw [q1]) ⟨rd_in (by omega), by decide, by decide, ?_⟩
      by_cases q2 : P j % 12 / 4 = n / 4
      · refine br_t (by rw [q2]) ⟨rd_in (by omega), ?_⟩
        by_cases q3 : sg j = g
        · exact br_t (by rw [q3]) (nm_r (nI_1 j) W)
        · exact absurd ⟨q1, q2, q3⟩ (k3 j hj1 hj2)
      · exact br_f (fun z => q2 ((nI_eq (by omega) (by omega)).mp z)) (nm_r (nI_1 j) W)
    · exact br_f (fun z => q1 ((nI_eq (by omega) (by omega)).mp z)) (nm_r (nI_1 j) W)
theorem xq_def41 {post : Int32 → SX → Prop} {q : Option Nat} {d c s f g : Nat} (hd : d < 84) (hc : c < 180) (hq : ∀ j, q = some j → j < 180) (es : dS d = nI s) (hs : s < 4) (ef : dF d = nI f) (hf : f < 8) (eg : dG d = nI g) (hg : g < 4)
    (hp : post (nI c) (li, nw, gIt, pa, ab, dO, dP, dS, dF, dG, dR, dA, xB, xR, upd xK c (nI c), upd xU c (rd_o q), upd xH c (nI s), upd xF c (nI f), upd xG c (nI g), upd xT c 0, xc, xo, xl, so, ho, xC, ce, xt, xL, va, la, gi, gSk, gOd, gIo, gSo, gNa, gSh, gSr, gMa, gTi, gCe)) : wX_define_41 post (rd_o q) (nI d) (nI c) li nw gIt pa ab dO dP dS dF dG dR dA xB xR xK xU xH xF xG xT xc xo xl so ho xC ce xt xL va la gi gSk gOd gIo gSo gNa gSh gSr gMa gTi gCe := by
  unfold wX_define_41
  rw [rd_cl (show c < 3000 by omega), rd_cl (show d < 3000 by omega), es, ef, eg, rd_ns16 (by omega), rd_ns16o (fun j e => by have := hq j e; omega), rd_nb (show s < 128 by omega), rd_nb (show f < 128 by omega), rd_nb (show g < 128 by omega), show vp_nar .byte 0 = 0 from rd_nb (n := 0) (by omega)]
  exact ⟨rd_in hc, nm_e ⟨rd_in hc, nm_e ⟨rd_in hd, rd_in hc, nm_e ⟨rd_in hd, rd_in hc, nm_e ⟨rd_in hd, rd_in hc, nm_e ⟨rd_in hc, nm_e hp⟩⟩⟩⟩⟩⟩
theorem yq_born {post : SY → Prop} {q : Option Nat} {d b n s f g : Nat} (hN : N < 180) (eN : yN = nI N) (hd : d < 84) (es : dS d = nI s) (ef : dF d = nI f) (eg : dG d = nI g)
    (hp : post (nI (N + 1), yk, tm, hIt, py, bl, dO, dP, dS, dF, dG, dR, dA, yB, yR, yK, upd yO N (nI b), upd yA N (nI n), upd yH N (nI s), upd yF N (nI f), upd yG N (nI g), upd yU N (rd_o q), upd yT N 0, yb, yc, yl, yp, so, yC, yt, ho, ce, yL, va, la, gi, ap, ys, hLi, hOp, hNa, hSh, hSr, hTi, hCe, hRe)) : wpY_born post (yN, yk, tm, hIt, py, bl, dO, dP, dS, dF, dG, dR, dA, yB, yR, yK, yO, yA, yH, yF, yG, yU, yT, yb, yc, yl, yp, so, yC, yt, ho, ce, yL, va, la, gi, ap, ys, hLi, hOp, hNa, hSh, hSr, hTi, hCe, hRe) (nI b) (nI n) (nI d) (rd_o q) := by
  unfold wpY_born
  dsimp only
  rw [eN, rd_cl (show N < 3000 by omega), rd_cl (show d < 3000 by omega), es, ef, eg, nI_1]
  exact ⟨rd_in hN, nm_e ⟨rd_in hN, nm_e ⟨rd_in hd, rd_in hN, nm_e ⟨rd_in hd, rd_in hN, nm_e ⟨rd_in hd, rd_in hN, nm_e ⟨rd_in hN, nm_e ⟨rd_in hN, nm_e (nm_e hp)⟩⟩⟩⟩⟩⟩⟩
end
end
section
/-! one definition in lockstep; the loops that define a chain -/
def rd_N (T : rt_T) : Nat := T.1
def rd_P (T : rt_T) : Nat → Nat := T.2.1
def rd_kn (T : rt_T) : Nat → Option Nat := T.2.2.2.2.2.2.2
def rd_RR (T : rt_T) (rx ry : Int32) : Prop := (∃ e, 1 ≤ e ∧ e ≤ 5 ∧ rx = -nI e ∧ ry = -nI e) ∨ (∃ j, j < rd_N T ∧ rx = nI (rd_P T j) ∧ ry = nI j)
theorem rd_idx (n : Nat) : nI (n + 1) - 1 = nI n := nI_pred n
section
variable {N : Nat} {P sh fl sg st : Nat → Nat} {pr kn : Nat → Option Nat}
variable {li gIt pa ab yN yk tm hIt py bl : Int32} {dO dP dS dF dG dR dA xB xR xK xU xH xF xG xT xc xo xl so ho xC ce xt va la gi gSk gOd gIo gSo gNa gSh gSr gMa gTi gCe yB yR yK yO yA yH yF yG yU yT yb yc yl yp yC yt yL ap ys hLi hOp hNa hSh hSr hTi hCe hRe : Nat → Int32} {nw : Int64} {xL : Nat → Int64}
theorem yq_115 {post : Int32 → SY → Prop} {f p l n ix : Nat} {x3 : Int32} (hp3 : p < 3) (hl : l < 5) (hn : n < 12) (h : wY_define_10 post (nI p) f x3 (nI ix + (-1)) yN yk tm hIt py bl dO dP dS dF dG dR dA yB yR (upd yK (12 * (5 * p + l) + n) x3) yO yA yH yF yG yU yT yb yc yl yp so yC yt ho ce yL va la gi ap ys hLi hOp hNa hSh hSr hTi hCe hRe) :
    wY_define_115 post (wY_define_10 post (nI p) f) (nI p) x3 (nI ix) (nI l) (nI n) yN yk tm hIt py bl dO dP dS dF dG dR dA yB yR yK yO yA yH yF yG yU yT yb yc yl yp so yC yt ho ce yL va la gi ap ys hLi hOp hNa hSh hSr hTi hCe hRe := by
  unfold wY_define_115
  rw [rd_plY, rd_cl (by omega)]
  exact ⟨rd_in (by omega), nm_e (nm_e h)⟩
theorem rd_dstep {p l n ix : Nat} {top : Option Nat} (hD : rd_DI (dO, dP, dS, dF, dG, dR, dA)) (hC : rd_CR (N, P, sh, fl, sg, st, pr, kn) (xB, xR, xK, xU, xH, xF, xG, xT) (yN, yB, yR, yK, yO, yA, yH, yF, yG, yU, yT)) (hp3 : p < 3) (hl : l < 5) (hn : n < 12) (hix : ix < 30)
    (hk : kn (12 * (5 * p + l) + n) = none) (htop : ∀ i, top = some i → i < N ∧ rd_up P (12 * (5 * p + l) + n) i) (e1 : yb ix = nI l) (e2 : yc ix = nI n) (e3 : yp ix = 0) :
    ((∀ post : Int32 → SX → Prop, post (-5) (li, nw, gIt, pa, ab, dO, dP, dS, dF, dG, dR, dA, xB, xR, xK, xU, xH, xF, xG, xT, xc, xo, xl, so, ho, xC, ce, xt, xL, va, la, gi, gSk, gOd, gIo, gSo, gNa, gSh, gSr, gMa, gTi, gCe) → wpX_define post (li, nw, gIt, pa, ab, dO, dP, dS, dF, dG, dR, dA, xB, xR, xK, xU, xH, xF, xG, xT, xc, xo, xl, so, ho, xC, ce, xt, xL, va, la, gi, gSk, gOd, gIo, gSo, gNa, gSh, gSr, gMa, gTi, gCe) (nI p) (nI l) (nI n) (rd_o (top.map P))) ∧ (∀ (post : Int32 → SY → Prop) (f : Nat), post (-5) (yN, yk, tm, hIt, py, bl, dO, dP, dS, dF, dG, dR, dA, yB, yR, yK, yO, yA, yH, yF, yG, yU, yT, yb, yc, yl, yp, so, yC, yt, ho, ce, yL, va, la, gi, ap, ys, hLi, hOp, hNa, hSh, hSr, hTi, hCe, hRe) → wY_define_10 post (nI p) (f + 1) (rd_o top) (nI ix) yN yk tm hIt py bl dO dP dS dF dG dR dA yB yR yK yO yA yH yF yG yU yT yb yc yl yp so yC yt ho ce yL va la gi ap ys hLi hOp hNa hSh hSr hTi hCe hRe) ∧ l < 4) ∨
    (∃ (s f g : Nat) (c1 : rt_CX) (c1' : rt_CY), rd_CR (N + 1, rd_u P N (12 * (5 * p + l) + n), rd_u sh N s, rd_u fl N f, rd_u sg N g, rd_u st N 0, rd_u pr N top, rd_u kn (12 * (5 * p + l) + n) (some N)) c1 c1' ∧
      (∀ post : Int32 → SX → Prop, post (nI (12 * (5 * p + l) + n)) (li, nw, gIt, pa, ab, dO, dP, dS, dF, dG, dR, dA, c1.1, c1.2.1, c1.2.2.1, c1.2.2.2.1, c1.2.2.2.2.1, c1.2.2.2.2.2.1, c1.2.2.2.2.2.2.1, c1.2.2.2.2.2.2.2, xc, xo, xl, so, ho, xC, ce, xt, xL, va, la, gi, gSk, gOd, gIo, gSo, gNa, gSh, gSr, gMa, gTi, gCe) → wpX_define post (li, nw, gIt, pa, ab, dO, dP, dS, dF, dG, dR, dA, xB, xR, xK, xU, xH, xF, xG, xT, xc, xo, xl, so, ho, xC, ce, xt, xL, va, la, gi, gSk, gOd, gIo, gSo, gNa, gSh, gSr, gMa, gTi, gCe) (nI p) (nI l) (nI n) (rd_o (top.map P))) ∧
      (∀ (post : Int32 → SY → Prop) (f : Nat), wY_define_10 post (nI p) f (nI N) (nI ix + (-1)) c1'.1 yk tm hIt py bl dO dP dS dF dG dR dA c1'.2.1 c1'.2.2.1 c1'.2.2.2.1 c1'.2.2.2.2.1 c1'.2.2.2.2.2.1 c1'.2.2.2.2.2.2.1 c1'.2.2.2.2.2.2.2.1 c1'.2.2.2.2.2.2.2.2.1 c1'.2.2.2.2.2.2.2.2.2.1 c1'.2.2.2.2.2.2.2.2.2.2 yb yc yl yp so yC yt ho ce yL va la gi ap ys hLi hOp hNa hSh hSr hTi hCe hRe → wY_define_10 post (nI p) (f + 1) (rd_o top) (nI ix) yN yk tm hIt py bl dO dP dS dF dG dR dA yB yR yK yO yA yH yF yG yU yT yb yc yl yp so yC yt ho ce yL va la gi ap ys hLi hOp hNa hSh hSr hTi hCe hRe)) := by
  obtain ⟨hI, hX, hY, hL⟩ := hC
  have hc : 12 * (5 * p + l) + n < 180 := by omega
  have hd := rd_sd_lt hp3 hl hn
  obtain ⟨_, ⟨s, hs, es⟩, ⟨f, hf, ef⟩, ⟨g, hg, eg⟩⟩ := hD.1 _ hd
  have hN := rd_NB hI hc hk
  have hq : ∀ j, top.map P = some j → j < 180 := fun j e => by
    cases top with
    | none => exact nomatch e
    | some i =>
      cases e
      exact (hI.1 i (htop i rfl).1).1
  have X41 : ∀ post : Int32 → SX → Prop, post (nI (12 * (5 * p + l) + n)) (li, nw, gIt, pa, ab, dO, dP, dS, dF, dG, dR, dA, xB, xR, upd xK (12 * (5 * p + l) + n) (nI (12 * (5 * p + l) + n)), upd xU (12 * (5 * p + l) + n) (rd_o (top.map P)), upd xH (12 * (5 * p + l) + n) (nI s), upd xF (12 * (5 * p + l) + n) (nI f), upd xG (12 * (5 * p + l) + n) (nI g), upd xT (12 * (5 * p + l) + n) 0, xc, xo, xl, so, ho, xC, ce, xt, xL, va, la, gi, gSk, gOd, gIo, gSo, gNa, gSh, gSr, gMa, gTi, gCe) → wX_define_41 post (rd_o (top.map P)) (nI (12 * rd_sd p l + n)) (nI (12 * (5 * p + l) + n)) li nw gIt pa ab dO dP dS dF dG dR dA xB xR xK xU xH xF xG xT xc xo xl so ho xC ce xt xL va la gi gSk gOd gIo gSo gNa gSh gSr gMa gTi gCe :=
    fun post hp => xq_def41 hd hc hq es hs ef hf eg hg hp
  have Y93 : ∀ (post : Int32 → SY → Prop) (F : Nat), wY_define_10 post (nI p) F (nI N) (nI ix + (-1)) (nI (N + 1)) yk tm hIt py bl dO dP dS dF dG dR dA yB yR (upd yK (12 * (5 * p + l) + n) (nI N)) (upd yO N (nI (5 * p + l))) (upd yA N (nI n)) (upd yH N (nI s)) (upd yF N (nI f)) (upd yG N (nI g)) (upd yU N (rd_o top)) (upd yT N 0) yb yc yl yp so yC yt ho ce yL va la gi ap ys hLi hOp hNa hSh hSr hTi hCe hRe → wY_define_93 post (wY_define_10 post (nI p) F) (nI p) (rd_o top) (nI ix) (nI l) (nI n) (nI (12 * rd_sd p l + n)) yN yk tm hIt py bl dO dP dS dF dG dR dA yB yR yK yO yA yH yF yG yU yT yb yc yl yp so yC yt ho ce yL va la gi ap ys hLi hOp hNa hSh hSr hTi hCe hRe := by
    intro post F hW
    unfold wY_define_93
    rw [rd_m5, nI_add]
    refine yq_born hN hY.1 hd es ef eg ?_
    refine nm_r (nI_pred N) ?_
    exact yq_115 hp3 hl hn hW
  have Y10 : ∀ (post : Int32 → SY → Prop) (F : Nat), wY_define_59 post (wY_define_10 post (nI p) F) (nI p) (rd_o top) (nI ix) (nI l) (nI n) (nI (rd_sd p l)) 12 yN yk tm hIt py bl dO dP dS dF dG dR dA yB yR yK yO yA yH yF yG yU yT yb yc yl yp so yC yt ho ce yL va la gi ap ys hLi hOp hNa hSh hSr hTi hCe hRe → wY_define_10 post (nI p) (F + 1) (rd_o top) (nI ix) yN yk tm hIt py bl dO dP dS dF dG dR dA yB yR yK yO yA yH yF yG yU yT yb yc yl yp so yC yt ho ce yL va la gi ap ys hLi hOp hNa hSh hSr hTi hCe hRe := by
    intro post F hW
    have ei : (nI ix).toNatClampNeg = ix := rd_cl (by omega)
    refine br_f (nI_pos (by omega)) ⟨rd_in hix, nm_r (by rw [ei, e1]) ⟨rd_in hix, nm_r (by rw [ei, e2]) ⟨rd_in hix, br_t (by rw [ei, e3]) ?_⟩⟩⟩
    unfold rd_sd at hW
    by_cases h4 : l = 4
    · rw [if_pos h4] at hW
      refine br_t (by rw [h4]; exact Int32.le_refl _) ?_
      rw [rd_4a]; exact hW
    · rw [if_neg h4] at hW
      exact br_f (nI_ge (b := 4) (by omega) (by omega)) hW
  have CR' : rd_CR (N + 1, rd_u P N (12 * (5 * p + l) + n), rd_u sh N s, rd_u fl N f, rd_u sg N g, rd_u st N 0, rd_u pr N top, rd_u kn (12 * (5 * p + l) + n) (some N)) (xB, xR, upd xK (12 * (5 * p + l) + n) (nI (12 * (5 * p + l) + n)), upd xU (12 * (5 * p + l) + n) (rd_o (top.map P)), upd xH (12 * (5 * p + l) + n) (nI s), upd xF (12 * (5 * p + l) + n) (nI f), upd xG (12 * (5 * p + l) + n) (nI g), upd xT (12 * (5 * p + l) + n) 0) (nI (N + 1), yB, yR, upd yK (12 * (5 * p + l) + n) (nI N), upd yO N (nI (5 * p + l)), upd yA N (nI n), upd yH N (nI s), upd yF N (nI f), upd yG N (nI g), upd yU N (rd_o top), upd yT N 0) := by
    refine ⟨rd_birthI hI hc hk hs hf hg htop, rd_birthX hI hk htop hX, ?_, hL⟩
    have := rd_birthY (s := s) (f := f) (g := g) (par := top) hI hc hk hY
    rw [show (12 * (5 * p + l) + n) / 12 = 5 * p + l by omega, show (12 * (5 * p + l) + n) % 12 = n by omega] at this
    exact this
  have e59 : 12 * nI (rd_sd p l) + nI n = nI (12 * rd_sd p l + n) := by rw [rd_m12, nI_add]
  have eG : dG (nI (12 * rd_sd p l + n)).toNatClampNeg = nI g := by rw [rd_cl (by omega), eg]
  by_cases h4 : l = 4
  · refine Or.inr ⟨s, f, g, _, _, CR', fun post hp => ?_, fun post F hW => Y10 post F (nm_r e59 (br_t (by rw [h4]; exact Int32.le_refl _) (Y93 post F hW)))⟩
    unfold wpX_define
    dsimp only
    refine xq_source hl ?_
    refine xq_place ?_
    exact br_t (by rw [h4]; rfl) (X41 post hp)
  · have n4 : ¬ nI l = 4 := fun z => h4 ((nI_eq (b := 4) (by omega) (by omega)).mp z)
    have g4 : ¬ 4 ≤ nI l := nI_ge (b := 4) (by omega) (by omega)
    by_cases cl : rd_cls N P sg (5 * p + l) n g
    · refine Or.inl ⟨fun post hp => ?_, fun post F hp => Y10 post F (nm_r e59 (br_f g4 ⟨rd_in hd, ?_⟩)), by omega⟩
      · unfold wpX_define
        dsimp only
        refine xq_source hl ?_
        refine xq_place ?_
        refine br_f n4 ⟨rd_in hd, ?_⟩
        rw [eG]
        exact xq_foreign hI hX hp3 hl hn hg (fun _ => br_f (by decide) hp) (fun z => absurd cl z)
      · rw [eG]
        exact yq_clash hI hY hp3 hl hn hg (fun _ => br_f (by decide) hp) (fun z => absurd cl z)
    · refine Or.inr ⟨s, f, g, _, _, CR', fun post hp => ?_, fun post F hW => Y10 post F (nm_r e59 (br_f g4 ⟨rd_in hd, ?_⟩))⟩
      · unfold wpX_define
        dsimp only
        refine xq_source hl ?_
        refine xq_place ?_
        refine br_f n4 ⟨rd_in hd, ?_⟩
        rw [eG]
        exact xq_foreign hI hX hp3 hl hn hg (fun z => absurd z cl) (fun _ => br_t rfl (X41 post hp))
      · rw [eG]
        exact yq_clash hI hY hp3 hl hn hg (fun z => absurd z cl) (fun _ => br_t rfl (Y93 post F hW))
end
section
variable {p b l : Nat} {nm : Nat → Nat}
variable {li gIt pa ab yN yk tm hIt py bl : Int32} {dO dP dS dF dG dR dA xB xR xK xU xH xF xG xT xc xo xl so ho xC ce xt va la gi gSk gOd gIo gSo gNa gSh gSr gMa gTi gCe yB yR yK yO yA yH yF yG yU yT yb yc yl yp yC yt yL ap ys hLi hOp hNa hSh hSr hTi hCe hRe : Nat → Int32} {nw : Int64} {xL : Nat → Int64}
/-- the own loader's chain -/
theorem rd_odef (hD : rd_DI (dO, dP, dS, dF, dG, dR, dA)) (hp3 : p < 3) : ∀ (n N : Nat) (P sh fl sg st : Nat → Nat) (pr kn : Nat → Option Nat) (c : rt_CX) (c' : rt_CY) (top : Option Nat), rd_CR (N, P, sh, fl, sg, st, pr, kn) c c' → n ≤ 12 → b + n ≤ 30 →
    (∀ i, i < n → xo i = nI (nm i) ∧ nm i < 12 ∧ kn (12 * (5 * p + 4) + nm i) = none ∧ yb (b + i) = 4 ∧ yc (b + i) = nI (nm i) ∧ yp (b + i) = 0) → (∀ i j, i < j → j < n → nm i ≠ nm j) →
    (∀ i, top = some i → i < N ∧ P i / 60 = p ∧ P i / 12 % 5 = 4) → (n = 0 → top ≠ none) →
    ∃ (T' : rt_T) (c1 : rt_CX) (c1' : rt_CY) (j : Nat), rd_CR T' c1 c1' ∧ rd_TE (N, P, sh, fl, sg, st, pr, kn) T' ∧ j < rd_N T' ∧ rd_P T' j / 60 = p ∧ rd_P T' j / 12 % 5 = 4 ∧ (∀ k, k < 180 → ¬ k / 12 = 5 * p + 4 → rd_kn T' k = kn k) ∧
      (∀ post : Int32 → SX → Prop, post (nI (rd_P T' j)) (li, nw, gIt, pa, ab, dO, dP, dS, dF, dG, dR, dA, c1.1, c1.2.1, c1.2.2.1, c1.2.2.2.1, c1.2.2.2.2.1, c1.2.2.2.2.2.1, c1.2.2.2.2.2.2.1, c1.2.2.2.2.2.2.2, xc, xo, xl, so, ho, xC, ce, xt, xL, va, la, gi, gSk, gOd, gIo, gSo, gNa, gSh, gSr, gMa, gTi, gCe) → ∃ f, wX_loadOwn_129 post (nI p) f (nI n) (rd_o (top.map P)) li nw gIt pa ab dO dP dS dF dG dR dA c.1 c.2.1 c.2.2.1 c.2.2.2.1 c.2.2.2.2.1 c.2.2.2.2.2.1 c.2.2.2.2.2.2.1 c.2.2.2.2.2.2.2 xc xo xl so ho xC ce xt xL va la gi gSk gOd gIo gSo gNa gSh gSr gMa gTi gCe) ∧
      (∀ post : Int32 → SY → Prop, (∃ f, wY_define_10 post (nI p) f (nI j) (nI b - 1) c1'.1 yk tm hIt py bl dO dP dS dF dG dR dA c1'.2.1 c1'.2.2.1 c1'.2.2.2.1 c1'.2.2.2.2.1 c1'.2.2.2.2.2.1 c1'.2.2.2.2.2.2.1 c1'.2.2.2.2.2.2.2.1 c1'.2.2.2.2.2.2.2.2.1 c1'.2.2.2.2.2.2.2.2.2.1 c1'.2.2.2.2.2.2.2.2.2.2 yb yc yl yp so yC yt ho ce yL va la gi ap ys hLi hOp hNa hSh hSr hTi hCe hRe) → ∃ f, wY_define_10 post (nI p) f (rd_o top) (nI (b + n) - 1) c'.1 yk tm hIt py bl dO dP dS dF dG dR dA c'.2.1 c'.2.2.1 c'.2.2.2.1 c'.2.2.2.2.1 c'.2.2.2.2.2.1 c'.2.2.2.2.2.2.1 c'.2.2.2.2.2.2.2.1 c'.2.2.2.2.2.2.2.2.1 c'.2.2.2.2.2.2.2.2.2.1 c'.2.2.2.2.2.2.2.2.2.2 yb yc yl yp so yC yt ho ce yL va la gi ap ys hLi hOp hNa hSh hSr hTi hCe hRe) := by
  intro n
  induction n with
  | zero =>
    intro N P sh fl sg st pr kn c c' top hC _ _ _ _ ht h0
    cases top with
    | none => exact absurd rfl (h0 rfl)
    | some j =>
      obtain ⟨t1, t2, t3⟩ := ht j rfl
      exact ⟨_, c, c', j, hC, rd_TE_rfl _, t1, t2, t3, fun _ _ _ => rfl, fun post hp => ⟨1, br_t (Int32.le_refl _) hp⟩, fun post h => h⟩
  | succ n ih =>
    intro N P sh fl sg st pr kn c c' top hC hn12 hb hent hdist ht _
    obtain ⟨xB, xR, xK, xU, xH, xF, xG, xT⟩ := c
    obtain ⟨yN, yB, yR, yK, yO, yA, yH, yF, yG, yU, yT⟩ := c'
    obtain ⟨a1, a2, a3, a4, a5, a6⟩ := hent n (Nat.lt_succ_self n)
    rcases rd_dstep (l := 4) (n := nm n) (ix := b + n) (top := top) hD hC hp3 (by omega) a2 (by omega) a3 (fun i e => ⟨(ht i e).1, by unfold rd_up; have := ht i e; omega⟩) a4 a5 a6 with ⟨_, _, z⟩ | ⟨s, f, g, c1, c1', hC1, X1, Y1⟩
    · omega
    · obtain ⟨T', c2, c2', j, hC2, hE, r1, r2, r3, r4, X2, Y2⟩ := ih _ _ _ _ _ _ _ _ c1 c1' (some N) hC1 (by omega) (by omega) (fun i hi => by
          obtain ⟨b1, b2, b3, b4, b5, b6⟩ := hent i (by omega)
          have := hdist i n hi (Nat.lt_succ_self n)
          exact ⟨b1, b2, by rw [rd_un (by omega)]; exact b3, b4, b5, b6⟩) (fun i j hi hj => hdist i j hi (by omega)) (fun i e => by
          cases e
          rw [rd_us]
          exact ⟨by omega, by omega, by omega⟩) (fun _ z => nomatch z)
      refine ⟨T', c2, c2', j, hC2, rd_TE_tr rd_birthE hE, r1, r2, r3, fun k hk hk2 => (r4 k hk hk2).trans (rd_un (by omega)), fun post hp => ?_, fun post h => ?_⟩
      · obtain ⟨F, hF⟩ := X2 post hp
        rw [show (some N : Option Nat).map (rd_u P N (12 * (5 * p + 4) + nm n)) = some (12 * (5 * p + 4) + nm n) from congrArg some rd_us] at hF
        refine ⟨F + 1, br_f (nI_nle (by omega) (by omega)) (nm_r (pk_m1 n) ⟨rd_in (by omega), ?_⟩)⟩
        rw [rd_cl (by omega), a1]
        exact X1 _ hF
      · obtain ⟨F, hF⟩ := Y2 post h
        refine ⟨F + 1, ?_⟩
        rw [show b + (n + 1) = (b + n) + 1 from rfl, rd_idx]
        refine Y1 post F ?_
        have e : nI (b + n) + (-1) = nI (b + n) - 1 := by rw [Int32.sub_eq_add_neg]
        rw [e]
        exact hF
/-- a codebase's chain -/
theorem rd_cdef (hD : rd_DI (dO, dP, dS, dF, dG, dR, dA)) (hp3 : p < 3) (hl : l < 4) : ∀ (n N : Nat) (P sh fl sg st : Nat → Nat) (pr kn : Nat → Option Nat) (c : rt_CX) (c' : rt_CY) (top : Option Nat), rd_CR (N, P, sh, fl, sg, st, pr, kn) c c' → n ≤ 12 →
    (∀ i, i < n → xc i = nI (nm i) ∧ nm i < 12 ∧ kn (12 * (5 * p + l) + nm i) = none ∧ yb i = nI l ∧ yc i = nI (nm i) ∧ yp i = 0) → (∀ i j, i < j → j < n → nm i ≠ nm j) →
    (∀ i, top = some i → i < N ∧ P i / 60 = p ∧ (P i / 12 % 5 = l ∨ P i / 12 % 5 = 4)) → (n = 0 → top ≠ none) →
    ∃ (T' : rt_T) (c1 : rt_CX) (c1' : rt_CY) (rx ry : Int32), rd_CR T' c1 c1' ∧ rd_TE (N, P, sh, fl, sg, st, pr, kn) T' ∧ rd_RR T' rx ry ∧
      (∀ post : Int32 → SX → Prop, post rx (li, nw, gIt, pa, ab, dO, dP, dS, dF, dG, dR, dA, c1.1, c1.2.1, c1.2.2.1, c1.2.2.2.1, c1.2.2.2.2.1, c1.2.2.2.2.2.1, c1.2.2.2.2.2.2.1, c1.2.2.2.2.2.2.2, xc, xo, xl, so, ho, xC, ce, xt, xL, va, la, gi, gSk, gOd, gIo, gSo, gNa, gSh, gSr, gMa, gTi, gCe) → ∃ f, wX_load_143 post (nI p) (nI l) f (nI n) (rd_o (top.map P)) li nw gIt pa ab dO dP dS dF dG dR dA c.1 c.2.1 c.2.2.1 c.2.2.2.1 c.2.2.2.2.1 c.2.2.2.2.2.1 c.2.2.2.2.2.2.1 c.2.2.2.2.2.2.2 xc xo xl so ho xC ce xt xL va la gi gSk gOd gIo gSo gNa gSh gSr gMa gTi gCe) ∧
      (∀ post : Int32 → SY → Prop, post ry (c1'.1, yk, tm, hIt, py, bl, dO, dP, dS, dF, dG, dR, dA, c1'.2.1, c1'.2.2.1, c1'.2.2.2.1, c1'.2.2.2.2.1, c1'.2.2.2.2.2.1, c1'.2.2.2.2.2.2.1, c1'.2.2.2.2.2.2.2.1, c1'.2.2.2.2.2.2.2.2.1, c1'.2.2.2.2.2.2.2.2.2.1, c1'.2.2.2.2.2.2.2.2.2.2, yb, yc, yl, yp, so, yC, yt, ho, ce, yL, va, la, gi, ap, ys, hLi, hOp, hNa, hSh, hSr, hTi, hCe, hRe) → ∃ f, wY_define_10 post (nI p) f (rd_o top) (nI n - 1) c'.1 yk tm hIt py bl dO dP dS dF dG dR dA c'.2.1 c'.2.2.1 c'.2.2.2.1 c'.2.2.2.2.1 c'.2.2.2.2.2.1 c'.2.2.2.2.2.2.1 c'.2.2.2.2.2.2.2.1 c'.2.2.2.2.2.2.2.2.1 c'.2.2.2.2.2.2.2.2.2.1 c'.2.2.2.2.2.2.2.2.2.2 yb yc yl yp so yC yt ho ce yL va la gi ap ys hLi hOp hNa hSh hSr hTi hCe hRe) := by
  intro n
  induction n with
  | zero =>
    intro N P sh fl sg st pr kn c c' top hC _ _ _ ht h0
    cases top with
    | none => exact absurd rfl (h0 rfl)
    | some j =>
      obtain ⟨t1, t2, t3⟩ := ht j rfl
      exact ⟨_, c, c', nI (P j), nI j, hC, rd_TE_rfl _, Or.inr ⟨j, t1, rfl, rfl⟩, fun post hp => ⟨1, br_t (Int32.le_refl _) hp⟩, fun post hp => ⟨1, br_t (by decide) hp⟩⟩
  | succ n ih =>
    intro N P sh fl sg st pr kn c c' top hC hn12 hent hdist ht _
    obtain ⟨xB, xR, xK, xU, xH, xF, xG, xT⟩ := c
    obtain ⟨yN, yB, yR, yK, yO, yA, yH, yF, yG, yU, yT⟩ := c'
    obtain ⟨a1, a2, a3, a4, a5, a6⟩ := hent n (Nat.lt_succ_self n)
    have hx3 : ∀ post F, (wpX_define (fun r_59 u => match u with | (li, nw, gIt, pa, ab, dO, dP, dS, dF, dG, dR, dA, xB, xR, xK, xU, xH, xF, xG, xT, xc, xo, xl, so, ho, xC, ce, xt, xL, va, la, gi, gSk, gOd, gIo, gSo, gNa, gSh, gSr, gMa, gTi, gCe) => (((0 ≤ r_59 → (wX_load_143 post (nI p) (nI l) F (nI n) r_59 li nw gIt pa ab dO dP dS dF dG dR dA xB xR xK xU xH xF xG xT xc xo xl so ho xC ce xt xL va la gi gSk gOd gIo gSo gNa gSh gSr gMa gTi gCe)) ∧ (¬ 0 ≤ r_59 → (post r_59 (li, nw, gIt, pa, ab, dO, dP, dS, dF, dG, dR, dA, xB, xR, xK, xU, xH, xF, xG, xT, xc, xo, xl, so, ho, xC, ce, xt, xL, va, la, gi, gSk, gOd, gIo, gSo, gNa, gSh, gSr, gMa, gTi, gCe)))))) (li, nw, gIt, pa, ab, dO, dP, dS, dF, dG, dR, dA, xB, xR, xK, xU, xH, xF, xG, xT, xc, xo, xl, so, ho, xC, ce, xt, xL, va, la, gi, gSk, gOd, gIo, gSo, gNa, gSh, gSr, gMa, gTi, gCe) (nI p) (nI l) (nI (nm n)) (rd_o (top.map P))) → wX_load_143 post (nI p) (nI l) (F + 1) (nI (n + 1)) (rd_o (top.map P)) li nw gIt pa ab dO dP dS dF dG dR dA xB xR xK xU xH xF xG xT xc xo xl so ho xC ce xt xL va la gi gSk gOd gIo gSo gNa gSh gSr gMa gTi gCe := by
      intro post F h
      refine br_f (nI_nle (by omega) (by omega)) (nm_r (pk_m1 n) ⟨rd_in (by omega), ?_⟩)
      rw [rd_cl (by omega), a1]
      exact h
    rcases rd_dstep (l := l) (n := nm n) (ix := n) (top := top) hD hC hp3 (by omega) a2 (by omega) a3 (fun i e => ⟨(ht i e).1, by unfold rd_up; have := ht i e; omega⟩) a4 a5 a6 with ⟨X1, Y1, _⟩ | ⟨s, f, g, c1, c1', hC1, X1, Y1⟩
    · refine ⟨_, _, _, -5, -5, hC, rd_TE_rfl _, Or.inl ⟨5, by omega, by omega, rfl, rfl⟩, fun post hp => ⟨1, hx3 post 0 (X1 _ (br_f (by decide) hp))⟩, fun post hp => ⟨1, ?_⟩⟩
      rw [rd_idx]
      exact Y1 post 0 hp
    · obtain ⟨T', c2, c2', rx, ry, hC2, hE, hR, X2, Y2⟩ := ih _ _ _ _ _ _ _ _ c1 c1' (some N) hC1 (by omega) (fun i hi => by
          obtain ⟨b1, b2, b3, b4, b5, b6⟩ := hent i (by omega)
          have := hdist i n hi (Nat.lt_succ_self n)
          exact ⟨b1, b2, by rw [rd_un (by omega)]; exact b3, b4, b5, b6⟩) (fun i j hi hj => hdist i j hi (by omega)) (fun i e => by
          cases e
          rw [rd_us]
          exact ⟨by omega, by omega, by omega⟩) (fun _ z => nomatch z)
      refine ⟨T', c2, c2', rx, ry, hC2, rd_TE_tr rd_birthE hE, hR, fun post hp => ?_, fun post hp => ?_⟩
      · obtain ⟨F, hF⟩ := X2 post hp
        rw [show (some N : Option Nat).map (rd_u P N (12 * (5 * p + l) + nm n)) = some (12 * (5 * p + l) + nm n) from congrArg some rd_us] at hF
        exact ⟨F + 1, hx3 post F (X1 _ (br_t (nI_pos' (by omega)) hF))⟩
      · obtain ⟨F, hF⟩ := Y2 post hp
        refine ⟨F + 1, ?_⟩
        rw [rd_idx]
        refine Y1 post F ?_
        have e : nI n + (-1) = nI n - 1 := by rw [Int32.sub_eq_add_neg]
        rw [e]
        exact hF
end
end
section
/-! loading by the own loader: X's loadOwn against Y's walk with loader 4 -/
theorem rd_neg : ∀ e, 1 ≤ e → e ≤ 5 → ¬ -nI e = 1000 ∧ ¬ -nI e = 1001 ∧ ¬ 0 ≤ -nI e ∧ -nI e < 0 := by
  intro e h1 h2
  have : e = 1 ∨ e = 2 ∨ e = 3 ∨ e = 4 ∨ e = 5 := by omega
  rcases this with rfl | rfl | rfl | rfl | rfl <;> decide
theorem rd_k0 {j : Nat} (h : j < 180) : ¬ nI j = 1000 ∧ ¬ nI j = 1001 ∧ 0 ≤ nI j ∧ ¬ nI j < 0 :=
  ⟨fun z => absurd ((nI_eq (b := 1000) (by omega) (by omega)).mp z) (by omega), fun z => absurd ((nI_eq (b := 1001) (by omega) (by omega)).mp z) (by omega), nI_pos' (by omega), nI_pos (by omega)⟩
def rd_oa (m : Option Nat) (x : Nat) : Int32 := match m with
  | none => nI x
  | some a => nI a
def rd_ob (m : Option Nat) : Int32 := match m with
  | none => 0
  | some _ => 1
def rd_mem (nm : Nat → Nat) (a : Nat) : Nat → Bool
  | 0 => false
  | n + 1 => rd_mem nm a n || decide (nm n = a)
theorem rd_mem_iff (nm : Nat → Nat) (a : Nat) : ∀ n, rd_mem nm a n = true ↔ ∃ i, i < n ∧ nm i = a := by
  intro n
  induction n with
  | zero => exact ⟨fun z => (nomatch z), fun ⟨i, hi, _⟩ => by omega⟩
  | succ n ih =>
    show (rd_mem nm a n || decide (nm n = a)) = true ↔ _
    rw [Bool.or_eq_true, ih, decide_eq_true_iff]
    constructor
    · rintro (⟨i, hi, e⟩ | e)
      · exact ⟨i, by omega, e⟩
      · exact ⟨n, by omega, e⟩
    · rintro ⟨i, hi, e⟩
      by_cases c : i = n
      · subst c; exact Or.inr e
      · exact Or.inl ⟨i, by omega, e⟩
def rd_cv (nm : Nat → Nat) (a n : Nat) (x : Int32) : Int32 := if rd_mem nm a n = true then -4 else x
theorem rd_cv_s1 {nm : Nat → Nat} {a j : Nat} {x : Int32} (h : nm j = a) : rd_cv nm a (j + 1) x = -4 := if_pos ((rd_mem_iff nm a _).mpr ⟨j, by omega, h⟩)
theorem rd_cv_s0 {nm : Nat → Nat} {a j : Nat} {x : Int32} (h : ¬ nm j = a) : rd_cv nm a (j + 1) x = rd_cv nm a j x := by
  unfold rd_cv
  have : rd_mem nm a (j + 1) = rd_mem nm a j := by
    show (rd_mem nm a j || decide (nm j = a)) = _
    rw [decide_eq_false h, Bool.or_false]
  rw [this]
section
variable {N p : Nat} {P sh fl sg st : Nat → Nat} {pr kn : Nat → Option Nat} {nm : Nat → Nat}
variable {li gIt pa ab yN yk tm hIt py bl : Int32} {dO dP dS dF dG dR dA xB xR xK xU xH xF xG xT xc xo xl so ho xC ce xt va la gi gSk gOd gIo gSo gNa gSh gSr gMa gTi gCe yB yR yK yO yA yH yF yG yU yT yb yc yl yp yC yt yL ap ys hLi hOp hNa hSh hSr hTi hCe hRe : Nat → Int32} {nw : Int64} {xL : Nat → Int64}
theorem xq_c64 {post : Int32 → SX → Prop} {J} {n a : Nat} {x5 : Int32} (hn : n ≤ 12) (hent : ∀ i, i < n → xo i = nI (nm i) ∧ nm i < 12) (ha : a < 12) (h : wX_loadOwn_97 post J (nI p) (nI n) (nI a) (rd_cv nm a n x5) li nw gIt pa ab dO dP dS dF dG dR dA xB xR xK xU xH xF xG xT xc xo xl so ho xC ce xt xL va la gi gSk gOd gIo gSo gNa gSh gSr gMa gTi gCe) :
    ∃ f, wX_loadOwn_64 post J (nI p) (nI n) (nI a) li nw gIt pa ab dO dP dS dF dG dR dA xB xR xK xU xH xF xG xT xc xo xl so ho xC ce xt xL va la gi gSk gOd gIo gSo gNa gSh gSr gMa gTi gCe f x5 0 := by
  refine rd_run (fun f j => wX_loadOwn_64 post J (nI p) (nI n) (nI a) li nw gIt pa ab dO dP dS dF dG dR dA xB xR xK xU xH xF xG xT xc xo xl so ho xC ce xt xL va la gi gSk gOd gIo gSo gNa gSh gSr gMa gTi gCe f (rd_cv nm a j x5) (nI j)) (i := 0) (k := n) (Nat.zero_le _) ⟨1, br_t (Int32.le_refl _) h⟩ (fun f j _ hj W => ?_)
  refine br_f (nI_ge hj (by omega)) (br_f (nI_pos (by omega)) ⟨rd_in (by omega), ?_⟩)
  obtain ⟨e1, e2⟩ := hent j hj
  rw [rd_cl (by omega), e1]
  by_cases c : nm j = a
  · rw [rd_cv_s1 c] at W
    exact br_t (by rw [c]) (nm_r (nI_1 j) W)
  · rw [rd_cv_s0 c] at W
    exact br_f (fun z => c ((nI_eq (by omega) (by omega)).mp z)) (nm_r (nI_1 j) W)
theorem yq_isL {post : Int32 → Prop} {L l a : Nat} (hL : L ≤ 30) (h1 : (∃ k, k < L ∧ yb k = nI l ∧ yc k = nI a ∧ yp k = 0) → post 1) (h0 : ¬ (∃ k, k < L ∧ yb k = nI l ∧ yc k = nI a ∧ yp k = 0) → post 0) : wpY_isLoading post (yN, nI L, tm, hIt, py, bl, dO, dP, dS, dF, dG, dR, dA, yB, yR, yK, yO, yA, yH, yF, yG, yU, yT, yb, yc, yl, yp, so, yC, yt, ho, ce, yL, va, la, gi, ap, ys, hLi, hOp, hNa, hSh, hSr, hTi, hCe, hRe) (nI l) (nI a) := by
  obtain ⟨k, k1, k2, k3, k4⟩ := rd_first (fun k => yb k = nI l ∧ yc k = nI a ∧ yp k = 0) 0 L (Nat.zero_le _)
  refine rd_run (fun f j => wY_isLoading_2 post (nI l) (nI a) yN (nI L) tm hIt py bl dO dP dS dF dG dR dA yB yR yK yO yA yH yF yG yU yT yb yc yl yp so yC yt ho ce yL va la gi ap ys hLi hOp hNa hSh hSr hTi hCe hRe f (nI j)) (i := 0) (k := k) k1 ⟨1, ?_⟩ (fun f j hj1 hj2 W => ?_)
  · by_cases e : k = L
    · subst e
      exact br_t (Int32.le_refl _) (h0 (fun ⟨i, hi, e⟩ => k3 i (Nat.zero_le _) hi e))
    · obtain ⟨q1, q2, q3⟩ := k4.resolve_left e
      refine br_f (nI_ge (by omega) (by omega)) ?_
      rw [rd_cl (by omega)]
      exact ⟨rd_in (by omega), br_t q1 ⟨rd_in (by omega), br_t q2 ⟨rd_in (by omega), br_t q3 (h1 ⟨k, by omega, q1, q2, q3⟩)⟩⟩⟩
  · refine br_f (nI_ge (by omega) (by omega)) ?_
    rw [rd_cl (by omega)]
    refine ⟨rd_in (by omega), ?_⟩
    by_cases q1 : yb j = nI l
    · refine br_t q1 ⟨rd_in (by omega), ?_⟩
      by_cases q2 : yc j = nI a
      · refine br_t q2 ⟨rd_in (by omega), br_f (fun q3 => k3 j hj1 hj2 ⟨q1, q2, q3⟩) (nm_r (nI_1 j) W)⟩
      · exact br_f q2 (nm_r (nI_1 j) W)
    · exact br_f q1 (nm_r (nI_1 j) W)
theorem yq_push {post : SY → Prop} {L l a z : Nat} (hL : L < 30) (hz : z < 2) (h : post (yN, nI (L + 1), tm, hIt, py, bl, dO, dP, dS, dF, dG, dR, dA, yB, yR, yK, yO, yA, yH, yF, yG, yU, yT, upd yb L (nI l), upd yc L (nI a), yl, upd yp L (nI z), so, yC, yt, ho, ce, yL, va, la, gi, ap, ys, hLi, hOp, hNa, hSh, hSr, hTi, hCe, hRe)) : wpY_push post (yN, nI L, tm, hIt, py, bl, dO, dP, dS, dF, dG, dR, dA, yB, yR, yK, yO, yA, yH, yF, yG, yU, yT, yb, yc, yl, yp, so, yC, yt, ho, ce, yL, va, la, gi, ap, ys, hLi, hOp, hNa, hSh, hSr, hTi, hCe, hRe) (nI l) (nI a) (nI z) := by
  unfold wpY_push
  dsimp only
  have ez : vp_nar .boolean (nI z) = nI z := by
    have : z = 0 ∨ z = 1 := by omega
    rcases this with rfl | rfl <;> rfl
  rw [rd_cl (by omega), nI_1, ez]
  exact ⟨rd_in hL, nm_e ⟨rd_in hL, nm_e ⟨rd_in hL, nm_e (nm_e h)⟩⟩⟩
theorem yq_230 {post : Int32 → SY → Prop} {L : Nat} {x6 : Int32} (h : ∃ f, wY_define_10 post (nI p) f x6 (nI L - 1) yN (nI L) tm hIt py bl dO dP dS dF dG dR dA yB yR yK yO yA yH yF yG yU yT yb yc yl yp so yC yt ho ce yL va la gi ap ys hLi hOp hNa hSh hSr hTi hCe hRe) : wY_load_230 post (nI p) x6 yN (nI L) tm hIt py bl dO dP dS dF dG dR dA yB yR yK yO yA yH yF yG yU yT yb yc yl yp so yC yt ho ce yL va la gi ap ys hLi hOp hNa hSh hSr hTi hCe hRe := by
  unfold wY_load_230 wpY_define
  dsimp only
  refine nm_e ?_
  obtain ⟨f, hf⟩ := h
  exact ⟨f, hf⟩
/-- Y's round up to what is known -/
theorem yq_17 {post : Int32 → SY → Prop} {l at_ f : Nat} {x6 : Int32} (hp3 : p < 3) (hl : l < 5) (h : wY_load_46 post (wY_load_17 post (nI p) f) (nI p) (nI l) (nI at_) 1 (nI (5 * p + l)) (nI (rd_sd p l)) 12 yN yk tm hIt py bl dO dP dS dF dG dR dA yB yR yK yO yA yH yF yG yU yT yb yc yl yp so yC yt ho ce yL va la gi ap ys hLi hOp hNa hSh hSr hTi hCe hRe) : wY_load_17 post (nI p) (f + 1) (nI l) (nI at_) x6 1 yN yk tm hIt py bl dO dP dS dF dG dR dA yB yR yK yO yA yH yF yG yU yT yb yc yl yp so yC yt ho ce yL va la gi ap ys hLi hOp hNa hSh hSr hTi hCe hRe := by
  refine br_f (by decide) ?_
  rw [rd_m5, nI_add]
  refine nm_e ?_
  unfold rd_sd at h
  by_cases h4 : l = 4
  · rw [if_pos h4] at h
    rw [rd_4a]
    exact br_t (by rw [h4]; exact Int32.le_refl _) h
  · rw [if_neg h4] at h
    exact br_f (nI_ge (b := 4) (by omega) (by omega)) h
theorem yq_46k {post : Int32 → SY → Prop} {J} {l at_ j L : Nat} {x7 : Int32} (hY : rd_TY (N, P, sh, fl, sg, st, pr, kn) (yN, yB, yR, yK, yO, yA, yH, yF, yG, yU, yT)) (hp3 : p < 3) (hl : l < 5) (ha : at_ < 12) (hj : j < 180) (ek : kn (12 * (5 * p + l) + at_) = some j)
    (h : ∃ f, wY_define_10 post (nI p) f (nI j) (nI L - 1) yN (nI L) tm hIt py bl dO dP dS dF dG dR dA yB yR yK yO yA yH yF yG yU yT yb yc yl yp so yC yt ho ce yL va la gi ap ys hLi hOp hNa hSh hSr hTi hCe hRe) : wY_load_46 post J (nI p) (nI l) (nI at_) x7 (nI (5 * p + l)) (nI (rd_sd p l)) 12 yN (nI L) tm hIt py bl dO dP dS dF dG dR dA yB yR yK yO yA yH yF yG yU yT yb yc yl yp so yC yt ho ce yL va la gi ap ys hLi hOp hNa hSh hSr hTi hCe hRe := by
  unfold wY_load_46
  rw [rd_m12, nI_add]
  refine nm_e ?_
  rw [rd_m12, nI_add, rd_cl (by omega), hY.2.1 _ (by omega), ek]
  exact ⟨rd_in (by omega), nm_e (br_f (nI_pos (by omega)) (yq_230 h))⟩
theorem yq_46o {post : Int32 → SY → Prop} {J} {at_ L : Nat} {x7 : Int32} (hY : rd_TY (N, P, sh, fl, sg, st, pr, kn) (yN, yB, yR, yK, yO, yA, yH, yF, yG, yU, yT)) (hp3 : p < 3) (ha : at_ < 12) (ek : kn (12 * (5 * p + 4) + at_) = none)
    (h : wY_load_167 post J (nI p) 4 (nI at_) (-1) (nI (12 * (4 + p) + at_)) yN (nI L) tm hIt py bl dO dP dS dF dG dR dA yB yR yK yO yA yH yF yG yU yT yb yc yl yp so yC yt ho ce yL va la gi ap ys hLi hOp hNa hSh hSr hTi hCe hRe) : wY_load_46 post J (nI p) (nI 4) (nI at_) x7 (nI (5 * p + 4)) (nI (rd_sd p 4)) 12 yN (nI L) tm hIt py bl dO dP dS dF dG dR dA yB yR yK yO yA yH yF yG yU yT yb yc yl yp so yC yt ho ce yL va la gi ap ys hLi hOp hNa hSh hSr hTi hCe hRe := by
  unfold wY_load_46
  rw [rd_m12, nI_add]
  refine nm_e ?_
  rw [rd_m12, nI_add, rd_cl (by omega), hY.2.1 _ (by omega), ek]
  refine ⟨rd_in (by omega), nm_e (br_t rd_m1n (br_t (Int32.le_refl _) ?_))⟩
  exact br_t (Int32.le_refl _) h
/-- what is wrong: for the own loader and for a codebase -/
theorem yq_wr63 {post : Int32 → Prop} {l at_ d L : Nat} {m : Option Nat} (hd : d < 84) (hL : L ≤ 30) (ha : at_ < 12) (em : dP d = rd_o m) (hm : ∀ a, m = some a → a < 12)
    (h0 : m = none → post 0) (h4 : ∀ a, m = some a → (a = at_ ∨ ∃ k, k < L ∧ yb k = nI l ∧ yc k = nI a ∧ yp k = 0) → post 4) (hok : ∀ a, m = some a → ¬ (a = at_ ∨ ∃ k, k < L ∧ yb k = nI l ∧ yc k = nI a ∧ yp k = 0) → post 0) :
    wY_wrong_63 post (nI l) (nI at_) (nI d) yN (nI L) tm hIt py bl dO dP dS dF dG dR dA yB yR yK yO yA yH yF yG yU yT yb yc yl yp so yC yt ho ce yL va la gi ap ys hLi hOp hNa hSh hSr hTi hCe hRe := by
  unfold wY_wrong_63
  rw [rd_cl (by omega), em]
  refine ⟨rd_in hd, nm_e ?_⟩
  cases m with
  | none => exact br_t rd_m1n (h0 rfl)
  | some a =>
    have ha' := hm a rfl
    refine br_f (nI_pos (by omega)) ?_
    by_cases e : a = at_
    · exact br_t (by rw [e]; rfl) (h4 a rfl (Or.inl e))
    · refine br_f (fun z => e ((nI_eq (by omega) (by omega)).mp z)) ?_
      refine yq_isL hL (fun z => br_f (by decide) (h4 a rfl (Or.inr z))) (fun z => br_t rfl (hok a rfl (fun q => q.elim e z)))
theorem yq_211 {post : Int32 → SY → Prop} {J} {l at_ d : Nat} {x6 : Int32} {m : Option Nat} (hd : d < 84) (em : dP d = rd_o m) (hm : ∀ a, m = some a → a < 12)
    (h : J (nI l) (rd_oa m at_) x6 (rd_ob m) yN yk tm hIt py bl dO dP dS dF dG dR dA yB yR yK yO yA yH yF yG yU yT yb yc yl yp so yC yt ho ce yL va la gi ap ys hLi hOp hNa hSh hSr hTi hCe hRe) : (vp_in (nI d) 84 ∧ (((dP (nI d).toNatClampNeg) < 0 → (wY_load_211 post J (nI p) (nI l) (nI at_) x6 (nI d) 0 yN yk tm hIt py bl dO dP dS dF dG dR dA yB yR yK yO yA yH yF yG yU yT yb yc yl yp so yC yt ho ce yL va la gi ap ys hLi hOp hNa hSh hSr hTi hCe hRe)) ∧ (¬ (dP (nI d).toNatClampNeg) < 0 → (wY_load_211 post J (nI p) (nI l) (nI at_) x6 (nI d) 1 yN yk tm hIt py bl dO dP dS dF dG dR dA yB yR yK yO yA yH yF yG yU yT yb yc yl yp so yC yt ho ce yL va la gi ap ys hLi hOp hNa hSh hSr hTi hCe hRe)))) := by
  refine ⟨rd_in hd, ?_⟩
  cases m with
  | none =>
    refine br_t (by rw [rd_cl (by omega), em]; exact rd_m1n) ?_
    exact br_t rfl h
  | some a =>
    have ha := hm a rfl
    refine br_f (by rw [rd_cl (by omega), em]; exact nI_pos (by omega)) ?_
    refine br_f (by decide) ⟨rd_in hd, nm_r (by rw [rd_cl (by omega), em]; rfl) h⟩
end
end
section
/-! loadOwn, whole -/
section
variable {N p b : Nat} {P sh fl sg st : Nat → Nat} {pr kn : Nat → Option Nat}
variable {li gIt pa ab yN yk tm hIt py bl : Int32} {dO dP dS dF dG dR dA xB xR xK xU xH xF xG xT xc xo xl so ho xC ce xt va la gi gSk gOd gIo gSo gNa gSh gSr gMa gTi gCe yB yR yK yO yA yH yF yG yU yT yb yc yl yp yC yt yL ap ys hLi hOp hNa hSh hSr hTi hCe hRe : Nat → Int32} {nw : Int64} {xL : Nat → Int64}
theorem xq_askK {post : Int32 → Prop} {at_ j : Nat} (hX : rd_TX (N, P, sh, fl, sg, st, pr, kn) (xB, xR, xK, xU, xH, xF, xG, xT)) (hp3 : p < 3) (ha : at_ < 12) (hP : P j < 180) (ek : kn (12 * (5 * p + 4) + at_) = some j) (h : post (nI (P j))) : wpX_askOwn post (li, nw, gIt, pa, ab, dO, dP, dS, dF, dG, dR, dA, xB, xR, xK, xU, xH, xF, xG, xT, xc, xo, xl, so, ho, xC, ce, xt, xL, va, la, gi, gSk, gOd, gIo, gSo, gNa, gSh, gSr, gMa, gTi, gCe) (nI p) (nI at_) := by
  unfold wpX_askOwn
  dsimp only
  refine xq_place (l := 4) ?_
  rw [rd_cl (by omega), hX.1 _ (by omega), ek]
  exact ⟨rd_in (by omega), br_f (nI_pos (by omega)) ⟨rd_in (by omega), h⟩⟩
theorem xq_askN {post : Int32 → Prop} {at_ : Nat} (hX : rd_TX (N, P, sh, fl, sg, st, pr, kn) (xB, xR, xK, xU, xH, xF, xG, xT)) (hp3 : p < 3) (ha : at_ < 12) (ek : kn (12 * (5 * p + 4) + at_) = none) (h1 : dO (12 * (4 + p) + at_) = 0 → post (-1)) (h2 : ¬ dO (12 * (4 + p) + at_) = 0 → post 1000) : wpX_askOwn post (li, nw, gIt, pa, ab, dO, dP, dS, dF, dG, dR, dA, xB, xR, xK, xU, xH, xF, xG, xT, xc, xo, xl, so, ho, xC, ce, xt, xL, va, la, gi, gSk, gOd, gIo, gSo, gNa, gSh, gSr, gMa, gTi, gCe) (nI p) (nI at_) := by
  unfold wpX_askOwn
  dsimp only
  refine xq_place (l := 4) ?_
  rw [rd_cl (by omega), hX.1 _ (by omega), ek]
  refine ⟨rd_in (by omega), br_t rd_m1n (xq_source (l := 4) (by omega) ?_)⟩
  rw [show 12 * rd_sd p 4 + at_ = 12 * (4 + p) + at_ from rfl, rd_cl (by omega)]
  exact ⟨rd_in (by omega), br_c h1 h2⟩
theorem rd_own (hD : rd_DI (dO, dP, dS, dF, dG, dR, dA)) (hC : rd_CR (N, P, sh, fl, sg, st, pr, kn) (xB, xR, xK, xU, xH, xF, xG, xT) (yN, yB, yR, yK, yO, yA, yH, yF, yG, yU, yT)) (hp3 : p < 3) (hb : b ≤ 13) : ∀ (m n : Nat) (xo yb yc yp : rt_F) (nm : Nat → Nat) (at_ : Nat) (x6 : Int32), n + m = 12 →
    (∀ i, i < n → xo i = nI (nm i) ∧ nm i < 12 ∧ kn (12 * (5 * p + 4) + nm i) = none ∧ yb (b + i) = 4 ∧ yc (b + i) = nI (nm i) ∧ yp (b + i) = 0) → (∀ i j, i < j → j < n → nm i ≠ nm j) →
    (∀ i, i < b → ¬ yb i = 4) → at_ < 12 → (∀ i, i < n → nm i ≠ at_) →
    (∃ (e : Nat) (xo1 yb1 yc1 yp1 : rt_F) (yk1 : Int32), 1 ≤ e ∧ e ≤ 5 ∧ (∀ post : Int32 → SX → Prop, post (-nI e) (li, nw, gIt, pa, ab, dO, dP, dS, dF, dG, dR, dA, xB, xR, xK, xU, xH, xF, xG, xT, xc, xo1, xl, so, ho, xC, ce, xt, xL, va, la, gi, gSk, gOd, gIo, gSo, gNa, gSh, gSr, gMa, gTi, gCe) → ∃ f, wX_loadOwn_5 post (nI p) li nw gIt pa ab f (nI n) (nI at_) dO dP dS dF dG dR dA xB xR xK xU xH xF xG xT xc xo xl so ho xC ce xt xL va la gi gSk gOd gIo gSo gNa gSh gSr gMa gTi gCe) ∧
      (∀ post : Int32 → SY → Prop, post (-nI e) (yN, yk1, tm, hIt, py, bl, dO, dP, dS, dF, dG, dR, dA, yB, yR, yK, yO, yA, yH, yF, yG, yU, yT, yb1, yc1, yl, yp1, so, yC, yt, ho, ce, yL, va, la, gi, ap, ys, hLi, hOp, hNa, hSh, hSr, hTi, hCe, hRe) → ∃ f, wY_load_17 post (nI p) f 4 (nI at_) x6 1 yN (nI (b + n)) tm hIt py bl dO dP dS dF dG dR dA yB yR yK yO yA yH yF yG yU yT yb yc yl yp so yC yt ho ce yL va la gi ap ys hLi hOp hNa hSh hSr hTi hCe hRe)) ∨
    (∃ (T' : rt_T) (c1 : rt_CX) (c1' : rt_CY) (j : Nat) (xo1 yb1 yc1 yp1 : rt_F) (yk1 : Int32), rd_CR T' c1 c1' ∧ rd_TE (N, P, sh, fl, sg, st, pr, kn) T' ∧ j < rd_N T' ∧ rd_P T' j / 60 = p ∧ rd_P T' j / 12 % 5 = 4 ∧ (∀ k, k < 180 → ¬ k / 12 = 5 * p + 4 → rd_kn T' k = kn k) ∧
      (∀ i, i < b → yb1 i = yb i ∧ yc1 i = yc i ∧ yp1 i = yp i) ∧
      (∀ post : Int32 → SX → Prop, post (nI (rd_P T' j)) (li, nw, gIt, pa, ab, dO, dP, dS, dF, dG, dR, dA, c1.1, c1.2.1, c1.2.2.1, c1.2.2.2.1, c1.2.2.2.2.1, c1.2.2.2.2.2.1, c1.2.2.2.2.2.2.1, c1.2.2.2.2.2.2.2, xc, xo1, xl, so, ho, xC, ce, xt, xL, va, la, gi, gSk, gOd, gIo, gSo, gNa, gSh, gSr, gMa, gTi, gCe) → ∃ f, wX_loadOwn_5 post (nI p) li nw gIt pa ab f (nI n) (nI at_) dO dP dS dF dG dR dA xB xR xK xU xH xF xG xT xc xo xl so ho xC ce xt xL va la gi gSk gOd gIo gSo gNa gSh gSr gMa gTi gCe) ∧
      (∀ post : Int32 → SY → Prop, (∃ f, wY_define_10 post (nI p) f (nI j) (nI b - 1) c1'.1 yk1 tm hIt py bl dO dP dS dF dG dR dA c1'.2.1 c1'.2.2.1 c1'.2.2.2.1 c1'.2.2.2.2.1 c1'.2.2.2.2.2.1 c1'.2.2.2.2.2.2.1 c1'.2.2.2.2.2.2.2.1 c1'.2.2.2.2.2.2.2.2.1 c1'.2.2.2.2.2.2.2.2.2.1 c1'.2.2.2.2.2.2.2.2.2.2 yb1 yc1 yl yp1 so yC yt ho ce yL va la gi ap ys hLi hOp hNa hSh hSr hTi hCe hRe) → ∃ f, wY_load_17 post (nI p) f 4 (nI at_) x6 1 yN (nI (b + n)) tm hIt py bl dO dP dS dF dG dR dA yB yR yK yO yA yH yF yG yU yT yb yc yl yp so yC yt ho ce yL va la gi ap ys hLi hOp hNa hSh hSr hTi hCe hRe)) := by
  have hI := hC.1
  have hX := hC.2.1
  have hY := hC.2.2.1
  intro m
  induction m with
  | zero =>
    intro n xo yb yc yp nm at_ x6 hnm hent hdist hbb ha hna
    have := rd_php1 (f := nm) (fun i hi => (hent i hi).2.1) hdist ha hna
    omega
  | succ m ih =>
    intro n xo yb yc yp nm at_ x6 hnm hent hdist hbb ha hna
    have hn12 : n < 12 := by omega
    cases ek : kn (12 * (5 * p + 4) + at_) with
    | some j =>
      right
      obtain ⟨hj, hu⟩ := hI.2.1 _ (by omega) j ek
      have hP := (hI.1 j hj).1
      have hN := rd_NB' hI
      unfold rd_up at hu
      obtain ⟨T', c1, c1', j', r0, rE, r1, r2, r3, r4, X1, Y1⟩ := rd_odef (b := b) (nm := nm) (xo := xo) (yb := yb) (yc := yc) (yp := yp) (yk := nI (b + n)) hD hp3 n N P sh fl sg st pr kn _ _ (some j) hC (by omega) (by omega) hent hdist (fun i e => by cases e; exact ⟨hj, by omega, by omega⟩) (fun _ z => nomatch z)
      refine ⟨T', c1, c1', j', xo, yb, yc, yp, nI (b + n), r0, rE, r1, r2, r3, r4, fun _ _ => ⟨rfl, rfl, rfl⟩, fun post hp => ?_, fun post h => ?_⟩
      · obtain ⟨k1, k2, k3, _⟩ := rd_k0 hP
        refine ⟨1, ?_⟩
        rw [wX_loadOwn_5]
        refine xq_askK hX hp3 ha hP ek (br_f k1 ?_)
        exact br_f k1 (br_t k3 (br_f k2 (X1 post hp)))
      · exact ⟨1, yq_17 (l := 4) hp3 (by omega) (yq_46k (l := 4) hY hp3 (by omega) ha (by omega) ek (Y1 post h))⟩
    | none =>
      by_cases hO : dO (12 * (4 + p) + at_) = 0
      · refine Or.inl ⟨1, xo, yb, yc, yp, nI (b + n), by omega, by omega, fun post hp => ⟨1, ?_⟩, fun post hp => ⟨1, ?_⟩⟩
        · rw [wX_loadOwn_5]
          exact xq_askN hX hp3 ha ek (fun _ => br_f (by decide) (br_f (by decide) (br_f (by decide) hp))) (fun z => absurd hO z)
        · refine yq_17 (l := 4) hp3 (by omega) (yq_46o hY hp3 ha ek ?_)
          unfold wY_load_167 wpY_wrong
          dsimp only
          refine br_t (Int32.le_refl _) ?_
          unfold wY_wrong_14
          rw [rd_4a, rd_m12, nI_add]
          refine nm_e ⟨rd_in (by omega), br_t (by rw [rd_cl (by omega)]; exact hO) (br_f (by decide) hp)⟩
      · have hd : 12 * (4 + p) + at_ < 84 := by omega
        obtain ⟨⟨mo, em, hmo⟩, _⟩ := hD.1 _ hd
        -- the entries with the new one
        have hent' : ∀ i, i < n + 1 → upd xo n (nI at_) i = nI (rd_u nm n at_ i) ∧ rd_u nm n at_ i < 12 ∧ kn (12 * (5 * p + 4) + rd_u nm n at_ i) = none ∧ upd yb (b + n) (nI 4) (b + i) = 4 ∧ upd yc (b + n) (nI at_) (b + i) = nI (rd_u nm n at_ i) ∧ upd yp (b + n) (nI 0) (b + i) = 0 := by
          intro i hi
          by_cases e : i = n
          · subst e
            rw [pk_us, rd_us, pk_us, pk_us, pk_us]
            exact ⟨rfl, ha, ek, rfl, rfl, rfl⟩
          · rw [pk_un e, rd_un e, pk_un (by omega), pk_un (by omega), pk_un (by omega)]
            exact hent i (by omega)
        have hdist' : ∀ i j, i < j → j < n + 1 → rd_u nm n at_ i ≠ rd_u nm n at_ j := by
          intro i j hij hj
          rw [rd_un (show i ≠ n by omega)]
          by_cases e : j = n
          · subst e
            rw [rd_us]; exact hna i hij
          · rw [rd_un e]; exact hdist i j hij (by omega)
        have hbb' : ∀ i, i < b → upd yb (b + n) (nI 4) i = yb i ∧ upd yc (b + n) (nI at_) i = yc i ∧ upd yp (b + n) (nI 0) i = yp i := fun i hi => ⟨pk_un (by omega), pk_un (by omega), pk_un (by omega)⟩
        -- who is being loaded
        have hload : ∀ a, (∃ k, k < b + n ∧ yb k = nI 4 ∧ yc k = nI a ∧ yp k = 0) ∧ a < 12 → ∃ i, i < n ∧ nm i = a := by
          rintro a ⟨⟨k, hk, q1, q2, q3⟩, ha'⟩
          by_cases c : k < b
          · exact absurd q1 (hbb k c)
          · obtain ⟨i, rfl⟩ : ∃ i, k = b + i := ⟨k - b, by omega⟩
            obtain ⟨_, e2, _, _, e5, _⟩ := hent i (by omega)
            rw [e5] at q2
            exact ⟨i, by omega, (nI_eq (by omega) (by omega)).mp q2⟩
        have hload' : ∀ a, (∃ i, i < n ∧ nm i = a) → ∃ k, k < b + n ∧ yb k = nI 4 ∧ yc k = nI a ∧ yp k = 0 := by
          rintro a ⟨i, hi, rfl⟩
          obtain ⟨_, _, _, e4, e5, e6⟩ := hent i hi
          exact ⟨b + i, by omega, e4, e5, e6⟩
        -- X after the store
        have hXa : ∀ (post : Int32 → SX → Prop) (F : Nat), (∃ n64 : Nat, wX_loadOwn_64 post (wX_loadOwn_5 post (nI p) li nw gIt pa ab F) (nI p) (nI (n + 1)) (rd_o mo) li nw gIt pa ab dO dP dS dF dG dR dA xB xR xK xU xH xF xG xT xc (upd xo n (nI at_)) xl so ho xC ce xt xL va la gi gSk gOd gIo gSo gNa gSh gSr gMa gTi gCe n64 (if mo = none then 1001 else 1000) 0) → wX_loadOwn_5 post (nI p) li nw gIt pa ab (F + 1) (nI n) (nI at_) dO dP dS dF dG dR dA xB xR xK xU xH xF xG xT xc xo xl so ho xC ce xt xL va la gi gSk gOd gIo gSo gNa gSh gSr gMa gTi gCe := by
          intro post F h
          rw [wX_loadOwn_5]
          refine xq_askN hX hp3 ha ek (fun z => absurd z hO) (fun _ => br_t rfl (nm_r (nI_1 n) ⟨rd_in hn12, ?_⟩))
          rw [rd_cl (show n < 3000 by omega), rd_nb8 (by omega)]
          refine nm_e (xq_source (l := 4) (by omega) ?_)
          rw [show 12 * rd_sd p 4 + at_ = 12 * (4 + p) + at_ from rfl, rd_cl (by omega), em]
          refine ⟨rd_in hd, nm_e ?_⟩
          cases mo with
          | none => exact br_f rd_m1p h
          | some a => exact br_t (nI_pos' (by have := hmo a rfl; omega)) h
        -- Y up to the push
        have hYa : ∀ (post : Int32 → SY → Prop) (F : Nat), ((∀ a, mo = some a → (a = at_ ∨ ∃ i, i < n ∧ nm i = a) → post (-nI 4) (yN, nI (b + n), tm, hIt, py, bl, dO, dP, dS, dF, dG, dR, dA, yB, yR, yK, yO, yA, yH, yF, yG, yU, yT, yb, yc, yl, yp, so, yC, yt, ho, ce, yL, va, la, gi, ap, ys, hLi, hOp, hNa, hSh, hSr, hTi, hCe, hRe)) ∧ ((∀ a, mo = some a → ¬ (a = at_ ∨ ∃ i, i < n ∧ nm i = a)) → wY_load_17 post (nI p) F 4 (rd_oa mo at_) (-1) (rd_ob mo) yN (nI (b + (n + 1))) tm hIt py bl dO dP dS dF dG dR dA yB yR yK yO yA yH yF yG yU yT (upd yb (b + n) (nI 4)) (upd yc (b + n) (nI at_)) yl (upd yp (b + n) (nI 0)) so yC yt ho ce yL va la gi ap ys hLi hOp hNa hSh hSr hTi hCe hRe)) → wY_load_17 post (nI p) (F + 1) 4 (nI at_) x6 1 yN (nI (b + n)) tm hIt py bl dO dP dS dF dG dR dA yB yR yK yO yA yH yF yG yU yT yb yc yl yp so yC yt ho ce yL va la gi ap ys hLi hOp hNa hSh hSr hTi hCe hRe := by
          intro post F ⟨h4, hok⟩
          refine yq_17 (l := 4) hp3 (by omega) (yq_46o hY hp3 ha ek ?_)
          unfold wY_load_167 wpY_wrong
          dsimp only
          refine br_t (Int32.le_refl _) ?_
          unfold wY_wrong_14
          rw [rd_4a, rd_m12, nI_add]
          refine nm_e ⟨rd_in (by omega), br_f (by rw [rd_cl (by omega)]; exact hO) (br_t (Int32.le_refl _) (br_t (Int32.le_refl _) ?_))⟩
          have good : (∀ a, mo = some a → ¬ (a = at_ ∨ ∃ i, i < n ∧ nm i = a)) → (((0 : Int32) ≤ 0 → (wpY_push (fun u => match u with | (yN, yk, tm, hIt, py, bl, dO, dP, dS, dF, dG, dR, dA, yB, yR, yK, yO, yA, yH, yF, yG, yU, yT, yb, yc, yl, yp, so, yC, yt, ho, ce, yL, va, la, gi, ap, ys, hLi, hOp, hNa, hSh, hSr, hTi, hCe, hRe) => (vp_in (nI (12 * (4 + p) + at_)) 84 ∧ ((((dP (nI (12 * (4 + p) + at_)).toNatClampNeg) < 0 → (wY_load_211 post (wY_load_17 post (nI p) F) (nI p) 4 (nI at_) (-1) (nI (12 * (4 + p) + at_)) 0 yN yk tm hIt py bl dO dP dS dF dG dR dA yB yR yK yO yA yH yF yG yU yT yb yc yl yp so yC yt ho ce yL va la gi ap ys hLi hOp hNa hSh hSr hTi hCe hRe)) ∧ (¬ (dP (nI (12 * (4 + p) + at_)).toNatClampNeg) < 0 → (wY_load_211 post (wY_load_17 post (nI p) F) (nI p) 4 (nI at_) (-1) (nI (12 * (4 + p) + at_)) 1 yN yk tm hIt py bl dO dP dS dF dG dR dA yB yR yK yO yA yH yF yG yU yT yb yc yl yp so yC yt ho ce yL va la gi ap ys hLi hOp hNa hSh hSr hTi hCe hRe)))))) (yN, nI (b + n), tm, hIt, py, bl, dO, dP, dS, dF, dG, dR, dA, yB, yR, yK, yO, yA, yH, yF, yG, yU, yT, yb, yc, yl, yp, so, yC, yt, ho, ce, yL, va, la, gi, ap, ys, hLi, hOp, hNa, hSh, hSr, hTi, hCe, hRe) 4 (nI at_) 0)) ∧ (¬ (0 : Int32) ≤ 0 → (post (-0) (yN, nI (b + n), tm, hIt, py, bl, dO, dP, dS, dF, dG, dR, dA, yB, yR, yK, yO, yA, yH, yF, yG, yU, yT, yb, yc, yl, yp, so, yC, yt, ho, ce, yL, va, la, gi, ap, ys, hLi, hOp, hNa, hSh, hSr, hTi, hCe, hRe)))) := by
            intro z
            exact br_t (Int32.le_refl _) (yq_push (l := 4) (z := 0) (by omega) (by omega) (yq_211 (l := 4) hd em hmo (hok z)))
          refine yq_wr63 (l := 4) hd (by omega) ha em hmo (fun z => good (fun a e => by rw [z] at e; exact nomatch e)) (fun a e z => ?_) (fun a e z => good (fun a' e' q => ?_))
          · refine br_f (by decide) (h4 a e ?_)
            exact z.imp id (fun z => hload a ⟨z, hmo a e⟩)
          · rw [e] at e'
            cases e'
            exact z (q.imp id (hload' a))
        cases mo with
        | none =>
          right
          obtain ⟨T', c1, c1', j', r0, rE, r1, r2, r3, r4, X1, Y1⟩ := rd_odef (b := b) (nm := rd_u nm n at_) (xo := upd xo n (nI at_)) (yb := upd yb (b + n) (nI 4)) (yc := upd yc (b + n) (nI at_)) (yp := upd yp (b + n) (nI 0)) (yk := nI (b + (n + 1))) hD hp3 (n + 1) N P sh fl sg st pr kn _ _ none hC (by omega) (by omega) hent' hdist' (fun i e => nomatch e) (fun z => by omega)
          refine ⟨T', c1, c1', j', upd xo n (nI at_), upd yb (b + n) (nI 4), upd yc (b + n) (nI at_), upd yp (b + n) (nI 0), nI (b + (n + 1)), r0, rE, r1, r2, r3, r4, hbb', fun post hp => ?_, fun post h => ?_⟩
          · refine ⟨1, hXa post 0 ⟨1, br_f (nI_nle (by omega) (by omega)) (br_t rd_m1n ?_)⟩⟩
            exact br_f (by decide) (br_t (by decide) (br_t rfl (X1 post hp)))
          · exact ⟨2, hYa post 1 ⟨fun a e => (nomatch e), fun _ => br_t rfl (yq_230 (Y1 post h))⟩⟩
        | some a =>
          have ha12 := hmo a rfl
          have hcv : rd_cv (rd_u nm n at_) a (n + 1) 1000 = if (rd_mem (rd_u nm n at_) a (n + 1) = true) then -4 else 1000 := rfl
          have hmm := rd_mem_iff (rd_u nm n at_) a (n + 1)
          have hcirc : (∃ i, i < n + 1 ∧ rd_u nm n at_ i = a) ↔ (a = at_ ∨ ∃ i, i < n ∧ nm i = a) := by
            constructor
            · rintro ⟨i, hi, e⟩
              by_cases c : i = n
              · subst c; rw [rd_us] at e; exact Or.inl e.symm
              · rw [rd_un c] at e; exact Or.inr ⟨i, by omega, e⟩
            · rintro (e | ⟨i, hi, e⟩)
              · exact ⟨n, by omega, by rw [rd_us]; exact e.symm⟩
              · exact ⟨i, by omega, by rw [rd_un (by omega)]; exact e⟩
          by_cases circ : a = at_ ∨ ∃ i, i < n ∧ nm i = a
          · refine Or.inl ⟨4, upd xo n (nI at_), yb, yc, yp, nI (b + n), by omega, by omega, fun post hp => ⟨1, hXa post 0 (xq_c64 (nm := rd_u nm n at_) (by omega) (fun i hi => ⟨(hent' i hi).1, (hent' i hi).2.1⟩) ha12 ?_)⟩, fun post hp => ⟨1, hYa post 0 ⟨fun _ _ _ => hp, fun z => absurd circ (z a rfl)⟩⟩⟩
            rw [show (if (some a : Option Nat) = none then (1001 : Int32) else 1000) = 1000 from rfl, hcv, if_pos (hmm.mpr (hcirc.mpr circ))]
            exact br_f (by decide) (br_f (by decide) hp)
          · have hX64 : ∀ (post : Int32 → SX → Prop) (F : Nat), wX_loadOwn_5 post (nI p) li nw gIt pa ab F (nI (n + 1)) (nI a) dO dP dS dF dG dR dA xB xR xK xU xH xF xG xT xc (upd xo n (nI at_)) xl so ho xC ce xt xL va la gi gSk gOd gIo gSo gNa gSh gSr gMa gTi gCe → wX_loadOwn_5 post (nI p) li nw gIt pa ab (F + 1) (nI n) (nI at_) dO dP dS dF dG dR dA xB xR xK xU xH xF xG xT xc xo xl so ho xC ce xt xL va la gi gSk gOd gIo gSo gNa gSh gSr gMa gTi gCe := by
              intro post F h
              refine hXa post F (xq_c64 (nm := rd_u nm n at_) (by omega) (fun i hi => ⟨(hent' i hi).1, (hent' i hi).2.1⟩) ha12 ?_)
              rw [show (if (some a : Option Nat) = none then (1001 : Int32) else 1000) = 1000 from rfl, hcv, if_neg (fun z => circ (hcirc.mp (hmm.mp z)))]
              exact br_t rfl h
            have hY64 : ∀ (post : Int32 → SY → Prop) (F : Nat), wY_load_17 post (nI p) F 4 (nI a) (-1) 1 yN (nI (b + (n + 1))) tm hIt py bl dO dP dS dF dG dR dA yB yR yK yO yA yH yF yG yU yT (upd yb (b + n) (nI 4)) (upd yc (b + n) (nI at_)) yl (upd yp (b + n) (nI 0)) so yC yt ho ce yL va la gi ap ys hLi hOp hNa hSh hSr hTi hCe hRe → wY_load_17 post (nI p) (F + 1) 4 (nI at_) x6 1 yN (nI (b + n)) tm hIt py bl dO dP dS dF dG dR dA yB yR yK yO yA yH yF yG yU yT yb yc yl yp so yC yt ho ce yL va la gi ap ys hLi hOp hNa hSh hSr hTi hCe hRe :=
              fun post F h => hYa post F ⟨fun a' e q => by cases e; exact absurd q circ, fun _ => h⟩
            rcases ih (n + 1) (upd xo n (nI at_)) (upd yb (b + n) (nI 4)) (upd yc (b + n) (nI at_)) (upd yp (b + n) (nI 0)) (rd_u nm n at_) a (-1) (by omega) hent' hdist' (fun i hi => by rw [(hbb' i hi).1]; exact hbb i hi) ha12 (fun i hi z => circ (hcirc.mp ⟨i, hi, z⟩)) with ⟨e, xo1, yb1, yc1, yp1, yk1, h1, h2, X1, Y1⟩ | ⟨T', c1, c1', j, xo1, yb1, yc1, yp1, yk1, r0, rE, r1, r2, r3, r4, r5, X1, Y1⟩
            · refine Or.inl ⟨e, xo1, yb1, yc1, yp1, yk1, h1, h2, fun post hp => ?_, fun post hp => ?_⟩
              · obtain ⟨F, hF⟩ := X1 post hp
                exact ⟨F + 1, hX64 post F hF⟩
              · obtain ⟨F, hF⟩ := Y1 post hp
                exact ⟨F + 1, hY64 post F hF⟩
            · refine Or.inr ⟨T', c1, c1', j, xo1, yb1, yc1, yp1, yk1, r0, rE, r1, r2, r3, r4, fun i hi => ?_, fun post hp => ?_, fun post h => ?_⟩
              · obtain ⟨q1, q2, q3⟩ := r5 i hi
                obtain ⟨s1, s2, s3⟩ := hbb' i hi
                exact ⟨q1.trans s1, q2.trans s2, q3.trans s3⟩
              · obtain ⟨F, hF⟩ := X1 post hp
                exact ⟨F + 1, hX64 post F hF⟩
              · obtain ⟨F, hF⟩ := Y1 post h
                exact ⟨F + 1, hY64 post F hF⟩
end
end
section
/-! load: codebases, and all -/
section
variable {N p l : Nat} {P sh fl sg st : Nat → Nat} {pr kn : Nat → Option Nat}
variable {li gIt pa ab yN yk tm hIt py bl : Int32} {dO dP dS dF dG dR dA xB xR xK xU xH xF xG xT xc xo xl so ho xC ce xt va la gi gSk gOd gIo gSo gNa gSh gSr gMa gTi gCe yB yR yK yO yA yH yF yG yU yT yb yc yl yp yC yt yL ap ys hLi hOp hNa hSh hSr hTi hCe hRe : Nat → Int32} {nw : Int64} {xL : Nat → Int64}
theorem xq_c79 {post : Int32 → SX → Prop} {J} {nm : Nat → Nat} {n a : Nat} {x5 : Int32} (hn : n ≤ 12) (hent : ∀ i, i < n → xc i = nI (nm i) ∧ nm i < 12) (ha : a < 12) (h : wX_load_113 post J (nI p) (nI l) (nI n) (nI a) (rd_cv nm a n x5) li nw gIt pa ab dO dP dS dF dG dR dA xB xR xK xU xH xF xG xT xc xo xl so ho xC ce xt xL va la gi gSk gOd gIo gSo gNa gSh gSr gMa gTi gCe) :
    ∃ f, wX_load_79 post J (nI p) (nI l) (nI n) (nI a) li nw gIt pa ab dO dP dS dF dG dR dA xB xR xK xU xH xF xG xT xc xo xl so ho xC ce xt xL va la gi gSk gOd gIo gSo gNa gSh gSr gMa gTi gCe f x5 0 := by
  refine rd_run (fun f j => wX_load_79 post J (nI p) (nI l) (nI n) (nI a) li nw gIt pa ab dO dP dS dF dG dR dA xB xR xK xU xH xF xG xT xc xo xl so ho xC ce xt xL va la gi gSk gOd gIo gSo gNa gSh gSr gMa gTi gCe f (rd_cv nm a j x5) (nI j)) (i := 0) (k := n) (Nat.zero_le _) ⟨1, br_t (Int32.le_refl _) h⟩ (fun f j _ hj W => ?_)
  refine br_f (nI_ge hj (by omega)) (br_f (nI_pos (by omega)) ⟨rd_in (by omega), ?_⟩)
  obtain ⟨e1, e2⟩ := hent j hj
  rw [rd_cl (by omega), e1]
  by_cases c : nm j = a
  · rw [rd_cv_s1 c] at W
    exact br_t (by rw [c]) (nm_r (nI_1 j) W)
  · rw [rd_cv_s0 c] at W
    exact br_f (fun z => c ((nI_eq (by omega) (by omega)).mp z)) (nm_r (nI_1 j) W)
theorem rd_begin (hD : rd_DI (dO, dP, dS, dF, dG, dR, dA)) (hL : rd_LR (xB, xR, xK, xU, xH, xF, xG, xT) (yN, yB, yR, yK, yO, yA, yH, yF, yG, yU, yT)) (hY : rd_TY (N, P, sh, fl, sg, st, pr, kn) (yN, yB, yR, yK, yO, yA, yH, yF, yG, yU, yT)) (hp3 : p < 3) (hl : l < 4) : ∃ xB1 xR1 yB1 yR1 : rt_F, rd_LR (xB1, xR1, xK, xU, xH, xF, xG, xT) (yN, yB1, yR1, yK, yO, yA, yH, yF, yG, yU, yT) ∧
    (∀ post : SX → Prop, post (li, nw, gIt, pa, ab, dO, dP, dS, dF, dG, dR, dA, xB1, xR1, xK, xU, xH, xF, xG, xT, xc, xo, xl, so, ho, xC, ce, xt, xL, va, la, gi, gSk, gOd, gIo, gSo, gNa, gSh, gSr, gMa, gTi, gCe) → wpX_begin post (li, nw, gIt, pa, ab, dO, dP, dS, dF, dG, dR, dA, xB, xR, xK, xU, xH, xF, xG, xT, xc, xo, xl, so, ho, xC, ce, xt, xL, va, la, gi, gSk, gOd, gIo, gSo, gNa, gSh, gSr, gMa, gTi, gCe) (nI p) (nI l)) ∧
    (∀ (post : Int32 → SY → Prop) J (at_ : Nat) (x7 : Int32), at_ < 12 → kn (12 * (5 * p + l) + at_) = none → wY_load_113 post J (nI p) (nI l) (nI at_) (-1) x7 (nI (5 * p + l)) (nI (12 * l + at_)) yN yk tm hIt py bl dO dP dS dF dG dR dA yB1 yR1 yK yO yA yH yF yG yU yT yb yc yl yp so yC yt ho ce yL va la gi ap ys hLi hOp hNa hSh hSr hTi hCe hRe → wY_load_46 post J (nI p) (nI l) (nI at_) x7 (nI (5 * p + l)) (nI (rd_sd p l)) 12 yN yk tm hIt py bl dO dP dS dF dG dR dA yB yR yK yO yA yH yF yG yU yT yb yc yl yp so yC yt ho ce yL va la gi ap ys hLi hOp hNa hSh hSr hTi hCe hRe) := by
  obtain ⟨s, hs, es⟩ := hD.2.1 l hl
  obtain ⟨eB, eR⟩ := hL p hp3 l hl
  have hsd : rd_sd p l = l := if_neg (by omega)
  have g4 : ¬ 4 ≤ nI l := nI_ge (b := 4) (by omega) (by omega)
  have hY46 : ∀ (post : Int32 → SY → Prop) J (at_ : Nat) (x7 : Int32), at_ < 12 → kn (12 * (5 * p + l) + at_) = none → (vp_in (nI (5 * p + l)) 15 ∧ (((yB (5 * p + l)) = 0 → (vp_in (nI (5 * p + l)) 15 ∧ ∀ B : Nat → Int32, B = upd yB (5 * p + l) (vp_nar .boolean 1) → (vp_in (nI l) 4 ∧ (vp_in (nI (5 * p + l)) 15 ∧ ∀ R : Nat → Int32, R = upd yR (5 * p + l) (dR l) → wY_load_113 post J (nI p) (nI l) (nI at_) (-1) x7 (nI (5 * p + l)) (nI (12 * l + at_)) yN yk tm hIt py bl dO dP dS dF dG dR dA B R yK yO yA yH yF yG yU yT yb yc yl yp so yC yt ho ce yL va la gi ap ys hLi hOp hNa hSh hSr hTi hCe hRe)))) ∧ (¬ (yB (5 * p + l)) = 0 → wY_load_113 post J (nI p) (nI l) (nI at_) (-1) x7 (nI (5 * p + l)) (nI (12 * l + at_)) yN yk tm hIt py bl dO dP dS dF dG dR dA yB yR yK yO yA yH yF yG yU yT yb yc yl yp so yC yt ho ce yL va la gi ap ys hLi hOp hNa hSh hSr hTi hCe hRe))) → wY_load_46 post J (nI p) (nI l) (nI at_) x7 (nI (5 * p + l)) (nI (rd_sd p l)) 12 yN yk tm hIt py bl dO dP dS dF dG dR dA yB yR yK yO yA yH yF yG yU yT yb yc yl yp so yC yt ho ce yL va la gi ap ys hLi hOp hNa hSh hSr hTi hCe hRe := by
    intro post J at_ x7 ha ek h
    unfold wY_load_46
    rw [hsd, rd_m12, nI_add]
    refine nm_e ?_
    rw [rd_m12, nI_add, rd_cl (show 12 * (5 * p + l) + at_ < 3000 by omega), hY.2.1 _ (by omega), ek, rd_cl (show 5 * p + l < 3000 by omega), rd_cl (show l < 3000 by omega)]
    exact ⟨rd_in (by omega), nm_e (br_t rd_m1n (br_f g4 h))⟩
  by_cases hz : xB (4 * p + l) = 0
  · refine ⟨upd xB (4 * p + l) 1, upd xR (4 * p + l) (nI s), upd yB (5 * p + l) 1, upd yR (5 * p + l) (nI s), fun p' hp' l' hl' => ?_, fun post hp => ?_, fun post J at_ x7 ha ek h => hY46 post J at_ x7 ha ek ⟨rd_in (by omega), br_t (eB.trans hz) ⟨rd_in (by omega), nm_r (by rw [rd_nz1]) ⟨rd_in hl, rd_in (by omega), nm_r (by rw [es]) h⟩⟩⟩⟩
    · by_cases c : p' = p ∧ l' = l
      · obtain ⟨rfl, rfl⟩ := c
        rw [pk_us, pk_us, pk_us, pk_us]
        exact ⟨rfl, rfl⟩
      · rw [pk_un (by omega), pk_un (by omega), pk_un (by omega), pk_un (by omega)]
        exact hL p' hp' l' hl'
    · unfold wpX_begin
      dsimp only
      rw [rd_m4, nI_add]
      refine nm_e ?_
      rw [rd_cl (by omega), rd_cl (show l < 3000 by omega), es, rd_ns hs, rd_nz1]
      exact ⟨rd_in (by omega), br_t hz ⟨rd_in (by omega), nm_e ⟨rd_in hl, rd_in (by omega), nm_e hp⟩⟩⟩
  · refine ⟨xB, xR, yB, yR, hL, fun post hp => ?_, fun post J at_ x7 ha ek h => hY46 post J at_ x7 ha ek ⟨rd_in (by omega), br_f (fun z => hz (eB.symm.trans z)) h⟩⟩
    unfold wpX_begin
    dsimp only
    rw [rd_m4, nI_add]
    refine nm_e ?_
    rw [rd_cl (by omega)]
    exact ⟨rd_in (by omega), br_f hz hp⟩
theorem xq_ask {post : Int32 → SX → Prop} {at_ z : Nat} {xB1 xR1 : rt_F} (hX : rd_TX (N, P, sh, fl, sg, st, pr, kn) (xB, xR, xK, xU, xH, xF, xG, xT)) (hp3 : p < 3) (hl : l < 4) (ha : at_ < 12) (ek : kn (12 * (5 * p + l) + at_) = none)
    (hB : ∀ post : SX → Prop, post (li, nw, gIt, pa, ab, dO, dP, dS, dF, dG, dR, dA, xB1, xR1, xK, xU, xH, xF, xG, xT, xc, xo, xl, so, ho, xC, ce, xt, xL, va, la, gi, gSk, gOd, gIo, gSo, gNa, gSh, gSr, gMa, gTi, gCe) → wpX_begin post (li, nw, gIt, pa, ab, dO, dP, dS, dF, dG, dR, dA, xB, xR, xK, xU, xH, xF, xG, xT, xc, xo, xl, so, ho, xC, ce, xt, xL, va, la, gi, gSk, gOd, gIo, gSo, gNa, gSh, gSr, gMa, gTi, gCe) (nI p) (nI l)) (hz : z = if (((xR1 (4 * p + l) >>> (nI at_ &&& 31)) &&& 1) = 0 ∧ ¬ dO (12 * (4 + p) + at_) = 0) then 1 else 0)
    (h : wX_ask_68 post (nI p) (nI l) (nI at_) (nI (12 * (5 * p + l) + at_)) (nI z) li nw gIt pa ab dO dP dS dF dG dR dA xB1 xR1 xK xU xH xF xG xT xc xo xl so ho xC ce xt xL va la gi gSk gOd gIo gSo gNa gSh gSr gMa gTi gCe) : wpX_ask post (li, nw, gIt, pa, ab, dO, dP, dS, dF, dG, dR, dA, xB, xR, xK, xU, xH, xF, xG, xT, xc, xo, xl, so, ho, xC, ce, xt, xL, va, la, gi, gSk, gOd, gIo, gSo, gNa, gSh, gSr, gMa, gTi, gCe) (nI p) (nI l) (nI at_) := by
  unfold wpX_ask
  dsimp only
  refine xq_place ?_
  rw [rd_cl (by omega), hX.1 _ (by omega), ek]
  refine ⟨rd_in (by omega), br_t rd_m1n (hB _ ?_)⟩
  dsimp only
  rw [rd_m4, nI_add, rd_cl (by omega)]
  refine ⟨rd_in (by omega), ?_⟩
  by_cases c : ((xR1 (4 * p + l) >>> (nI at_ &&& 31)) &&& 1) = 0
  · refine br_t c (xq_source (l := 4) (by omega) ?_)
    rw [show 12 * rd_sd p 4 + at_ = 12 * (4 + p) + at_ from rfl, rd_cl (by omega)]
    refine ⟨rd_in (by omega), ?_⟩
    by_cases c2 : dO (12 * (4 + p) + at_) = 0
    · rw [if_neg (fun q => q.2 c2)] at hz
      subst hz
      exact br_t c2 h
    · rw [if_pos ⟨c, c2⟩] at hz
      subst hz
      exact br_f c2 h
  · rw [if_neg (fun q => c q.1)] at hz
    subst hz
    exact br_f c h
theorem rd_cb (hD : rd_DI (dO, dP, dS, dF, dG, dR, dA)) (hp3 : p < 3) (hl : l < 4) : ∀ (m n : Nat) (xB xR yB yR xc yb yc yp : rt_F) (nm : Nat → Nat) (at_ : Nat) (x6 : Int32), n + m = 12 → rd_CR (N, P, sh, fl, sg, st, pr, kn) (xB, xR, xK, xU, xH, xF, xG, xT) (yN, yB, yR, yK, yO, yA, yH, yF, yG, yU, yT) →
    (∀ i, i < n → xc i = nI (nm i) ∧ nm i < 12 ∧ kn (12 * (5 * p + l) + nm i) = none ∧ yb i = nI l ∧ yc i = nI (nm i) ∧ yp i = 0) → (∀ i j, i < j → j < n → nm i ≠ nm j) → at_ < 12 → (∀ i, i < n → nm i ≠ at_) →
    ∃ (T' : rt_T) (c1 : rt_CX) (c1' : rt_CY) (xc1 xo1 yb1 yc1 yp1 : rt_F) (yk1 rx ry : Int32), rd_CR T' c1 c1' ∧ rd_TE (N, P, sh, fl, sg, st, pr, kn) T' ∧ rd_RR T' rx ry ∧
      (∀ post : Int32 → SX → Prop, post rx (li, nw, gIt, pa, ab, dO, dP, dS, dF, dG, dR, dA, c1.1, c1.2.1, c1.2.2.1, c1.2.2.2.1, c1.2.2.2.2.1, c1.2.2.2.2.2.1, c1.2.2.2.2.2.2.1, c1.2.2.2.2.2.2.2, xc1, xo1, xl, so, ho, xC, ce, xt, xL, va, la, gi, gSk, gOd, gIo, gSo, gNa, gSh, gSr, gMa, gTi, gCe) → ∃ f, wX_load_18 post (nI p) (nI l) f (nI n) (nI at_) li nw gIt pa ab dO dP dS dF dG dR dA xB xR xK xU xH xF xG xT xc xo xl so ho xC ce xt xL va la gi gSk gOd gIo gSo gNa gSh gSr gMa gTi gCe) ∧
      (∀ post : Int32 → SY → Prop, post ry (c1'.1, yk1, tm, hIt, py, bl, dO, dP, dS, dF, dG, dR, dA, c1'.2.1, c1'.2.2.1, c1'.2.2.2.1, c1'.2.2.2.2.1, c1'.2.2.2.2.2.1, c1'.2.2.2.2.2.2.1, c1'.2.2.2.2.2.2.2.1, c1'.2.2.2.2.2.2.2.2.1, c1'.2.2.2.2.2.2.2.2.2.1, c1'.2.2.2.2.2.2.2.2.2.2, yb1, yc1, yl, yp1, so, yC, yt, ho, ce, yL, va, la, gi, ap, ys, hLi, hOp, hNa, hSh, hSr, hTi, hCe, hRe) → ∃ f, wY_load_17 post (nI p) f (nI l) (nI at_) x6 1 yN (nI n) tm hIt py bl dO dP dS dF dG dR dA yB yR yK yO yA yH yF yG yU yT yb yc yl yp so yC yt ho ce yL va la gi ap ys hLi hOp hNa hSh hSr hTi hCe hRe) := by
  intro m
  induction m with
  | zero =>
    intro n xB xR yB yR xc yb yc yp nm at_ x6 hnm hC hent hdist ha hna
    have := rd_php1 (f := nm) (fun i hi => (hent i hi).2.1) hdist ha hna
    omega
  | succ m ih =>
    intro n xB xR yB yR xc yb yc yp nm at_ x6 hnm hC hent hdist ha hna
    have hI := hC.1
    have hX := hC.2.1
    have hY := hC.2.2.1
    have hn12 : n < 12 := by omega
    have g4 : ¬ 4 ≤ nI l := nI_ge (b := 4) (by omega) (by omega)
    cases ek : kn (12 * (5 * p + l) + at_) with
    | some j =>
      obtain ⟨hj, hu⟩ := hI.2.1 _ (by omega) j ek
      have hP := (hI.1 j hj).1
      have hN := rd_NB' hI
      unfold rd_up at hu
      obtain ⟨T', c1, c1', rx, ry, r0, rE, rR, X1, Y1⟩ := rd_cdef (l := l) (nm := nm) (xc := xc) (yb := yb) (yc := yc) (yp := yp) (yk := nI n) hD hp3 hl n N P sh fl sg st pr kn _ _ (some j) hC (by omega) hent hdist (fun i e => by cases e; exact ⟨hj, by omega, by omega⟩) (fun _ z => nomatch z)
      refine ⟨T', c1, c1', xc, xo, yb, yc, yp, nI n, rx, ry, r0, rE, rR, fun post hp => ⟨1, ?_⟩, fun post hp => ⟨1, yq_17 hp3 (by omega) (yq_46k hY hp3 (by omega) ha (by omega) ek (Y1 post hp))⟩⟩
      obtain ⟨k1, k2, k3, _⟩ := rd_k0 hP
      rw [wX_load_18]
      unfold wpX_ask
      dsimp only
      refine xq_place ?_
      rw [rd_cl (by omega), hX.1 _ (by omega), ek]
      refine ⟨rd_in (by omega), br_f (nI_pos (by omega)) ⟨rd_in (by omega), br_f k1 ?_⟩⟩
      exact br_f k1 (br_f k2 (br_t k3 (X1 post hp)))
    | none =>
      obtain ⟨xB1, xR1, yB1, yR1, hL1, BX, BY⟩ := rd_begin (yk := nI n) hD hC.2.2.2 hY hp3 hl
      have eR := (hL1 p hp3 l hl).2
      have hC1 : rd_CR (N, P, sh, fl, sg, st, pr, kn) (xB1, xR1, xK, xU, xH, xF, xG, xT) (yN, yB1, yR1, yK, yO, yA, yH, yF, yG, yU, yT) := ⟨hI, hX, hY, hL1⟩
      have hY113 : ∀ (post : Int32 → SY → Prop) (F : Nat), wY_load_113 post (wY_load_17 post (nI p) F) (nI p) (nI l) (nI at_) (-1) 1 (nI (5 * p + l)) (nI (12 * l + at_)) yN (nI n) tm hIt py bl dO dP dS dF dG dR dA yB1 yR1 yK yO yA yH yF yG yU yT yb yc yl yp so yC yt ho ce yL va la gi ap ys hLi hOp hNa hSh hSr hTi hCe hRe → wY_load_17 post (nI p) (F + 1) (nI l) (nI at_) x6 1 yN (nI n) tm hIt py bl dO dP dS dF dG dR dA yB yR yK yO yA yH yF yG yU yT yb yc yl yp so yC yt ho ce yL va la gi ap ys hLi hOp hNa hSh hSr hTi hCe hRe :=
        fun post F h => yq_17 hp3 (by omega) (BY post _ at_ 1 ha ek h)
      by_cases own : ((xR1 (4 * p + l) >>> (nI at_ &&& 31)) &&& 1) = 0 ∧ ¬ dO (12 * (4 + p) + at_) = 0
      · -- the own loader does it
        have hask : ∀ post : Int32 → SX → Prop, wX_ask_68 post (nI p) (nI l) (nI at_) (nI (12 * (5 * p + l) + at_)) (nI 1) li nw gIt pa ab dO dP dS dF dG dR dA xB1 xR1 xK xU xH xF xG xT xc xo xl so ho xC ce xt xL va la gi gSk gOd gIo gSo gNa gSh gSr gMa gTi gCe → wpX_ask post (li, nw, gIt, pa, ab, dO, dP, dS, dF, dG, dR, dA, xB, xR, xK, xU, xH, xF, xG, xT, xc, xo, xl, so, ho, xC, ce, xt, xL, va, la, gi, gSk, gOd, gIo, gSo, gNa, gSh, gSr, gMa, gTi, gCe) (nI p) (nI l) (nI at_) :=
          fun post h => xq_ask (z := 1) hX hp3 hl ha ek BX (by rw [if_pos own]) h
        have hYp : ∀ (post : Int32 → SY → Prop) (F : Nat), wY_load_17 post (nI p) F 4 (nI at_) (-1) 1 yN (nI (n + 1)) tm hIt py bl dO dP dS dF dG dR dA yB1 yR1 yK yO yA yH yF yG yU yT (upd yb n (nI l)) (upd yc n (nI at_)) yl (upd yp n (nI 1)) so yC yt ho ce yL va la gi ap ys hLi hOp hNa hSh hSr hTi hCe hRe → wY_load_17 post (nI p) (F + 1) (nI l) (nI at_) x6 1 yN (nI n) tm hIt py bl dO dP dS dF dG dR dA yB yR yK yO yA yH yF yG yU yT yb yc yl yp so yC yt ho ce yL va la gi ap ys hLi hOp hNa hSh hSr hTi hCe hRe := by
          intro post F h
          refine hY113 post F (br_f g4 ⟨rd_in (by omega), ?_⟩)
          rw [rd_cl (by omega), eR, rd_m12, rd_48a, nI_add, rd_cl (by omega), show 48 + 12 * p + at_ = 12 * (4 + p) + at_ by omega]
          exact br_t own.1 ⟨rd_in (by omega), br_f own.2 (yq_push (z := 1) (by omega) (by omega) h)⟩
        have nl4 : ¬ nI l = 4 := fun z => absurd ((nI_eq (b := 4) (by omega) (by omega)).mp z) (by omega)
        rcases rd_own (b := n + 1) hD hC1 hp3 (by omega) 12 0 xo (upd yb n (nI l)) (upd yc n (nI at_)) (upd yp n (nI 1)) (fun _ => 0) at_ (-1) rfl (fun i hi => by omega) (fun i j h1 h2 => by omega) (fun i hi => by
            by_cases e : i = n
            · subst e; rw [pk_us]; exact nl4
            · rw [pk_un e, (hent i (by omega)).2.2.2.1]; exact nl4) ha (fun i hi => by omega) with ⟨e, xo1, yb1, yc1, yp1, yk1, h1, h2, X1, Y1⟩ | ⟨T', c1, c1', j, xo1, yb1, yc1, yp1, yk1, r0, rE, r1, r2, r3, r4, r5, X1, Y1⟩
        · obtain ⟨k1, k2, k3, k4⟩ := rd_neg e h1 h2
          refine ⟨_, _, _, xc, xo1, yb1, yc1, yp1, yk1, -nI e, -nI e, hC1, rd_TE_rfl _, Or.inl ⟨e, h1, h2, rfl, rfl⟩, fun post hp => ⟨1, hask _ (br_f (by decide) ?_)⟩, fun post hp => ?_⟩
          · exact X1 _ (br_t k4 (br_f k1 (br_f k1 (br_f k2 (br_f k3 hp)))))
          · obtain ⟨F, hF⟩ := Y1 post hp
            exact ⟨F + 1, hYp post F hF⟩
        · obtain ⟨N', P', sh', fl', sg', st', pr', kn'⟩ := T'
          obtain ⟨xB2, xR2, xK2, xU2, xH2, xF2, xG2, xT2⟩ := c1
          obtain ⟨yN2, yB2, yR2, yK2, yO2, yA2, yH2, yF2, yG2, yU2, yT2⟩ := c1'
          dsimp only [rd_N, rd_P, rd_kn] at r1 r2 r3 r4 X1
          have hk' : kn' (12 * (5 * p + l) + at_) = none := by rw [r4 _ (by omega) (by omega)]; exact ek
          have hC2 : rd_CR (N', P', sh', fl', sg', st', pr', rd_u kn' (12 * (5 * p + l) + at_) (some j)) (xB2, xR2, upd xK2 (12 * (5 * p + l) + at_) (nI (P' j)), xU2, xH2, xF2, xG2, xT2) (yN2, yB2, yR2, upd yK2 (12 * (5 * p + l) + at_) (nI j), yO2, yA2, yH2, yF2, yG2, yU2, yT2) :=
            ⟨rd_delI r0.1 hk' r1 (by unfold rd_up; omega), rd_delX r0.2.1, rd_delY r0.2.2.1, r0.2.2.2⟩
          have hP' := (r0.1.1 j r1).1
          obtain ⟨T2, c2, c2', rx, ry, q0, qE, qR, X2, Y2⟩ := rd_cdef (l := l) (nm := nm) (xc := xc) (xo := xo1) (yb := yb1) (yc := yc1) (yp := yp1) (yk := yk1) hD hp3 hl n N' P' sh' fl' sg' st' pr' _ _ _ (some j) hC2 (by omega) (fun i hi => by
              obtain ⟨b1, b2, b3, b4, b5, b6⟩ := hent i hi
              obtain ⟨s1, s2, s3⟩ := r5 i (by omega)
              have := hna i hi
              refine ⟨b1, b2, ?_, ?_, ?_, ?_⟩
              · rw [rd_un (by omega), r4 _ (by omega) (by omega)]; exact b3
              · rw [s1, pk_un (by omega)]; exact b4
              · rw [s2, pk_un (by omega)]; exact b5
              · rw [s3, pk_un (by omega)]; exact b6) hdist (fun i e => by cases e; exact ⟨r1, r2, Or.inr r3⟩) (fun _ z => nomatch z)
          refine ⟨T2, c2, c2', xc, xo1, yb1, yc1, yp1, yk1, rx, ry, q0, rd_TE_tr rE qE, qR, fun post hp => ⟨1, hask _ (br_f (by decide) ?_)⟩, fun post hp => ?_⟩
          · obtain ⟨k1, k2, k3, k4⟩ := rd_k0 hP'
            refine X1 _ (br_f k4 ?_)
            rw [rd_cl (by omega), rd_ns16 (by omega)]
            refine ⟨rd_in (by omega), nm_e (br_f k1 (br_f k1 (br_f k2 (br_t k3 (X2 post hp)))))⟩
          · obtain ⟨F, hF⟩ := Y2 post hp
            obtain ⟨s1, s2, s3⟩ := r5 n (by omega)
            rw [pk_us] at s1 s2 s3
            have en : (nI n).toNatClampNeg = n := rd_cl (by omega)
            obtain ⟨G, hG⟩ := Y1 post ⟨F + 1, by
              rw [rd_idx]
              refine br_f (nI_pos (by omega)) ⟨rd_in (by omega), nm_r (by rw [en]; exact s1) ⟨rd_in (by omega), nm_r (by rw [en]; exact s2) ⟨rd_in (by omega), br_f (by rw [en, s3]; decide) (yq_115 hp3 (by omega) ha ?_)⟩⟩⟩
              rw [show nI n + (-1) = nI n - 1 by rw [Int32.sub_eq_add_neg]]
              exact hF⟩
            exact ⟨G + 1, hYp post G hG⟩
      · -- the codebase's loader does it itself
        have hask : ∀ post : Int32 → SX → Prop, wX_ask_68 post (nI p) (nI l) (nI at_) (nI (12 * (5 * p + l) + at_)) (nI 0) li nw gIt pa ab dO dP dS dF dG dR dA xB1 xR1 xK xU xH xF xG xT xc xo xl so ho xC ce xt xL va la gi gSk gOd gIo gSo gNa gSh gSr gMa gTi gCe → wpX_ask post (li, nw, gIt, pa, ab, dO, dP, dS, dF, dG, dR, dA, xB, xR, xK, xU, xH, xF, xG, xT, xc, xo, xl, so, ho, xC, ce, xt, xL, va, la, gi, gSk, gOd, gIo, gSo, gNa, gSh, gSr, gMa, gTi, gCe) (nI p) (nI l) (nI at_) :=
          fun post h => xq_ask (z := 0) hX hp3 hl ha ek BX (by rw [if_neg own]) h
        have hd : 12 * l + at_ < 84 := by omega
        have ed : (nI (12 * l + at_)).toNatClampNeg = 12 * l + at_ := rd_cl (by omega)
        have hY167 : ∀ (post : Int32 → SY → Prop) (F : Nat), wY_wrong_14 (fun r_57 => (((r_57 ≤ 0 → (wpY_push (fun u => match u with | (yN, yk, tm, hIt, py, bl, dO, dP, dS, dF, dG, dR, dA, yB, yR, yK, yO, yA, yH, yF, yG, yU, yT, yb, yc, yl, yp, so, yC, yt, ho, ce, yL, va, la, gi, ap, ys, hLi, hOp, hNa, hSh, hSr, hTi, hCe, hRe) => (vp_in (nI (12 * l + at_)) 84 ∧ ((((dP (nI (12 * l + at_)).toNatClampNeg) < 0 → (wY_load_211 post (wY_load_17 post (nI p) F) (nI p) (nI l) (nI at_) (-1) (nI (12 * l + at_)) 0 yN yk tm hIt py bl dO dP dS dF dG dR dA yB yR yK yO yA yH yF yG yU yT yb yc yl yp so yC yt ho ce yL va la gi ap ys hLi hOp hNa hSh hSr hTi hCe hRe)) ∧ (¬ (dP (nI (12 * l + at_)).toNatClampNeg) < 0 → (wY_load_211 post (wY_load_17 post (nI p) F) (nI p) (nI l) (nI at_) (-1) (nI (12 * l + at_)) 1 yN yk tm hIt py bl dO dP dS dF dG dR dA yB yR yK yO yA yH yF yG yU yT yb yc yl yp so yC yt ho ce yL va la gi ap ys hLi hOp hNa hSh hSr hTi hCe hRe)))))) (yN, nI n, tm, hIt, py, bl, dO, dP, dS, dF, dG, dR, dA, yB1, yR1, yK, yO, yA, yH, yF, yG, yU, yT, yb, yc, yl, yp, so, yC, yt, ho, ce, yL, va, la, gi, ap, ys, hLi, hOp, hNa, hSh, hSr, hTi, hCe, hRe) (nI l) (nI at_) 0)) ∧ (¬ r_57 ≤ 0 → (post (-r_57) (yN, nI n, tm, hIt, py, bl, dO, dP, dS, dF, dG, dR, dA, yB1, yR1, yK, yO, yA, yH, yF, yG, yU, yT, yb, yc, yl, yp, so, yC, yt, ho, ce, yL, va, la, gi, ap, ys, hLi, hOp, hNa, hSh, hSr, hTi, hCe, hRe)))))) (nI l) (nI at_) (nI l) 12 yN (nI n) tm hIt py bl dO dP dS dF dG dR dA yB1 yR1 yK yO yA yH yF yG yU yT yb yc yl yp so yC yt ho ce yL va la gi ap ys hLi hOp hNa hSh hSr hTi hCe hRe → wY_load_17 post (nI p) (F + 1) (nI l) (nI at_) x6 1 yN (nI n) tm hIt py bl dO dP dS dF dG dR dA yB yR yK yO yA yH yF yG yU yT yb yc yl yp so yC yt ho ce yL va la gi ap ys hLi hOp hNa hSh hSr hTi hCe hRe := by
          intro post F h
          refine hY113 post F (br_f g4 ⟨rd_in (by omega), ?_⟩)
          rw [rd_cl (by omega), eR, rd_m12, rd_48a, nI_add, rd_cl (by omega), show 48 + 12 * p + at_ = 12 * (4 + p) + at_ by omega]
          have h167 : wY_load_167 post (wY_load_17 post (nI p) F) (nI p) (nI l) (nI at_) (-1) (nI (12 * l + at_)) yN (nI n) tm hIt py bl dO dP dS dF dG dR dA yB1 yR1 yK yO yA yH yF yG yU yT yb yc yl yp so yC yt ho ce yL va la gi ap ys hLi hOp hNa hSh hSr hTi hCe hRe := br_f g4 h
          by_cases c : ((xR1 (4 * p + l) >>> (nI at_ &&& 31)) &&& 1) = 0
          · have c2 : dO (12 * (4 + p) + at_) = 0 := Classical.byContradiction fun z => own ⟨c, z⟩
            exact br_t c ⟨rd_in (by omega), br_t c2 h167⟩
          · exact br_f c h167
        have fin : ∀ e, 1 ≤ e → e ≤ 5 → (∀ post : Int32 → SX → Prop, post (-nI e) (li, nw, gIt, pa, ab, dO, dP, dS, dF, dG, dR, dA, xB1, xR1, xK, xU, xH, xF, xG, xT, xc, xo, xl, so, ho, xC, ce, xt, xL, va, la, gi, gSk, gOd, gIo, gSo, gNa, gSh, gSr, gMa, gTi, gCe) → wX_ask_68 post (nI p) (nI l) (nI at_) (nI (12 * (5 * p + l) + at_)) (nI 0) li nw gIt pa ab dO dP dS dF dG dR dA xB1 xR1 xK xU xH xF xG xT xc xo xl so ho xC ce xt xL va la gi gSk gOd gIo gSo gNa gSh gSr gMa gTi gCe) →
            (∀ post : Int32 → Prop, post (nI e) → wY_wrong_14 post (nI l) (nI at_) (nI l) 12 yN (nI n) tm hIt py bl dO dP dS dF dG dR dA yB1 yR1 yK yO yA yH yF yG yU yT yb yc yl yp so yC yt ho ce yL va la gi ap ys hLi hOp hNa hSh hSr hTi hCe hRe) →
            ∃ (T' : rt_T) (c1 : rt_CX) (c1' : rt_CY) (xc1 xo1 yb1 yc1 yp1 : rt_F) (yk1 rx ry : Int32), rd_CR T' c1 c1' ∧ rd_TE (N, P, sh, fl, sg, st, pr, kn) T' ∧ rd_RR T' rx ry ∧
              (∀ post : Int32 → SX → Prop, post rx (li, nw, gIt, pa, ab, dO, dP, dS, dF, dG, dR, dA, c1.1, c1.2.1, c1.2.2.1, c1.2.2.2.1, c1.2.2.2.2.1, c1.2.2.2.2.2.1, c1.2.2.2.2.2.2.1, c1.2.2.2.2.2.2.2, xc1, xo1, xl, so, ho, xC, ce, xt, xL, va, la, gi, gSk, gOd, gIo, gSo, gNa, gSh, gSr, gMa, gTi, gCe) → ∃ f, wX_load_18 post (nI p) (nI l) f (nI n) (nI at_) li nw gIt pa ab dO dP dS dF dG dR dA xB xR xK xU xH xF xG xT xc xo xl so ho xC ce xt xL va la gi gSk gOd gIo gSo gNa gSh gSr gMa gTi gCe) ∧
              (∀ post : Int32 → SY → Prop, post ry (c1'.1, yk1, tm, hIt, py, bl, dO, dP, dS, dF, dG, dR, dA, c1'.2.1, c1'.2.2.1, c1'.2.2.2.1, c1'.2.2.2.2.1, c1'.2.2.2.2.2.1, c1'.2.2.2.2.2.2.1, c1'.2.2.2.2.2.2.2.1, c1'.2.2.2.2.2.2.2.2.1, c1'.2.2.2.2.2.2.2.2.2.1, c1'.2.2.2.2.2.2.2.2.2.2, yb1, yc1, yl, yp1, so, yC, yt, ho, ce, yL, va, la, gi, ap, ys, hLi, hOp, hNa, hSh, hSr, hTi, hCe, hRe) → ∃ f, wY_load_17 post (nI p) f (nI l) (nI at_) x6 1 yN (nI n) tm hIt py bl dO dP dS dF dG dR dA yB yR yK yO yA yH yF yG yU yT yb yc yl yp so yC yt ho ce yL va la gi ap ys hLi hOp hNa hSh hSr hTi hCe hRe) := by
          intro e h1 h2 hx hy
          obtain ⟨k1, k2, k3, k4⟩ := rd_neg e h1 h2
          refine ⟨_, _, _, xc, xo, yb, yc, yp, nI n, -nI e, -nI e, hC1, rd_TE_rfl _, Or.inl ⟨e, h1, h2, rfl, rfl⟩, fun post hp => ⟨1, hask _ (hx _ ?_)⟩, fun post hp => ⟨1, hY167 post 0 (hy _ (br_f (nI_nle (by omega) (by omega)) hp))⟩⟩
          exact br_f k1 (br_f k1 (br_f k2 (br_f k3 hp)))
        have e12 : 12 * nI l + nI at_ = nI (12 * l + at_) := by rw [rd_m12, nI_add]
        by_cases hO : dO (12 * l + at_) = 0
        · refine fin 1 (by omega) (by omega) (fun post hp => br_t rfl ?_) (fun post hp => ?_)
          · rw [e12, ed]
            exact ⟨rd_in hd, br_t hO hp⟩
          · unfold wY_wrong_14
            rw [e12]
            exact nm_e ⟨rd_in hd, br_t (by rw [ed]; exact hO) hp⟩
        by_cases h7 : at_ ≤ 7
        case neg =>
          have g7 : ¬ nI at_ ≤ 7 := nI_ge (a := 7) (by omega) (by omega)
          refine fin 2 (by omega) (by omega) (fun post hp => br_t rfl ?_) (fun post hp => ?_)
          · rw [e12, ed]
            exact ⟨rd_in hd, br_f hO (br_f g7 hp)⟩
          · unfold wY_wrong_14
            rw [e12]
            exact nm_e ⟨rd_in hd, br_f (by rw [ed]; exact hO) (br_f g4 (br_f g7 hp))⟩
        have g7 : nI at_ ≤ 7 := nI_le (b := 7) h7 (by omega)
        by_cases hF2 : (dF (12 * l + at_) &&& 2) = 0
        case neg =>
          refine fin 3 (by omega) (by omega) (fun post hp => br_t rfl ?_) (fun post hp => ?_)
          · rw [e12, ed]
            exact ⟨rd_in hd, br_f hO (br_t g7 ⟨rd_in hd, br_f hF2 hp⟩)⟩
          · unfold wY_wrong_14
            rw [e12]
            exact nm_e ⟨rd_in hd, br_f (by rw [ed]; exact hO) (br_f g4 (br_t g7 (br_f g4 ⟨rd_in hd, br_f (by rw [ed]; exact hF2) hp⟩)))⟩
        obtain ⟨⟨mo, em, hmo⟩, _⟩ := hD.1 _ hd
        have hent' : ∀ i, i < n + 1 → upd xc n (nI at_) i = nI (rd_u nm n at_ i) ∧ rd_u nm n at_ i < 12 ∧ kn (12 * (5 * p + l) + rd_u nm n at_ i) = none ∧ upd yb n (nI l) i = nI l ∧ upd yc n (nI at_) i = nI (rd_u nm n at_ i) ∧ upd yp n (nI 0) i = 0 := by
          intro i hi
          by_cases e : i = n
          · subst e
            rw [pk_us, rd_us, pk_us, pk_us, pk_us]
            exact ⟨rfl, ha, ek, rfl, rfl, rfl⟩
          · rw [pk_un e, rd_un e, pk_un e, pk_un e, pk_un e]
            exact hent i (by omega)
        have hdist' : ∀ i j, i < j → j < n + 1 → rd_u nm n at_ i ≠ rd_u nm n at_ j := by
          intro i j hij hj
          rw [rd_un (show i ≠ n by omega)]
          by_cases e : j = n
          · subst e
            rw [rd_us]; exact hna i hij
          · rw [rd_un e]; exact hdist i j hij (by omega)
        have hload : ∀ a, a < 12 → ((∃ k, k < n ∧ yb k = nI l ∧ yc k = nI a ∧ yp k = 0) ↔ ∃ i, i < n ∧ nm i = a) := by
          intro a ha'
          constructor
          · rintro ⟨k, hk, q1, q2, q3⟩
            obtain ⟨_, e2, _, _, e5, _⟩ := hent k hk
            rw [e5] at q2
            exact ⟨k, hk, (nI_eq (by omega) (by omega)).mp q2⟩
          · rintro ⟨i, hi, rfl⟩
            obtain ⟨_, _, _, e4, e5, e6⟩ := hent i hi
            exact ⟨i, hi, e4, e5, e6⟩
        have hXa : ∀ (post : Int32 → SX → Prop) (F : Nat), (∃ n79 : Nat, wX_load_79 post (wX_load_18 post (nI p) (nI l) F) (nI p) (nI l) (nI (n + 1)) (rd_o mo) li nw gIt pa ab dO dP dS dF dG dR dA xB1 xR1 xK xU xH xF xG xT (upd xc n (nI at_)) xo xl so ho xC ce xt xL va la gi gSk gOd gIo gSo gNa gSh gSr gMa gTi gCe n79 (if mo = none then 1001 else 1000) 0) → wX_load_18 post (nI p) (nI l) (F + 1) (nI n) (nI at_) li nw gIt pa ab dO dP dS dF dG dR dA xB xR xK xU xH xF xG xT xc xo xl so ho xC ce xt xL va la gi gSk gOd gIo gSo gNa gSh gSr gMa gTi gCe := by
          intro post F h
          refine hask _ (br_t rfl ?_)
          rw [e12, ed]
          refine ⟨rd_in hd, br_f hO (br_t g7 ⟨rd_in hd, br_t hF2 (br_t rfl (nm_r (nI_1 n) ⟨rd_in hn12, ?_⟩))⟩)⟩
          rw [rd_cl (show n < 3000 by omega), rd_nb8 (by omega)]
          refine nm_e ⟨rd_in hd, ?_⟩
          rw [em]
          refine nm_e ?_
          cases mo with
          | none => exact br_f rd_m1p h
          | some a => exact br_t (nI_pos' (by have := hmo a rfl; omega)) h
        have hYa : ∀ (post : Int32 → SY → Prop) (F : Nat), ((∀ a, mo = some a → (a = at_ ∨ ∃ i, i < n ∧ nm i = a) → post (-nI 4) (yN, nI n, tm, hIt, py, bl, dO, dP, dS, dF, dG, dR, dA, yB1, yR1, yK, yO, yA, yH, yF, yG, yU, yT, yb, yc, yl, yp, so, yC, yt, ho, ce, yL, va, la, gi, ap, ys, hLi, hOp, hNa, hSh, hSr, hTi, hCe, hRe)) ∧ ((∀ a, mo = some a → ¬ (a = at_ ∨ ∃ i, i < n ∧ nm i = a)) → wY_load_17 post (nI p) F (nI l) (rd_oa mo at_) (-1) (rd_ob mo) yN (nI (n + 1)) tm hIt py bl dO dP dS dF dG dR dA yB1 yR1 yK yO yA yH yF yG yU yT (upd yb n (nI l)) (upd yc n (nI at_)) yl (upd yp n (nI 0)) so yC yt ho ce yL va la gi ap ys hLi hOp hNa hSh hSr hTi hCe hRe)) → wY_load_17 post (nI p) (F + 1) (nI l) (nI at_) x6 1 yN (nI n) tm hIt py bl dO dP dS dF dG dR dA yB yR yK yO yA yH yF yG yU yT yb yc yl yp so yC yt ho ce yL va la gi ap ys hLi hOp hNa hSh hSr hTi hCe hRe := by
          intro post F ⟨h4, hok⟩
          refine hY167 post F ?_
          unfold wY_wrong_14
          rw [e12]
          refine nm_e ⟨rd_in hd, br_f (by rw [ed]; exact hO) (br_f g4 (br_t g7 (br_f g4 ⟨rd_in hd, br_t (by rw [ed]; exact hF2) ?_⟩)))⟩
          refine yq_wr63 hd (by omega) ha em hmo (fun z => ?_) (fun a e z => ?_) (fun a e z => ?_)
          · exact br_t (Int32.le_refl _) (yq_push (z := 0) (by omega) (by omega) (yq_211 hd em hmo (hok (fun a e => by rw [z] at e; exact nomatch e))))
          · exact br_f (by decide) (h4 a e (z.imp id ((hload a (hmo a e)).mp)))
          · refine br_t (Int32.le_refl _) (yq_push (z := 0) (by omega) (by omega) (yq_211 hd em hmo (hok (fun a' e' q => ?_))))
            rw [e] at e'
            cases e'
            exact z (q.imp id ((hload a (hmo a e)).mpr))
        cases mo with
        | none =>
          obtain ⟨T', c1, c1', rx, ry, r0, rE, rR, X1, Y1⟩ := rd_cdef (l := l) (nm := rd_u nm n at_) (xc := upd xc n (nI at_)) (yb := upd yb n (nI l)) (yc := upd yc n (nI at_)) (yp := upd yp n (nI 0)) (yk := nI (n + 1)) hD hp3 hl (n + 1) N P sh fl sg st pr kn _ _ none hC1 (by omega) hent' hdist' (fun i e => nomatch e) (fun z => by omega)
          refine ⟨T', c1, c1', upd xc n (nI at_), xo, upd yb n (nI l), upd yc n (nI at_), upd yp n (nI 0), nI (n + 1), rx, ry, r0, rE, rR, fun post hp => ?_, fun post hp => ?_⟩
          · refine ⟨1, hXa post 0 ⟨1, br_f (nI_nle (by omega) (by omega)) (br_t rd_m1n ?_)⟩⟩
            exact br_f (by decide) (br_t rfl (X1 post hp))
          · exact ⟨2, hYa post 1 ⟨fun a e => (nomatch e), fun _ => br_t rfl (yq_230 (Y1 post hp))⟩⟩
        | some a =>
          have ha12 := hmo a rfl
          have hcv : rd_cv (rd_u nm n at_) a (n + 1) 1000 = if (rd_mem (rd_u nm n at_) a (n + 1) = true) then -4 else 1000 := rfl
          have hmm := rd_mem_iff (rd_u nm n at_) a (n + 1)
          have hcirc : (∃ i, i < n + 1 ∧ rd_u nm n at_ i = a) ↔ (a = at_ ∨ ∃ i, i < n ∧ nm i = a) := by
            constructor
            · rintro ⟨i, hi, e⟩
              by_cases c : i = n
              · subst c; rw [rd_us] at e; exact Or.inl e.symm
              · rw [rd_un c] at e; exact Or.inr ⟨i, by omega, e⟩
            · rintro (e | ⟨i, hi, e⟩)
              · exact ⟨n, by omega, by rw [rd_us]; exact e.symm⟩
              · exact ⟨i, by omega, by rw [rd_un (by omega)]; exact e⟩
          by_cases circ : a = at_ ∨ ∃ i, i < n ∧ nm i = a
          · refine ⟨_, _, _, upd xc n (nI at_), xo, yb, yc, yp, nI n, -nI 4, -nI 4, hC1, rd_TE_rfl _, Or.inl ⟨4, by omega, by omega, rfl, rfl⟩, fun post hp => ⟨1, hXa post 0 (xq_c79 (nm := rd_u nm n at_) (by omega) (fun i hi => ⟨(hent' i hi).1, (hent' i hi).2.1⟩) ha12 ?_)⟩, fun post hp => ⟨1, hYa post 0 ⟨fun _ _ _ => hp, fun z => absurd circ (z a rfl)⟩⟩⟩
            rw [show (if (some a : Option Nat) = none then (1001 : Int32) else 1000) = 1000 from rfl, hcv, if_pos (hmm.mpr (hcirc.mpr circ))]
            exact br_f (by decide) (br_f (by decide) (br_f (by decide) hp))
          · obtain ⟨T', c1, c1', xc1, xo1, yb1, yc1, yp1, yk1, rx, ry, r0, rE, rR, X1, Y1⟩ := ih (n + 1) xB1 xR1 yB1 yR1 (upd xc n (nI at_)) (upd yb n (nI l)) (upd yc n (nI at_)) (upd yp n (nI 0)) (rd_u nm n at_) a (-1) (by omega) hC1 hent' hdist' ha12 (fun i hi z => circ (hcirc.mp ⟨i, hi, z⟩))
            refine ⟨T', c1, c1', xc1, xo1, yb1, yc1, yp1, yk1, rx, ry, r0, rE, rR, fun post hp => ?_, fun post hp => ?_⟩
            · obtain ⟨F, hF⟩ := X1 post hp
              refine ⟨F + 1, hXa post F (xq_c79 (nm := rd_u nm n at_) (by omega) (fun i hi => ⟨(hent' i hi).1, (hent' i hi).2.1⟩) ha12 ?_)⟩
              rw [show (if (some a : Option Nat) = none then (1001 : Int32) else 1000) = 1000 from rfl, hcv, if_neg (fun z => circ (hcirc.mp (hmm.mp z)))]
              exact br_t rfl hF
            · obtain ⟨F, hF⟩ := Y1 post hp
              exact ⟨F + 1, hYa post F ⟨fun a' e q => by cases e; exact absurd q circ, fun _ => hF⟩⟩
end
end
section
/-! load over groups; ready -/
theorem rd_load {T : rt_T} {d : rt_D} {c : rt_CX} {c' : rt_CY} {t : rt_TX} {t' : rt_TY} {pa ab py bl : Int32} {w : rt_W} {o : rt_OX} {o' : rt_OY} {ys : rt_F} {g : rt_GX} {g' : rt_GY} {p l n : Nat}
    (hD : rd_DI d) (hC : rd_CR T c c') (hp3 : p < 3) (hl : l < 5) (hn : n < 12) :
    ∃ (T' : rt_T) (c1 : rt_CX) (c1' : rt_CY) (t1 : rt_TX) (t1' : rt_TY) (rx ry : Int32), rd_CR T' c1 c1' ∧ rd_TE T T' ∧ rd_RR T' rx ry ∧
      (∀ post : Int32 → SX → Prop, post rx (rd_X pa ab d c1 t1 w o g) → wpX_load post (rd_X pa ab d c t w o g) (nI p) (nI l) (nI n)) ∧
      (∀ post : Int32 → SY → Prop, post ry (rd_Y py bl d c1' t1' w o' ys g') → wpY_load post (rd_Y py bl d c' t' w o' ys g') (nI p) (nI l) (nI n)) := by
  obtain ⟨N, P, sh, fl, sg, st, pr, kn⟩ := T
  obtain ⟨dO, dP, dS, dF, dG, dR, dA⟩ := d
  obtain ⟨xB, xR, xK, xU, xH, xF, xG, xT⟩ := c
  obtain ⟨yN, yB, yR, yK, yO, yA, yH, yF, yG, yU, yT⟩ := c'
  obtain ⟨xc, xo, xl⟩ := t
  obtain ⟨yk, yb, yc, yl, yp⟩ := t'
  obtain ⟨so, ho, ce, va, la, gi⟩ := w
  obtain ⟨li, nw, xC, xt, xL⟩ := o
  obtain ⟨tm, yC, yt, yL, ap⟩ := o'
  obtain ⟨gIt, gSk, gOd, gIo, gSo, gNa, gSh, gSr, gMa, gTi, gCe⟩ := g
  obtain ⟨hIt, hLi, hOp, hNa, hSh, hSr, hTi, hCe, hRe⟩ := g'
  by_cases h4 : l = 4
  · subst h4
    rcases rd_own (b := 0) hD hC hp3 (by omega) 12 0 xo yb yc yp (fun _ => 0) n (-1) rfl (fun i hi => by omega) (fun i j h1 h2 => by omega) (fun i hi => by omega) hn (fun i hi => by omega) with ⟨e, xo1, yb1, yc1, yp1, yk1, h1, h2, X1, Y1⟩ | ⟨T', c1, c1', j, xo1, yb1, yc1, yp1, yk1, r0, rE, r1, r2, r3, r4, r5, X1, Y1⟩
    · exact ⟨_, _, _, (xc, xo1, xl), (yk1, yb1, yc1, yl, yp1), -nI e, -nI e, hC, rd_TE_rfl _, Or.inl ⟨e, h1, h2, rfl, rfl⟩, fun post hp => br_t rfl (X1 _ hp), fun post hp => Y1 post hp⟩
    · exact ⟨T', c1, c1', (xc, xo1, xl), (yk1, yb1, yc1, yl, yp1), nI (rd_P T' j), nI j, r0, rE, Or.inr ⟨j, r1, rfl, rfl⟩, fun post hp => br_t rfl (X1 _ hp), fun post hp => Y1 post ⟨1, br_t (by decide) hp⟩⟩
  · obtain ⟨T', c1, c1', xc1, xo1, yb1, yc1, yp1, yk1, rx, ry, r0, rE, rR, X1, Y1⟩ := rd_cb hD hp3 (show l < 4 by omega) 12 0 xB xR yB yR xc yb yc yp (fun _ => 0) n (-1) rfl hC (fun i hi => by omega) (fun i j h1 h2 => by omega) hn (fun i hi => by omega)
    exact ⟨T', c1, c1', (xc1, xo1, xl), (yk1, yb1, yc1, yl, yp1), rx, ry, r0, rE, rR, fun post hp => br_f (fun z => h4 ((nI_eq (b := 4) (by omega) (by omega)).mp z)) (X1 post hp), fun post hp => Y1 post hp⟩
section
variable {N p l : Nat} {P sh fl sg st : Nat → Nat} {pr kn : Nat → Option Nat}
variable {li gIt pa ab yN yk tm hIt py bl : Int32} {dO dP dS dF dG dR dA xB xR xK xU xH xF xG xT xc xo xl so ho xC ce xt va la gi gSk gOd gIo gSo gNa gSh gSr gMa gTi gCe yB yR yK yO yA yH yF yG yU yT yb yc yl yp yC yt yL ap ys hLi hOp hNa hSh hSr hTi hCe hRe : Nat → Int32} {nw : Int64} {xL : Nat → Int64}
/-- up the chain of parents while they are fresh -/
theorem rd_rdy1 (hI : rd_TI (N, P, sh, fl, sg, st, pr, kn)) (hX : rd_TX (N, P, sh, fl, sg, st, pr, kn) (xB, xR, xK, xU, xH, xF, xG, xT)) (hY : rd_TY (N, P, sh, fl, sg, st, pr, kn) (yN, yB, yR, yK, yO, yA, yH, yF, yG, yU, yT)) : ∀ (m n : Nat) (js : Nat → Nat) (xl yl : rt_F) (cur : Option Nat),
    (∀ j, cur = some j → j < m ∧ j < N ∧ P j / 60 = p ∧ (P j / 12 % 5 = l ∨ P j / 12 % 5 = 4) ∧ ∀ i, i < n → j < js i) → n ≤ 24 →
    (∀ i, i < n → xl i = nI (P (js i)) ∧ yl i = nI (js i) ∧ js i < N ∧ P (js i) / 60 = p ∧ (P (js i) / 12 % 5 = l ∨ P (js i) / 12 % 5 = 4)) → (∀ i j, i < j → j < n → js j < js i) →
    ∃ (n' : Nat) (js' : Nat → Nat) (xl' yl' : rt_F) (cur' : Option Nat), n' ≤ 24 ∧ (∀ i, i < n' → xl' i = nI (P (js' i)) ∧ yl' i = nI (js' i) ∧ js' i < N) ∧ (∀ j, cur' = some j → j < N) ∧
      (∀ post : Int32 → SX → Prop, wX_ready_38 post (nI n') (rd_o (cur'.map P)) li nw gIt pa ab dO dP dS dF dG dR dA xB xR xK xU xH xF xG xT xc xo xl' so ho xC ce xt xL va la gi gSk gOd gIo gSo gNa gSh gSr gMa gTi gCe → ∃ f, wX_ready_4 post li nw gIt pa ab f (nI n) (rd_o (cur.map P)) dO dP dS dF dG dR dA xB xR xK xU xH xF xG xT xc xo xl so ho xC ce xt xL va la gi gSk gOd gIo gSo gNa gSh gSr gMa gTi gCe) ∧
      (∀ post : Int32 → SY → Prop, wY_ready_37 post (nI n') (rd_o cur') yN yk tm hIt py bl dO dP dS dF dG dR dA yB yR yK yO yA yH yF yG yU yT yb yc yl' yp so yC yt ho ce yL va la gi ap ys hLi hOp hNa hSh hSr hTi hCe hRe → ∃ f, wY_ready_4 post yN yk tm hIt py bl f (nI n) (rd_o cur) dO dP dS dF dG dR dA yB yR yK yO yA yH yF yG yU yT yb yc yl yp so yC yt ho ce yL va la gi ap ys hLi hOp hNa hSh hSr hTi hCe hRe) := by
  intro m
  induction m with
  | zero =>
    intro n js xl yl cur hcur hn hent hdec
    cases cur with
    | none => exact ⟨n, js, xl, yl, none, hn, fun i hi => ⟨(hent i hi).1, (hent i hi).2.1, (hent i hi).2.2.1⟩, fun j e => (nomatch e), fun post h => ⟨1, br_t rd_m1n h⟩, fun post h => ⟨1, br_t rd_m1n h⟩⟩
    | some j => have := (hcur j rfl).1; omega
  | succ m ih =>
    intro n js xl yl cur hcur hn hent hdec
    cases cur with
    | none => exact ⟨n, js, xl, yl, none, hn, fun i hi => ⟨(hent i hi).1, (hent i hi).2.1, (hent i hi).2.2.1⟩, fun j e => (nomatch e), fun post h => ⟨1, br_t rd_m1n h⟩, fun post h => ⟨1, br_t rd_m1n h⟩⟩
    | some j =>
      obtain ⟨c1, c2, c3, c4, c5⟩ := hcur j rfl
      have hN := rd_NB' hI
      have hP := (hI.1 j c2).1
      have hst := (hI.1 j c2).2.2.2.2.2
      obtain ⟨x1, _, _, _, x5⟩ := hX.2 j c2
      obtain ⟨_, _, y3, _, _, _, y7⟩ := hY.2.2 j c2
      by_cases hs : st j = 0
      · -- fresh: one more
        have hn24 : n < 24 := by
          refine rd_php1 (f := fun i => if P (js i) / 12 % 5 = 4 then P (js i) % 12 else 12 + P (js i) % 12) (x := if P j / 12 % 5 = 4 then P j % 12 else 12 + P j % 12) (fun i hi => ?_) (fun i i' hi hi' => ?_) ?_ (fun i hi => ?_)
          · split <;> omega
          · have a := hent i (by omega)
            have b := hent i' hi'
            have d := hdec i i' hi hi'
            have inj : P (js i) ≠ P (js i') := fun e => by have := rd_inj hI a.2.2.1 b.2.2.1 e; omega
            split <;> split <;> omega
          · split <;> omega
          · have a := hent i hi
            have d := c5 i hi
            have inj : P (js i) ≠ P j := fun e => by have := rd_inj hI a.2.2.1 c2 e; omega
            split <;> split <;> omega
        obtain ⟨n', js', xl', yl', cur', r1, r2, r3, X1, Y1⟩ := ih (n + 1) (rd_u js n j) (upd xl n (nI (P j))) (upd yl n (nI j)) (pr j) (fun i e => by
            obtain ⟨u1, u2⟩ := hI.2.2.1 j c2 i e
            unfold rd_up at u2
            refine ⟨by omega, by omega, by omega, by omega, fun q hq => ?_⟩
            by_cases eq : q = n
            · subst eq; rw [rd_us]; exact u1
            · rw [rd_un eq]; have := c5 q (by omega); omega) (by omega) (fun i hi => by
            by_cases eq : i = n
            · subst eq; rw [rd_us, pk_us, pk_us]; exact ⟨rfl, rfl, c2, c3, c4⟩
            · rw [rd_un eq, pk_un eq, pk_un eq]; exact hent i (by omega)) (fun i i' hi hi' => by
            rw [rd_un (show i ≠ n by omega)]
            by_cases eq : i' = n
            · subst eq; rw [rd_us]; exact c5 i hi
            · rw [rd_un eq]; exact hdec i i' hi (by omega))
        refine ⟨n', js', xl', yl', cur', r1, r2, r3, fun post h => ?_, fun post h => ?_⟩
        · obtain ⟨F, hF⟩ := X1 post h
          refine ⟨F + 1, ?_⟩
          rw [show rd_o (Option.map P (some j)) = nI (P j) from rfl]
          refine br_f (nI_pos (by omega)) ⟨rd_in hP, ?_⟩
          rw [rd_cl (by omega), x5, hs]
          refine br_t rfl (nm_r (nI_1 n) ⟨rd_in hn24, ?_⟩)
          rw [rd_cl (by omega), rd_ns16 (by omega)]
          exact nm_e ⟨rd_in hP, nm_r x1 hF⟩
        · obtain ⟨F, hF⟩ := Y1 post h
          refine ⟨F + 1, ?_⟩
          rw [rd_o1]
          refine br_f (nI_pos (by omega)) ⟨rd_in (by omega), ?_⟩
          rw [rd_cl (show j < 3000 by omega), y7, hs]
          refine br_t rfl ⟨rd_in (by omega), ?_⟩
          rw [rd_cl (show n < 3000 by omega)]
          exact nm_e (nm_r (nI_1 n) ⟨rd_in (by omega), nm_r y3 hF⟩)
      · have hs' : ¬ nI (st j) = 0 := nI_ne0 (by omega) (by omega)
        refine ⟨n, js, xl, yl, some j, hn, fun i hi => ⟨(hent i hi).1, (hent i hi).2.1, (hent i hi).2.2.1⟩, fun i e => by cases e; exact c2, fun post h => ⟨1, ?_⟩, fun post h => ⟨1, ?_⟩⟩
        · rw [show rd_o (Option.map P (some j)) = nI (P j) from rfl]
          refine br_f (nI_pos (by omega)) ⟨rd_in hP, br_f ?_ h⟩
          rw [rd_cl (by omega), x5]; exact hs'
        · rw [rd_o1]
          refine br_f (nI_pos (by omega)) ⟨rd_in (by omega), br_f ?_ h⟩
          rw [rd_cl (by omega), y7]; exact hs'
/-- down again -/
theorem rd_rdy2 {js : Nat → Nat} : ∀ (n : Nat) (st : Nat → Nat) (xT yT : rt_F) (e : Nat), n ≤ 24 → (∀ i, i < n → xl i = nI (P (js i)) ∧ yl i = nI (js i) ∧ js i < N) → e < 8 → rd_CR (N, P, sh, fl, sg, st, pr, kn) (xB, xR, xK, xU, xH, xF, xG, xT) (yN, yB, yR, yK, yO, yA, yH, yF, yG, yU, yT) →
    ∃ (st' : Nat → Nat) (xT' yT' : rt_F) (e' : Nat), e' < 8 ∧ rd_CR (N, P, sh, fl, sg, st', pr, kn) (xB, xR, xK, xU, xH, xF, xG, xT') (yN, yB, yR, yK, yO, yA, yH, yF, yG, yU, yT') ∧
      (∀ post : Int32 → SX → Prop, post (nI e') (li, nw, gIt, pa, ab, dO, dP, dS, dF, dG, dR, dA, xB, xR, xK, xU, xH, xF, xG, xT', xc, xo, xl, so, ho, xC, ce, xt, xL, va, la, gi, gSk, gOd, gIo, gSo, gNa, gSh, gSr, gMa, gTi, gCe) → ∃ f, wX_ready_60 post li nw gIt pa ab f (nI n) (nI e) dO dP dS dF dG dR dA xB xR xK xU xH xF xG xT xc xo xl so ho xC ce xt xL va la gi gSk gOd gIo gSo gNa gSh gSr gMa gTi gCe) ∧
      (∀ post : Int32 → SY → Prop, post (nI e') (yN, yk, tm, hIt, py, bl, dO, dP, dS, dF, dG, dR, dA, yB, yR, yK, yO, yA, yH, yF, yG, yU, yT', yb, yc, yl, yp, so, yC, yt, ho, ce, yL, va, la, gi, ap, ys, hLi, hOp, hNa, hSh, hSr, hTi, hCe, hRe) → ∃ f, wY_ready_64 post yN yk tm hIt py bl f (nI e) (nI n - 1) dO dP dS dF dG dR dA yB yR yK yO yA yH yF yG yU yT yb yc yl yp so yC yt ho ce yL va la gi ap ys hLi hOp hNa hSh hSr hTi hCe hRe) := by
  intro n
  induction n with
  | zero =>
    intro st xT yT e _ _ he hC
    exact ⟨st, xT, yT, e, he, hC, fun post hp => ⟨1, br_t (Int32.le_refl _) hp⟩, fun post hp => ⟨1, br_t (by decide) hp⟩⟩
  | succ n ih =>
    intro st xT yT e hn hent he hC
    obtain ⟨a1, a2, a3⟩ := hent n (by omega)
    obtain ⟨hI, hX, hY, hL⟩ := hC
    have hN := rd_NB' hI
    have hP := (hI.1 (js n) a3).1
    obtain ⟨_, _, x3, _, _⟩ := hX.2 (js n) a3
    obtain ⟨_, _, _, _, y5, _, _⟩ := hY.2.2 (js n) a3
    -- the error after this one
    have step : ∀ e2 v, e2 < 8 → v < 3 → rd_CR (N, P, sh, fl, sg, rd_u st (js n) v, pr, kn) (xB, xR, xK, xU, xH, xF, xG, upd xT (P (js n)) (nI v)) (yN, yB, yR, yK, yO, yA, yH, yF, yG, yU, upd yT (js n) (nI v)) := by
      intro e2 v _ hv
      refine ⟨⟨fun j hj => ?_, hI.2.1, hI.2.2.1, hI.2.2.2⟩, ⟨hX.1, fun j hj => ?_⟩, ⟨hY.1, hY.2.1, fun j hj => ?_⟩, hL⟩
      · obtain ⟨b1, b2, b3, b4, b5, b6⟩ := hI.1 j hj
        refine ⟨b1, b2, b3, b4, b5, ?_⟩
        by_cases q : j = js n
        · rw [q, rd_us]; exact hv
        · rw [rd_un q]; exact b6
      · obtain ⟨b1, b2, b3, b4, b5⟩ := hX.2 j hj
        refine ⟨b1, b2, b3, b4, ?_⟩
        by_cases q : j = js n
        · rw [q, rd_us, pk_us]
        · rw [rd_un q, pk_un (fun z => q (rd_inj hI hj a3 z))]; exact b5
      · obtain ⟨b1, b2, b3, b4, b5, b6, b7⟩ := hY.2.2 j hj
        refine ⟨b1, b2, b3, b4, b5, b6, ?_⟩
        by_cases q : j = js n
        · rw [q, rd_us, pk_us]
        · rw [rd_un q, pk_un q]; exact b7
    have en : (nI n).toNatClampNeg = n := rd_cl (by omega)
    have ex : (nI (P (js n))).toNatClampNeg = P (js n) := rd_cl (by omega)
    have ey : (nI (js n)).toNatClampNeg = js n := rd_cl (by omega)
    have fin : ∀ e2 v, e2 < 8 → v < 3 → ((e2 = 0 ∧ v = 1) ∨ (¬ e2 = 0 ∧ v = 2)) →
        (∀ (post : Int32 → SX → Prop) F, wX_ready_94 post (wX_ready_60 post li nw gIt pa ab F) (nI n) (nI (P (js n))) (nI e2) li nw gIt pa ab dO dP dS dF dG dR dA xB xR xK xU xH xF xG xT xc xo xl so ho xC ce xt xL va la gi gSk gOd gIo gSo gNa gSh gSr gMa gTi gCe → wX_ready_60 post li nw gIt pa ab (F + 1) (nI (n + 1)) (nI e) dO dP dS dF dG dR dA xB xR xK xU xH xF xG xT xc xo xl so ho xC ce xt xL va la gi gSk gOd gIo gSo gNa gSh gSr gMa gTi gCe) →
        (∀ (post : Int32 → SY → Prop) F, wY_ready_95 post (wY_ready_64 post yN yk tm hIt py bl F) (nI e2) (nI n) yN yk tm hIt py bl dO dP dS dF dG dR dA yB yR yK yO yA yH yF yG yU yT yb yc yl yp so yC yt ho ce yL va la gi ap ys hLi hOp hNa hSh hSr hTi hCe hRe → wY_ready_64 post yN yk tm hIt py bl (F + 1) (nI e) (nI n) dO dP dS dF dG dR dA yB yR yK yO yA yH yF yG yU yT yb yc yl yp so yC yt ho ce yL va la gi ap ys hLi hOp hNa hSh hSr hTi hCe hRe) →
        ∃ (st' : Nat → Nat) (xT' yT' : rt_F) (e' : Nat), e' < 8 ∧ rd_CR (N, P, sh, fl, sg, st', pr, kn) (xB, xR, xK, xU, xH, xF, xG, xT') (yN, yB, yR, yK, yO, yA, yH, yF, yG, yU, yT') ∧
          (∀ post : Int32 → SX → Prop, post (nI e') (li, nw, gIt, pa, ab, dO, dP, dS, dF, dG, dR, dA, xB, xR, xK, xU, xH, xF, xG, xT', xc, xo, xl, so, ho, xC, ce, xt, xL, va, la, gi, gSk, gOd, gIo, gSo, gNa, gSh, gSr, gMa, gTi, gCe) → ∃ f, wX_ready_60 post li nw gIt pa ab f (nI (n + 1)) (nI e) dO dP dS dF dG dR dA xB xR xK xU xH xF xG xT xc xo xl so ho xC ce xt xL va la gi gSk gOd gIo gSo gNa gSh gSr gMa gTi gCe) ∧
          (∀ post : Int32 → SY → Prop, post (nI e') (yN, yk, tm, hIt, py, bl, dO, dP, dS, dF, dG, dR, dA, yB, yR, yK, yO, yA, yH, yF, yG, yU, yT', yb, yc, yl, yp, so, yC, yt, ho, ce, yL, va, la, gi, ap, ys, hLi, hOp, hNa, hSh, hSr, hTi, hCe, hRe) → ∃ f, wY_ready_64 post yN yk tm hIt py bl f (nI e) (nI (n + 1) - 1) dO dP dS dF dG dR dA yB yR yK yO yA yH yF yG yU yT yb yc yl yp so yC yt ho ce yL va la gi ap ys hLi hOp hNa hSh hSr hTi hCe hRe) := by
      intro e2 v he2 hv hev hx hy
      obtain ⟨st', xT', yT', e', r1, r2, X1, Y1⟩ := ih (rd_u st (js n) v) (upd xT (P (js n)) (nI v)) (upd yT (js n) (nI v)) e2 (by omega) (fun i hi => hent i (by omega)) he2 (step e2 v he2 hv)
      refine ⟨st', xT', yT', e', r1, r2, fun post hp => ?_, fun post hp => ?_⟩
      · obtain ⟨F, hF⟩ := X1 post hp
        refine ⟨F + 1, hx post F ?_⟩
        unfold wX_ready_94
        rcases hev with ⟨q1, q2⟩ | ⟨q1, q2⟩
        · subst q1 q2
          refine br_t rfl ⟨rd_in hP, ?_⟩
          rw [ex, show (1 : Int32) = nI 1 from rfl, rd_nb8 (by omega)]
          exact nm_e hF
        · subst q2
          refine br_f (nI_ne0 (by omega) (by omega)) ⟨rd_in hP, ?_⟩
          rw [ex, show (2 : Int32) = nI 2 from rfl, rd_nb8 (by omega)]
          exact nm_e hF
      · obtain ⟨F, hF⟩ := Y1 post hp
        refine ⟨F + 1, ?_⟩
        rw [rd_idx]
        refine hy post F ?_
        have e1 : nI n + (-1) = nI n - 1 := by rw [Int32.sub_eq_add_neg]
        unfold wY_ready_95
        rw [en, a2, ey, e1]
        rcases hev with ⟨q1, q2⟩ | ⟨q1, q2⟩
        · subst q1 q2
          exact ⟨rd_in (by omega), br_t rfl ⟨rd_in (by omega), nm_e (nm_e hF)⟩⟩
        · subst q2
          exact ⟨rd_in (by omega), br_f (nI_ne0 (by omega) (by omega)) ⟨rd_in (by omega), nm_e (nm_e hF)⟩⟩
    have hxh : ∀ (post : Int32 → SX → Prop) F, (((nI e = 0 → (vp_in (nI (P (js n))) 180 ∧ (((((nI (fl (js n))) &&& 4) = 0 → (wX_ready_94 post (wX_ready_60 post li nw gIt pa ab F) (nI n) (nI (P (js n))) (nI e) li nw gIt pa ab dO dP dS dF dG dR dA xB xR xK xU xH xF xG xT xc xo xl so ho xC ce xt xL va la gi gSk gOd gIo gSo gNa gSh gSr gMa gTi gCe)) ∧ (¬ ((nI (fl (js n))) &&& 4) = 0 → (wX_ready_94 post (wX_ready_60 post li nw gIt pa ab F) (nI n) (nI (P (js n))) 6 li nw gIt pa ab dO dP dS dF dG dR dA xB xR xK xU xH xF xG xT xc xo xl so ho xC ce xt xL va la gi gSk gOd gIo gSo gNa gSh gSr gMa gTi gCe)))))) ∧ (¬ nI e = 0 → (wX_ready_94 post (wX_ready_60 post li nw gIt pa ab F) (nI n) (nI (P (js n))) (nI e) li nw gIt pa ab dO dP dS dF dG dR dA xB xR xK xU xH xF xG xT xc xo xl so ho xC ce xt xL va la gi gSk gOd gIo gSo gNa gSh gSr gMa gTi gCe)))) → wX_ready_60 post li nw gIt pa ab (F + 1) (nI (n + 1)) (nI e) dO dP dS dF dG dR dA xB xR xK xU xH xF xG xT xc xo xl so ho xC ce xt xL va la gi gSk gOd gIo gSo gNa gSh gSr gMa gTi gCe := by
      intro post F h
      refine br_f (nI_nle (by omega) (by omega)) (nm_r (pk_m1 n) ⟨rd_in (by omega), ?_⟩)
      rw [en, a1]
      refine nm_e ?_
      rw [ex, x3]
      exact h
    have hyh : ∀ (post : Int32 → SY → Prop) F, (((nI e = 0 → (vp_in (nI n) 30 ∧ (vp_in (nI (js n)) 180 ∧ (((((nI (fl (js n))) &&& 4) = 0 → (wY_ready_95 post (wY_ready_64 post yN yk tm hIt py bl F) (nI e) (nI n) yN yk tm hIt py bl dO dP dS dF dG dR dA yB yR yK yO yA yH yF yG yU yT yb yc yl yp so yC yt ho ce yL va la gi ap ys hLi hOp hNa hSh hSr hTi hCe hRe)) ∧ (¬ ((nI (fl (js n))) &&& 4) = 0 → (wY_ready_95 post (wY_ready_64 post yN yk tm hIt py bl F) 6 (nI n) yN yk tm hIt py bl dO dP dS dF dG dR dA yB yR yK yO yA yH yF yG yU yT yb yc yl yp so yC yt ho ce yL va la gi ap ys hLi hOp hNa hSh hSr hTi hCe hRe))))))) ∧ (¬ nI e = 0 → (wY_ready_95 post (wY_ready_64 post yN yk tm hIt py bl F) (nI e) (nI n) yN yk tm hIt py bl dO dP dS dF dG dR dA yB yR yK yO yA yH yF yG yU yT yb yc yl yp so yC yt ho ce yL va la gi ap ys hLi hOp hNa hSh hSr hTi hCe hRe)))) → wY_ready_64 post yN yk tm hIt py bl (F + 1) (nI e) (nI n) dO dP dS dF dG dR dA yB yR yK yO yA yH yF yG yU yT yb yc yl yp so yC yt ho ce yL va la gi ap ys hLi hOp hNa hSh hSr hTi hCe hRe := by
      intro post F h
      refine br_f (nI_pos (by omega)) ?_
      rw [en, a2, ey, y5]
      exact h
    by_cases h0 : e = 0
    · subst h0
      by_cases hf : ((nI (fl (js n))) &&& 4) = 0
      · exact fin 0 1 (by omega) (by omega) (Or.inl ⟨rfl, rfl⟩) (fun post F h => hxh post F (br_t rfl ⟨rd_in hP, br_t hf h⟩)) (fun post F h => hyh post F (br_t rfl ⟨rd_in (by omega), rd_in (by omega), br_t hf h⟩))
      · exact fin 6 2 (by omega) (by omega) (Or.inr ⟨by omega, rfl⟩) (fun post F h => hxh post F (br_t rfl ⟨rd_in hP, br_f hf h⟩)) (fun post F h => hyh post F (br_t rfl ⟨rd_in (by omega), rd_in (by omega), br_f hf h⟩))
    · exact fin e 2 he (by omega) (Or.inr ⟨h0, rfl⟩) (fun post F h => hxh post F (br_f (nI_ne0 (by omega) (by omega)) h)) (fun post F h => hyh post F (br_f (nI_ne0 (by omega) (by omega)) h))
end
theorem rd_ready {T : rt_T} {d : rt_D} {c : rt_CX} {c' : rt_CY} {t : rt_TX} {t' : rt_TY} {pa ab py bl : Int32} {w : rt_W} {o : rt_OX} {o' : rt_OY} {ys : rt_F} {g : rt_GX} {g' : rt_GY} {j : Nat}
    (hC : rd_CR T c c') (hj : j < rd_N T) :
    ∃ (T' : rt_T) (c1 : rt_CX) (c1' : rt_CY) (t1 : rt_TX) (t1' : rt_TY) (e : Nat), rd_CR T' c1 c1' ∧ rd_TE T T' ∧ e < 8 ∧
      (∀ post : Int32 → SX → Prop, post (nI e) (rd_X pa ab d c1 t1 w o g) → wpX_ready post (rd_X pa ab d c t w o g) (nI (rd_P T j))) ∧
      (∀ post : Int32 → SY → Prop, post (nI e) (rd_Y py bl d c1' t1' w o' ys g') → wpY_ready post (rd_Y py bl d c' t' w o' ys g') (nI j)) := by
  obtain ⟨N, P, sh, fl, sg, st, pr, kn⟩ := T
  obtain ⟨dO, dP, dS, dF, dG, dR, dA⟩ := d
  obtain ⟨xB, xR, xK, xU, xH, xF, xG, xT⟩ := c
  obtain ⟨yN, yB, yR, yK, yO, yA, yH, yF, yG, yU, yT⟩ := c'
  obtain ⟨xc, xo, xl⟩ := t
  obtain ⟨yk, yb, yc, yl, yp⟩ := t'
  obtain ⟨so, ho, ce, va, la, gi⟩ := w
  obtain ⟨li, nw, xC, xt, xL⟩ := o
  obtain ⟨tm, yC, yt, yL, ap⟩ := o'
  obtain ⟨gIt, gSk, gOd, gIo, gSo, gNa, gSh, gSr, gMa, gTi, gCe⟩ := g
  obtain ⟨hIt, hLi, hOp, hNa, hSh, hSr, hTi, hCe, hRe⟩ := g'
  dsimp only [rd_N, rd_P] at hj ⊢
  have hN := rd_NB' hC.1
  obtain ⟨n', js, xl1, yl1, cur, r1, r2, r3, X1, Y1⟩ := rd_rdy1 (p := P j / 60) (l := P j / 12 % 5) hC.1 hC.2.1 hC.2.2.1 (j + 1) 0 (fun _ => 0) xl yl (some j) (fun i e => by cases e; exact ⟨by omega, hj, rfl, Or.inl rfl, fun i hi => by omega⟩) (by omega) (fun i hi => by omega) (fun i i' h1 h2 => by omega)
  have fin : ∀ e, e < 8 → (∀ post : Int32 → SX → Prop, (∃ f, wX_ready_60 post li nw gIt pa ab f (nI n') (nI e) dO dP dS dF dG dR dA xB xR xK xU xH xF xG xT xc xo xl1 so ho xC ce xt xL va la gi gSk gOd gIo gSo gNa gSh gSr gMa gTi gCe) → wX_ready_38 post (nI n') (rd_o (cur.map P)) li nw gIt pa ab dO dP dS dF dG dR dA xB xR xK xU xH xF xG xT xc xo xl1 so ho xC ce xt xL va la gi gSk gOd gIo gSo gNa gSh gSr gMa gTi gCe) → (∀ post : Int32 → SY → Prop, (∃ f, wY_ready_64 post yN yk tm hIt py bl f (nI e) (nI n' - 1) dO dP dS dF dG dR dA yB yR yK yO yA yH yF yG yU yT yb yc yl1 yp so yC yt ho ce yL va la gi ap ys hLi hOp hNa hSh hSr hTi hCe hRe) → wY_ready_37 post (nI n') (rd_o cur) yN yk tm hIt py bl dO dP dS dF dG dR dA yB yR yK yO yA yH yF yG yU yT yb yc yl1 yp so yC yt ho ce yL va la gi ap ys hLi hOp hNa hSh hSr hTi hCe hRe) → ∃ (T' : rt_T) (c1 : rt_CX) (c1' : rt_CY) (t1 : rt_TX) (t1' : rt_TY) (e : Nat), rd_CR T' c1 c1' ∧ rd_TE (N, P, sh, fl, sg, st, pr, kn) T' ∧ e < 8 ∧
      (∀ post : Int32 → SX → Prop, post (nI e) (rd_X pa ab (dO, dP, dS, dF, dG, dR, dA) c1 t1 (so, ho, ce, va, la, gi) (li, nw, xC, xt, xL) (gIt, gSk, gOd, gIo, gSo, gNa, gSh, gSr, gMa, gTi, gCe)) → wpX_ready post (rd_X pa ab (dO, dP, dS, dF, dG, dR, dA) (xB, xR, xK, xU, xH, xF, xG, xT) (xc, xo, xl) (so, ho, ce, va, la, gi) (li, nw, xC, xt, xL) (gIt, gSk, gOd, gIo, gSo, gNa, gSh, gSr, gMa, gTi, gCe)) (nI (P j))) ∧
      (∀ post : Int32 → SY → Prop, post (nI e) (rd_Y py bl (dO, dP, dS, dF, dG, dR, dA) c1' t1' (so, ho, ce, va, la, gi) (tm, yC, yt, yL, ap) ys (hIt, hLi, hOp, hNa, hSh, hSr, hTi, hCe, hRe)) → wpY_ready post (rd_Y py bl (dO, dP, dS, dF, dG, dR, dA) (yN, yB, yR, yK, yO, yA, yH, yF, yG, yU, yT) (yk, yb, yc, yl, yp) (so, ho, ce, va, la, gi) (tm, yC, yt, yL, ap) ys (hIt, hLi, hOp, hNa, hSh, hSr, hTi, hCe, hRe)) (nI j)) := by
    intro e he hx hy
    obtain ⟨st', xT', yT', e', q1, q2, X2, Y2⟩ := rd_rdy2 (js := js) (xl := xl1) (yl := yl1) n' st xT yT e r1 r2 he hC
    exact ⟨(N, P, sh, fl, sg, st', pr, kn), _, _, (xc, xo, xl1), (yk, yb, yc, yl1, yp), e', q2, ⟨Nat.le_refl _, fun _ _ => ⟨rfl, rfl, rfl, rfl⟩⟩, q1, fun post hp => X1 post (hx post (X2 post hp)), fun post hp => Y1 post (hy post (Y2 post hp))⟩
  cases cur with
  | none => exact fin 0 (by omega) (fun post h => br_t rd_m1n h) (fun post h => br_t rd_m1n (nm_e h))
  | some i =>
    have hi := r3 i rfl
    have hP := (hC.1.1 i hi).1
    have hst := (hC.1.1 i hi).2.2.2.2.2
    have x5 := (hC.2.1.2 i hi).2.2.2.2
    have y7 := (hC.2.2.1.2.2 i hi).2.2.2.2.2.2
    rw [show rd_o (Option.map P (some i)) = nI (P i) from rfl, rd_o1] at fin
    have ex : xT (nI (P i)).toNatClampNeg = nI (st i) := by rw [rd_cl (by omega), x5]
    have ey : yT (nI i).toNatClampNeg = nI (st i) := by rw [rd_cl (by omega), y7]
    by_cases h2 : st i = 2
    · exact fin 7 (by omega) (fun post h => br_f (nI_pos (by omega)) ⟨rd_in hP, br_t (by rw [ex, h2]; rfl) h⟩) (fun post h => br_f (nI_pos (by omega)) ⟨rd_in (by omega), br_t (by rw [ey, h2]; rfl) (nm_e h)⟩)
    · have n2 : ¬ nI (st i) = 2 := fun z => h2 ((nI_eq (b := 2) (by omega) (by omega)).mp z)
      exact fin 0 (by omega) (fun post h => br_f (nI_pos (by omega)) ⟨rd_in hP, br_f (by rw [ex]; exact n2) h⟩) (fun post h => br_f (nI_pos (by omega)) ⟨rd_in (by omega), br_f (by rw [ey]; exact n2) (nm_e h)⟩)
end
section
/-! objects: a new one; a lease renewed -/
section
variable {K N i j s tt q lm t : Nat} {P sh fl sg st oc tk le hm gv : Nat → Nat} {pr kn : Nat → Option Nat} {so ho ce va la gi ho' ce' : rt_F}
theorem rd_vr_mk {p : Nat} {x : Int32} (hs : ¬ nI s = 0) (h : rd_vr so p x) : rd_vr (upd so i (nI s)) p x := by
  obtain ⟨m, e, hm⟩ := h
  refine ⟨m, e, fun k ek => ⟨(hm k ek).1, ?_⟩⟩
  by_cases c : 12 * p + k = i
  · rw [c, pk_us]; exact hs
  · rw [pk_un c]; exact (hm k ek).2
theorem rd_lr_mk {p : Nat} {x : Int32} (h0 : so i = 0) (h : rd_lr so p x) : rd_lr (upd so i (nI s)) p x := by
  obtain ⟨m, e, hm⟩ := h
  refine ⟨m, e, fun k ek => ⟨(hm k ek).1, ?_⟩⟩
  have h1 := (hm k ek).2
  rw [pk_un (fun c => by rw [c, h0] at h1; exact absurd h1 (by decide))]
  exact h1
theorem rd_mkI (hi : i < 36) (h0 : so i = 0) (hs : s = 1 ∨ s = 2) (hj : s = 1 → j < N) (ht1 : s = 1 → tt = 0) (ht2 : s = 2 → 1 ≤ tt ∧ tt ≤ K) (hq : q < 3) (eh : ho' i = nI q) (ehn : ∀ x, x ≠ i → ho' x = ho x) (ec : ∀ x, x / 2 ≠ i → ce' x = ce x)
    (er : s = 1 → ∀ b, b < 2 → sh j / 2 ^ b % 2 = 1 → ce' (2 * i + b) = -1)
    (h : rd_OI K (N, P, sh, fl, sg, st, pr, kn) (oc, tk, le, hm, gv, lm, t) (so, ho, ce, va, la, gi)) :
    rd_OI K (N, P, sh, fl, sg, st, pr, kn) (rd_u oc i j, rd_u tk i tt, le, rd_u hm i q, gv, lm, t) (upd so i (nI s), ho', ce', va, la, gi) := by
  obtain ⟨a1, a2, a3, a4, a5, a6, a7, a8, a9⟩ := h
  have s0 : ¬ nI s = 0 := nI_ne0 (by omega) (by omega)
  have e1 : nI s = 1 ↔ s = 1 := nI_eq (b := 1) (by omega) (by omega)
  have e2 : nI s = 2 ↔ s = 2 := nI_eq (b := 2) (by omega) (by omega)
  refine ⟨a1, fun x hx => ?_, fun x hx h1 => ?_, fun x hx h2 => ?_, fun x hx y hy hxy h1 h2 h3 h4 => ?_, fun x hx p hp => ?_, a7, fun p hp v hv => ⟨rd_vr_mk s0 (a8 p hp v hv).1, rd_lr_mk h0 (a8 p hp v hv).2⟩, fun x hx h1 b hb hbit => ?_⟩
  · by_cases c : x = i
    · subst c
      rw [pk_us, rd_us, rd_us]
      refine ⟨Or.inr (by rw [e1, e2]; exact hs), eh, hq, ?_⟩
      rcases hs with z | z
      · rw [ht1 z]; exact Nat.zero_le _
      · exact (ht2 z).2
    · rw [pk_un c, rd_un c, rd_un c, ehn x c]; exact a2 x hx
  · by_cases c : x = i
    · subst c
      rw [pk_us, e1] at h1
      rw [rd_us, rd_us, ht1 h1]
      exact ⟨hj h1, Nat.zero_le _⟩
    · rw [pk_un c] at h1
      rw [rd_un c, rd_un c]; exact a3 x hx h1
  · by_cases c : x = i
    · subst c
      rw [pk_us, e2] at h2
      rw [rd_us]; exact (ht2 h2).1
    · rw [pk_un c] at h2
      rw [rd_un c]; exact a4 x hx h2
  · by_cases c : x = i
    · subst c
      rw [pk_us, e1] at h1
      rw [rd_us, ht1 h1] at h4
      exact absurd rfl h4
    · by_cases c' : y = i
      · subst c'
        rw [pk_us, e1] at h2
        rw [h3, rd_us, ht1 h2] at h4
        exact absurd rfl h4
      · rw [pk_un c] at h1
        rw [pk_un c'] at h2
        rw [rd_un c, rd_un c'] at h3
        rw [rd_un c] at h4
        exact a5 x hx y hy hxy h1 h2 h3 h4
  · refine ⟨(a6 x hx p hp).1, fun h1 => ?_⟩
    by_cases c : x = i
    · subst c
      exact (a6 x hx p hp).2 (by rw [h0]; decide)
    · rw [pk_un c] at h1
      exact (a6 x hx p hp).2 h1
  · by_cases c : x = i
    · subst c
      rw [pk_us, e1] at h1
      rw [rd_us] at hbit
      rw [er h1 b hb hbit]
      exact ⟨none, rfl, fun k e => nomatch e⟩
    · rw [pk_un c] at h1
      rw [rd_un c] at hbit
      rw [ec _ (by omega)]
      exact rd_vr_mk s0 (a9 x hx h1 b hb hbit)
theorem rd_mkX {li : Int32} {nw : Int64} {xC xt xC' xt' : rt_F} {xL : Nat → Int64} (eC : s = 1 → xC' i = nI (P j)) (eCn : ∀ x, x ≠ i → xC' x = xC x) (et : xt' i = nI tt) (etn : ∀ x, x ≠ i → xt' x = xt x) (hs : s < 3)
    (h : rd_OX (N, P, sh, fl, sg, st, pr, kn) (oc, tk, le, hm, gv, lm, t) (so, ho, ce, va, la, gi) (li, nw, xC, xt, xL)) :
    rd_OX (N, P, sh, fl, sg, st, pr, kn) (rd_u oc i j, rd_u tk i tt, le, rd_u hm i q, gv, lm, t) (upd so i (nI s), ho', ce', va, la, gi) (li, nw, xC', xt', xL) := by
  obtain ⟨b1, b2, b3, b4, b5⟩ := h
  refine ⟨b1, b2, fun x hx h1 => ?_, fun x hx h1 => ?_, b5⟩
  · by_cases c : x = i
    · subst c
      rw [pk_us, show (1 : Int32) = nI 1 from rfl, nI_eq (by omega) (by omega)] at h1
      rw [rd_us]; exact eC h1
    · rw [pk_un c] at h1
      rw [rd_un c, eCn x c]; exact b3 x hx h1
  · by_cases c : x = i
    · subst c
      rw [rd_us]; exact et
    · rw [pk_un c] at h1
      rw [rd_un c, etn x c]; exact b4 x hx h1
theorem rd_mkY {tm : Int32} {yC yt yL ap yC' yt' yL' : rt_F} (eC : s = 1 → yC' i = nI j) (eCn : ∀ x, x ≠ i → yC' x = yC x) (et : yt' i = nI tt) (etn : ∀ x, x ≠ i → yt' x = yt x) (hs : s < 3)
    (eL : ∀ p, p < 3 → yL' (3 * i + p) = 0) (eLn : ∀ x, x / 3 ≠ i → yL' x = yL x) (hi : i < 36) (h0 : so i = 0) (hI : rd_OI K (N, P, sh, fl, sg, st, pr, kn) (oc, tk, le, hm, gv, lm, t) (so, ho, ce, va, la, gi))
    (h : rd_OY (oc, tk, le, hm, gv, lm, t) (so, ho, ce, va, la, gi) (tm, yC, yt, yL, ap)) :
    rd_OY (rd_u oc i j, rd_u tk i tt, le, rd_u hm i q, gv, lm, t) (upd so i (nI s), ho', ce', va, la, gi) (tm, yC', yt', yL', ap) := by
  obtain ⟨b1, b2, b3, b4, b5⟩ := h
  refine ⟨b1, fun x hx h1 => ?_, fun x hx h1 => ?_, fun x hx h1 p hp => ?_, b5⟩
  · by_cases c : x = i
    · subst c
      rw [pk_us, show (1 : Int32) = nI 1 from rfl, nI_eq (by omega) (by omega)] at h1
      rw [rd_us]; exact eC h1
    · rw [pk_un c] at h1
      rw [rd_un c, eCn x c]; exact b2 x hx h1
  · by_cases c : x = i
    · subst c
      rw [rd_us]; exact et
    · rw [pk_un c] at h1
      rw [rd_un c, etn x c]; exact b3 x hx h1
  · by_cases c : x = i
    · subst c
      rw [eL p hp, (hI.2.2.2.2.2.1 x hx p hp).2 (by rw [h0]; decide)]
      rfl
    · rw [pk_un c] at h1
      rw [eLn _ (by omega)]; exact b4 x hx h1 p hp
end
end
section
/-! renew, stub, plain and create: outcomes -/
/-- what stays as it is when objects are made -/
def rd_EO : rt_A → rt_W → rt_A → rt_W → Prop
  | (oc, tk, _, hm, gv, lm, t), (so, _, _, va, la, gi), (oc', tk', _, hm', gv', lm', t'), (so', _, _, va', la', gi') =>
    gv' = gv ∧ lm' = lm ∧ t' = t ∧ va' = va ∧ la' = la ∧ gi' = gi ∧ ∀ x, x < 36 → ¬ so x = 0 → so' x = so x ∧ oc' x = oc x ∧ tk' x = tk x ∧ hm' x = hm x
theorem rd_EO_rfl (A : rt_A) (w : rt_W) : rd_EO A w A w := ⟨rfl, rfl, rfl, rfl, rfl, rfl, fun _ _ _ => ⟨rfl, rfl, rfl, rfl⟩⟩
theorem rd_EO_tr {A A' A'' : rt_A} {w w' w'' : rt_W} (h : rd_EO A w A' w') (h' : rd_EO A' w' A'' w'') : rd_EO A w A'' w'' := by
  obtain ⟨oc, tk, le, hm, gv, lm, t⟩ := A
  obtain ⟨oc', tk', le', hm', gv', lm', t'⟩ := A'
  obtain ⟨oc2, tk2, le2, hm2, gv2, lm2, t2⟩ := A''
  obtain ⟨so, ho, ce, va, la, gi⟩ := w
  obtain ⟨so', ho', ce', va', la', gi'⟩ := w'
  obtain ⟨so2, ho2, ce2, va2, la2, gi2⟩ := w''
  obtain ⟨a1, a2, a3, a4, a5, a6, a7⟩ := h
  obtain ⟨b1, b2, b3, b4, b5, b6, b7⟩ := h'
  refine ⟨b1.trans a1, b2.trans a2, b3.trans a3, b4.trans a4, b5.trans a5, b6.trans a6, fun x hx hs => ?_⟩
  obtain ⟨e1, e2, e3, e4⟩ := a7 x hx hs
  obtain ⟨f1, f2, f3, f4⟩ := b7 x hx (by rw [e1]; exact hs)
  exact ⟨f1.trans e1, f2.trans e2, f3.trans e3, f4.trans e4⟩
section
variable {K N p q k tt lm t : Nat} {P sh fl sg st oc tk le hm gv : Nat → Nat} {pr kn : Nat → Option Nat}
variable {li gIt pa ab yN yk tm hIt py bl : Int32} {dO dP dS dF dG dR dA xB xR xK xU xH xF xG xT xc xo xl so ho xC ce xt va la gi gSk gOd gIo gSo gNa gSh gSr gMa gTi gCe yB yR yK yO yA yH yF yG yU yT yb yc yl yp yC yt yL ap ys hLi hOp hNa hSh hSr hTi hCe hRe : Nat → Int32} {nw : Int64} {xL : Nat → Int64}
theorem rd_renew (hR : rd_OR K (N, P, sh, fl, sg, st, pr, kn) (oc, tk, le, hm, gv, lm, t) (so, ho, ce, va, la, gi) (li, nw, xC, xt, xL) (tm, yC, yt, yL, ap)) (hK : K ≤ 4000) (hp3 : p < 3) (hk : k < 12) (hs : so (12 * p + k) = 2) (eq : hm (12 * p + k) = q) (et : tk (12 * p + k) = tt) :
    ∃ (le' : Nat → Nat) (xL1 : Nat → Int64) (yL1 : rt_F), rd_OR K (N, P, sh, fl, sg, st, pr, kn) (oc, tk, le', hm, gv, lm, t) (so, ho, ce, va, la, gi) (li, nw, xC, xt, xL1) (tm, yC, yt, yL1, ap) ∧
      (∀ post : SX → Prop, post (li, nw, gIt, pa, ab, dO, dP, dS, dF, dG, dR, dA, xB, xR, xK, xU, xH, xF, xG, xT, xc, xo, xl, so, ho, xC, ce, xt, xL1, va, la, gi, gSk, gOd, gIo, gSo, gNa, gSh, gSr, gMa, gTi, gCe) → wpX_renew post (li, nw, gIt, pa, ab, dO, dP, dS, dF, dG, dR, dA, xB, xR, xK, xU, xH, xF, xG, xT, xc, xo, xl, so, ho, xC, ce, xt, xL, va, la, gi, gSk, gOd, gIo, gSo, gNa, gSh, gSr, gMa, gTi, gCe) (nI p) (nI q) (nI tt)) ∧ (∀ post : SY → Prop, post (yN, yk, tm, hIt, py, bl, dO, dP, dS, dF, dG, dR, dA, yB, yR, yK, yO, yA, yH, yF, yG, yU, yT, yb, yc, yl, yp, so, yC, yt, ho, ce, yL1, va, la, gi, ap, ys, hLi, hOp, hNa, hSh, hSr, hTi, hCe, hRe) → wpY_renew post (yN, yk, tm, hIt, py, bl, dO, dP, dS, dF, dG, dR, dA, yB, yR, yK, yO, yA, yH, yF, yG, yU, yT, yb, yc, yl, yp, so, yC, yt, ho, ce, yL, va, la, gi, ap, ys, hLi, hOp, hNa, hSh, hSr, hTi, hCe, hRe) (nI p) (nI k)) := by
  obtain ⟨⟨a1, a2, a3, a4, a5, a6, a7, a8, a9⟩, ⟨b1, b2, b3, b4, b5⟩, ⟨d1, d2, d3, d4, d5⟩⟩ := hR
  obtain ⟨_, eh, hq, htK⟩ := a2 (12 * p + k) (by omega)
  rw [eq] at eh hq
  rw [et] at htK
  have ht1 := a4 (12 * p + k) (by omega) hs
  rw [et] at ht1
  have hyt := d3 (12 * p + k) (by omega) (by rw [hs]; decide)
  rw [et] at hyt
  obtain ⟨e, _, e2, e3, e4⟩ := rd_first (fun x => so (12 * q + x) = 1 ∧ tk (12 * q + x) = tt) 0 12 (by omega)
  have hX : ∀ x, x < 12 → ((so (12 * q + x) = 1 ∧ xt (12 * q + x) = nI tt) ↔ (so (12 * q + x) = 1 ∧ tk (12 * q + x) = tt)) := fun x hx => by
    constructor
    · rintro ⟨h1, h2⟩
      rw [b4 _ (by omega) (by rw [h1]; decide)] at h2
      exact ⟨h1, (nI_eq (by have := (a2 (12 * q + x) (by omega)).2.2.2; omega) (by omega)).mp h2⟩
    · rintro ⟨h1, h2⟩
      exact ⟨h1, by rw [b4 _ (by omega) (by rw [h1]; decide), h2]⟩
  have hY : ∀ x, x < 12 → ((so (12 * q + x) = 1 ∧ yt (12 * q + x) = nI tt) ↔ (so (12 * q + x) = 1 ∧ tk (12 * q + x) = tt)) := fun x hx => by
    constructor
    · rintro ⟨h1, h2⟩
      rw [d3 _ (by omega) (by rw [h1]; decide)] at h2
      exact ⟨h1, (nI_eq (by have := (a2 (12 * q + x) (by omega)).2.2.2; omega) (by omega)).mp h2⟩
    · rintro ⟨h1, h2⟩
      exact ⟨h1, by rw [d3 _ (by omega) (by rw [h1]; decide), h2]⟩
  have xE : ∀ post : Int32 → Prop, post (if e = 12 then -1 else nI e) → wpX_exported post (li, nw, gIt, pa, ab, dO, dP, dS, dF, dG, dR, dA, xB, xR, xK, xU, xH, xF, xG, xT, xc, xo, xl, so, ho, xC, ce, xt, xL, va, la, gi, gSk, gOd, gIo, gSo, gNa, gSh, gSr, gMa, gTi, gCe) (nI q) (nI tt) := fun post hp =>
    xq_exp hq e2 (fun x hx z => e3 x (Nat.zero_le _) hx ((hX x (by omega)).mp z)) (by
      rcases e4 with z | z
      · exact Or.inl z
      · by_cases c : e = 12
        · exact Or.inl c
        · exact Or.inr ((hX e (by omega)).mpr z)) hp
  have yE : ∀ post : Int32 → Prop, post (if e = 12 then -1 else nI (12 * q + e)) → wpY_exported post (yN, yk, tm, hIt, py, bl, dO, dP, dS, dF, dG, dR, dA, yB, yR, yK, yO, yA, yH, yF, yG, yU, yT, yb, yc, yl, yp, so, yC, yt, ho, ce, yL, va, la, gi, ap, ys, hLi, hOp, hNa, hSh, hSr, hTi, hCe, hRe) (nI q) (nI tt) := fun post hp =>
    yq_exp hq ht1 (by omega) e2 (fun x hx z => e3 x (Nat.zero_le _) hx ((hY x (by omega)).mp z)) (by
      rcases e4 with z | z
      · exact Or.inl z
      · by_cases c : e = 12
        · exact Or.inl c
        · exact Or.inr ((hY e (by omega)).mpr z)) hp
  have xLk : ∀ post : Int32 → Prop, post (nI (1 - rd_ap lm p q)) → wpX_isLinked post (li, nw, gIt, pa, ab, dO, dP, dS, dF, dG, dR, dA, xB, xR, xK, xU, xH, xF, xG, xT, xc, xo, xl, so, ho, xC, ce, xt, xL, va, la, gi, gSk, gOd, gIo, gSo, gNa, gSh, gSr, gMa, gTi, gCe) (nI p) (nI q) := fun post hp => xq_linked hp3 hq a1.1 b1 hp
  have e12 : 12 * nI p + nI k = nI (12 * p + k) := by rw [rd_m12, nI_add]
  have ecl : (nI (12 * p + k)).toNatClampNeg = 12 * p + k := rd_cl (by omega)
  have yRn : ∀ post : SY → Prop, wpY_exported (fun r_4 => (((r_4 < 0 → (post (yN, yk, tm, hIt, py, bl, dO, dP, dS, dF, dG, dR, dA, yB, yR, yK, yO, yA, yH, yF, yG, yU, yT, yb, yc, yl, yp, so, yC, yt, ho, ce, yL, va, la, gi, ap, ys, hLi, hOp, hNa, hSh, hSr, hTi, hCe, hRe))) ∧ (¬ r_4 < 0 → (vp_in ((3 * nI p) + nI q) 9 ∧ ((((ap ((3 * nI p) + nI q).toNatClampNeg) = 0 → (vp_in ((3 * r_4) + nI p) 108 ∧ ∀ L : Nat → Int32, L = upd yL ((3 * r_4) + nI p).toNatClampNeg (tm + 10) → (post (yN, yk, tm, hIt, py, bl, dO, dP, dS, dF, dG, dR, dA, yB, yR, yK, yO, yA, yH, yF, yG, yU, yT, yb, yc, yl, yp, so, yC, yt, ho, ce, L, va, la, gi, ap, ys, hLi, hOp, hNa, hSh, hSr, hTi, hCe, hRe)))) ∧ (¬ (ap ((3 * nI p) + nI q).toNatClampNeg) = 0 → (post (yN, yk, tm, hIt, py, bl, dO, dP, dS, dF, dG, dR, dA, yB, yR, yK, yO, yA, yH, yF, yG, yU, yT, yb, yc, yl, yp, so, yC, yt, ho, ce, yL, va, la, gi, ap, ys, hLi, hOp, hNa, hSh, hSr, hTi, hCe, hRe)))))))))) (yN, yk, tm, hIt, py, bl, dO, dP, dS, dF, dG, dR, dA, yB, yR, yK, yO, yA, yH, yF, yG, yU, yT, yb, yc, yl, yp, so, yC, yt, ho, ce, yL, va, la, gi, ap, ys, hLi, hOp, hNa, hSh, hSr, hTi, hCe, hRe) (nI q) (nI tt) → wpY_renew post (yN, yk, tm, hIt, py, bl, dO, dP, dS, dF, dG, dR, dA, yB, yR, yK, yO, yA, yH, yF, yG, yU, yT, yb, yc, yl, yp, so, yC, yt, ho, ce, yL, va, la, gi, ap, ys, hLi, hOp, hNa, hSh, hSr, hTi, hCe, hRe) (nI p) (nI k) := by
    intro post h
    unfold wpY_renew
    dsimp only
    rw [e12, ecl, eh, hyt]
    exact ⟨rd_in (by omega), nm_e ⟨rd_in (by omega), h⟩⟩
  by_cases c : e = 12
  · refine ⟨le, xL, yL, ⟨⟨a1, a2, a3, a4, a5, a6, a7, a8, a9⟩, ⟨b1, b2, b3, b4, b5⟩, ⟨d1, d2, d3, d4, d5⟩⟩, fun post hp => ?_, fun post hp => yRn post (yE _ ?_)⟩
    · unfold wpX_renew
      dsimp only
      refine xLk _ (br_c (fun _ => br_t rd_m1n hp) (fun _ => xE _ ?_))
      rw [if_pos c]; exact br_t rd_m1n hp
    · rw [if_pos c]; exact br_t rd_m1n hp
  · obtain ⟨f1, f2⟩ := e4.resolve_left c
    have ap3 : 3 * nI p + nI q = nI (3 * p + q) := by rw [rd_m3, nI_add]
    have hap := d5 p hp3 q hq
    have hap1 : rd_ap lm p q = 0 ∨ rd_ap lm p q = 1 := by
      unfold rd_ap
      split <;> omega
    by_cases lk : rd_ap lm p q = 0
    · -- linked: the lease is renewed
      have hix : 3 * (12 * q + e) + p < 108 := by omega
      refine ⟨rd_u le (3 * (12 * q + e) + p) (t + 10), vp_updL xL (3 * (12 * q + e) + p) (lN (t + 10)), upd yL (3 * (12 * q + e) + p) (nI (t + 10)), ⟨⟨a1, a2, a3, a4, a5, fun x hx y hy => ?_, a7, a8, a9⟩, ⟨b1, b2, b3, b4, fun x hx y hy => ?_⟩, ⟨d1, d2, d3, fun x hx h1 y hy => ?_, d5⟩⟩, fun post hp => ?_, fun post hp => yRn post (yE _ ?_)⟩
      · by_cases z : 3 * x + y = 3 * (12 * q + e) + p
        · rw [z, rd_us]
          refine ⟨Nat.le_refl _, fun h1 => ?_⟩
          have : x = 12 * q + e := by omega
          rw [this] at h1
          exact absurd f1 h1
        · rw [rd_un z]; exact a6 x hx y hy
      · by_cases z : 3 * x + y = 3 * (12 * q + e) + p
        · rw [z, rd_us, pk_uLs]
        · rw [rd_un z, pk_uLn z]; exact b5 x hx y hy
      · by_cases z : 3 * x + y = 3 * (12 * q + e) + p
        · rw [z, rd_us, pk_us]
          unfold rd_lv
          rw [if_pos (by omega)]
        · rw [rd_un z, pk_un z]; exact d4 x hx h1 y hy
      · unfold wpX_renew
        dsimp only
        refine xLk _ ?_
        rw [lk]
        refine br_f (by decide) (xE _ ?_)
        rw [if_neg c]
        refine br_f (nI_pos (by omega)) ?_
        rw [rd_m12, nI_add, rd_m3, nI_add, rd_cl (by omega)]
        exact ⟨rd_in hix, nm_r (by rw [b2, show lN t + 10 = lN (t + 10) from lN_add t 10]) hp⟩
      · rw [if_neg c]
        refine br_f (nI_pos (by omega)) ?_
        rw [ap3, rd_cl (by omega), hap, lk]
        refine ⟨rd_in (by omega), br_t rfl ?_⟩
        rw [rd_m3, nI_add, rd_cl (by omega)]
        exact ⟨rd_in hix, nm_r (by rw [d1, rd_a10]) hp⟩
    · have lk1 : rd_ap lm p q = 1 := hap1.resolve_left lk
      refine ⟨le, xL, yL, ⟨⟨a1, a2, a3, a4, a5, a6, a7, a8, a9⟩, ⟨b1, b2, b3, b4, b5⟩, ⟨d1, d2, d3, d4, d5⟩⟩, fun post hp => ?_, fun post hp => yRn post (yE _ ?_)⟩
      · unfold wpX_renew
        dsimp only
        refine xLk _ ?_
        rw [lk1]
        exact br_t rfl (br_t rd_m1n hp)
      · rw [if_neg c]
        refine br_f (nI_pos (by omega)) ?_
        rw [ap3, rd_cl (by omega), hap, lk1]
        exact ⟨rd_in (by omega), br_f (by decide) hp⟩
end
end
section
/-! stub; plain and create -/
theorem rd_stub {K p q tt : Nat} {T : rt_T} {A : rt_A} {w : rt_W} {o : rt_OX} {o' : rt_OY} {pa ab py bl : Int32} {d : rt_D} {c : rt_CX} {c' : rt_CY} {t : rt_TX} {t' : rt_TY} {ys : rt_F} {g : rt_GX} {g' : rt_GY}
    (hR : rd_OR K T A w o o') (hK : K ≤ 4000) (hp3 : p < 3) (hq : q < 3) (ht1 : 1 ≤ tt) (htK : tt ≤ K) :
    ∃ (A1 : rt_A) (w1 : rt_W) (o1 : rt_OX) (o1' : rt_OY) (r : Option Nat), rd_OR K T A1 w1 o1 o1' ∧ rd_EO A w A1 w1 ∧ (∀ k, r = some k → k < 12 ∧ w1.1 (12 * p + k) = 2) ∧
      (∀ post : Int32 → SX → Prop, post (rd_o r) (rd_X pa ab d c t w1 o1 g) → wpX_stub post (rd_X pa ab d c t w o g) (nI p) (nI q) (nI tt)) ∧
      (∀ post : Int32 → SY → Prop, post (rd_o r) (rd_Y py bl d c' t' w1 o1' ys g') → wpY_stub post (rd_Y py bl d c' t' w o' ys g') (nI p) (nI q) (nI tt)) := by
  obtain ⟨N, P, sh, fl, sg, st, pr, kn⟩ := T
  obtain ⟨oc, tk, le, hm, gv, lm, tn⟩ := A
  obtain ⟨so, ho, ce, va, la, gi⟩ := w
  obtain ⟨li, nw, xC, xt, xL⟩ := o
  obtain ⟨tm, yC, yt, yL, ap⟩ := o'
  obtain ⟨dO, dP, dS, dF, dG, dR, dA⟩ := d
  obtain ⟨xB, xR, xK, xU, xH, xF, xG, xT⟩ := c
  obtain ⟨yN, yB, yR, yK, yO, yA, yH, yF, yG, yU, yT⟩ := c'
  obtain ⟨xc, xo, xl⟩ := t
  obtain ⟨yk, yb, yc, yl, yp⟩ := t'
  obtain ⟨gIt, gSk, gOd, gIo, gSo, gNa, gSh, gSr, gMa, gTi, gCe⟩ := g
  obtain ⟨hIt, hLi, hOp, hNa, hSh, hSr, hTi, hCe, hRe⟩ := g'
  obtain ⟨k, _, k2, k3, k4⟩ := rd_first (fun x => so (12 * p + x) = 0) 0 12 (by omega)
  have k3' : ∀ j, j < k → ¬ so (12 * p + j) = 0 := fun j hj => k3 j (Nat.zero_le _) hj
  by_cases e12 : k = 12
  · exact ⟨_, _, _, _, none, hR, rd_EO_rfl _ _, fun k e => (nomatch e),
      fun post hp => xq_fresh (s := 2) hp3 (by omega) k2 k3' k4 (fun _ => br_f rd_m1p hp) (fun z => by omega),
      fun post hp => yq_fresh (s := 2) hp3 k2 k3' k4 (fun _ => br_f rd_m1p hp) (fun z => by omega)⟩
  · have hk : k < 12 := by omega
    have h0 : so (12 * p + k) = 0 := k4.resolve_left e12
    obtain ⟨hI, hX, hY⟩ := hR
    have hR1 : rd_OR K (N, P, sh, fl, sg, st, pr, kn) (rd_u oc (12 * p + k) 0, rd_u tk (12 * p + k) tt, le, rd_u hm (12 * p + k) q, gv, lm, tn) (upd so (12 * p + k) (nI 2), upd ho (12 * p + k) (nI q), ce, va, la, gi) (li, nw, xC, upd (upd xt (12 * p + k) 0) (12 * p + k) (nI tt), xL) (tm, yC, upd (upd yt (12 * p + k) 0) (12 * p + k) (nI tt), upd (upd (upd yL (3 * (12 * p + k)) 0) (3 * (12 * p + k) + 1) 0) (3 * (12 * p + k) + 2) 0, ap) := by
      refine ⟨rd_mkI (by omega) h0 (Or.inr rfl) (fun z => by omega) (fun z => by omega) (fun _ => ⟨ht1, htK⟩) hq pk_us (fun x hx => pk_un hx) (fun x _ => rfl) (fun z => by omega) hI,
        rd_mkX (fun z => by omega) (fun x _ => rfl) pk_us (fun x hx => by rw [pk_un hx, pk_un hx]) (by omega) hX,
        rd_mkY (fun z => by omega) (fun x _ => rfl) pk_us (fun x hx => by rw [pk_un hx, pk_un hx]) (by omega) (fun y hy => ?_) (fun x hx => by rw [pk_un (by omega), pk_un (by omega), pk_un (by omega)]) (by omega) h0 hI hY⟩
      have : y = 0 ∨ y = 1 ∨ y = 2 := by omega
      rcases this with rfl | rfl | rfl
      · rw [pk_un (by omega), pk_un (by omega)]; exact pk_us
      · rw [pk_un (by omega)]; exact pk_us
      · exact pk_us
    obtain ⟨le', xL1, yL1, hR2, X1, Y1⟩ := rd_renew (k := k) hR1 hK hp3 hk pk_us rd_us rd_us
    have ei : 12 * nI p + nI k = nI (12 * p + k) := by rw [rd_m12, nI_add]
    have ec : (nI (12 * p + k)).toNatClampNeg = 12 * p + k := rd_cl (by omega)
    refine ⟨_, _, _, _, some k, hR2, ⟨rfl, rfl, rfl, rfl, rfl, rfl, fun x hx hs => ?_⟩, fun k' e => by cases e; exact ⟨hk, pk_us⟩, fun post hp => xq_fresh (s := 2) hp3 (by omega) k2 k3' k4 (fun z => absurd z e12) (fun _ => ?_), fun post hp => yq_fresh (s := 2) hp3 k2 k3' k4 (fun z => absurd z e12) (fun _ => ?_)⟩
    · have hne : x ≠ 12 * p + k := fun z => hs (by rw [z]; exact h0)
      exact ⟨pk_un hne, rd_un hne, rd_un hne, rd_un hne⟩
    · refine br_t (nI_pos' (by omega)) ?_
      rw [ei, ec, rd_nb8 (by omega)]
      exact ⟨rd_in (by omega), nm_e ⟨rd_in (by omega), nm_e (X1 _ hp)⟩⟩
    · refine br_t (nI_pos' (by omega)) ?_
      rw [ei, ec]
      exact ⟨rd_in (by omega), nm_e ⟨rd_in (by omega), nm_e (Y1 _ hp)⟩⟩
def rd_c0 (s b : Nat) : Int32 := if s / 2 ^ b % 2 = 1 then -1 else 0
theorem rd_plain {K p j : Nat} {T : rt_T} {A : rt_A} {w : rt_W} {o : rt_OX} {o' : rt_OY} {pa ab py bl : Int32} {d : rt_D} {c : rt_CX} {c' : rt_CY} {t : rt_TX} {t' : rt_TY} {ys : rt_F} {g : rt_GX} {g' : rt_GY}
    (hC : rd_CR T c c') (hR : rd_OR K T A w o o') (hp3 : p < 3) (hj : j < rd_N T) :
    ∃ (A1 : rt_A) (w1 : rt_W) (o1 : rt_OX) (o1' : rt_OY) (r : Option Nat), rd_OR K T A1 w1 o1 o1' ∧ rd_EO A w A1 w1 ∧ (∀ k, r = some k → k < 12 ∧ w1.1 (12 * p + k) = 1 ∧ A1.1 (12 * p + k) = j) ∧
      (∀ post : Int32 → SX → Prop, post (rd_o r) (rd_X pa ab d c t w1 o1 g) → wpX_plain post (rd_X pa ab d c t w o g) (nI p) (nI (rd_P T j))) ∧
      (∀ post : Int32 → SY → Prop, post (rd_o r) (rd_Y py bl d c' t' w1 o1' ys g') → wpY_create post (rd_Y py bl d c' t' w o' ys g') (nI p) (nI j)) := by
  obtain ⟨N, P, sh, fl, sg, st, pr, kn⟩ := T
  obtain ⟨oc, tk, le, hm, gv, lm, tn⟩ := A
  obtain ⟨so, ho, ce, va, la, gi⟩ := w
  obtain ⟨li, nw, xC, xt, xL⟩ := o
  obtain ⟨tm, yC, yt, yL, ap⟩ := o'
  obtain ⟨dO, dP, dS, dF, dG, dR, dA⟩ := d
  obtain ⟨xB, xR, xK, xU, xH, xF, xG, xT⟩ := c
  obtain ⟨yN, yB, yR, yK, yO, yA, yH, yF, yG, yU, yT⟩ := c'
  obtain ⟨xc, xo, xl⟩ := t
  obtain ⟨yk, yb, yc, yl, yp⟩ := t'
  obtain ⟨gIt, gSk, gOd, gIo, gSo, gNa, gSh, gSr, gMa, gTi, gCe⟩ := g
  obtain ⟨hIt, hLi, hOp, hNa, hSh, hSr, hTi, hCe, hRe⟩ := g'
  dsimp only [rd_N, rd_P] at hj ⊢
  have hP := (hC.1.1 j hj).1
  have hsh := (hC.1.1 j hj).2.2.1
  have hN := rd_NB' hC.1
  have xh := (hC.2.1.2 j hj).2.1
  have yh := (hC.2.2.1.2.2 j hj).2.2.2.1
  obtain ⟨k, _, k2, k3, k4⟩ := rd_first (fun x => so (12 * p + x) = 0) 0 12 (by omega)
  have k3' : ∀ j, j < k → ¬ so (12 * p + j) = 0 := fun j hj => k3 j (Nat.zero_le _) hj
  by_cases e12 : k = 12
  · refine ⟨_, _, _, _, none, hR, rd_EO_rfl _ _, fun k e => (nomatch e),
      fun post hp => xq_fresh (s := 1) hp3 (by omega) k2 k3' k4 (fun _ => nm_e (br_f rd_m1p hp)) (fun z => by omega),
      fun post hp => yq_fresh (s := 1) hp3 k2 k3' k4 (fun _ => br_f rd_m1p hp) (fun z => by omega)⟩
  · have hk : k < 12 := by omega
    have h0 : so (12 * p + k) = 0 := k4.resolve_left e12
    obtain ⟨hI, hX, hY⟩ := hR
    have ei : 12 * nI p + nI k = nI (12 * p + k) := by rw [rd_m12, nI_add]
    have ec : (nI (12 * p + k)).toNatClampNeg = 12 * p + k := rd_cl (by omega)
    have e20 : 2 * nI (12 * p + k) + 0 = nI (2 * (12 * p + k)) := by rw [rd_m2, Int32.add_zero]
    have e21 : 2 * nI (12 * p + k) + nI 1 = nI (2 * (12 * p + k) + 1) := by rw [rd_m2, nI_add]
    have c20 : (nI (2 * (12 * p + k))).toNatClampNeg = 2 * (12 * p + k) := rd_cl (by omega)
    have c21 : (nI (2 * (12 * p + k) + 1)).toNatClampNeg = 2 * (12 * p + k) + 1 := rd_cl (by omega)
    have hR1 : rd_OR K (N, P, sh, fl, sg, st, pr, kn) (rd_u oc (12 * p + k) j, rd_u tk (12 * p + k) 0, le, rd_u hm (12 * p + k) (hm (12 * p + k)), gv, lm, tn) (upd so (12 * p + k) (nI 1), ho, upd (upd ce (2 * (12 * p + k)) (rd_c0 (sh j) 0)) (2 * (12 * p + k) + 1) (rd_c0 (sh j) 1), va, la, gi) (li, nw, upd xC (12 * p + k) (nI (P j)), upd xt (12 * p + k) 0, xL) (tm, upd yC (12 * p + k) (nI j), upd yt (12 * p + k) 0, upd (upd (upd yL (3 * (12 * p + k)) 0) (3 * (12 * p + k) + 1) 0) (3 * (12 * p + k) + 2) 0, ap) := by
      obtain ⟨_, eh, hh, _⟩ := hI.2.1 (12 * p + k) (by omega)
      refine ⟨rd_mkI (by omega) h0 (Or.inl rfl) (fun _ => hj) (fun _ => rfl) (fun z => by omega) hh eh (fun x _ => rfl) (fun x hx => by rw [pk_un (by omega), pk_un (by omega)]) (fun _ b hb hbit => ?_) hI,
        rd_mkX (fun _ => pk_us) (fun x hx => pk_un hx) pk_us (fun x hx => pk_un hx) (by omega) hX,
        rd_mkY (fun _ => pk_us) (fun x hx => pk_un hx) pk_us (fun x hx => pk_un hx) (by omega) (fun y hy => ?_) (fun x hx => by rw [pk_un (by omega), pk_un (by omega), pk_un (by omega)]) (by omega) h0 hI hY⟩
      · have : b = 0 ∨ b = 1 := by omega
        rcases this with rfl | rfl
        · rw [pk_un (by omega)]
          exact pk_us.trans (if_pos hbit)
        · exact pk_us.trans (if_pos hbit)
      · have : y = 0 ∨ y = 1 ∨ y = 2 := by omega
        rcases this with rfl | rfl | rfl
        · rw [pk_un (by omega), pk_un (by omega)]; exact pk_us
        · rw [pk_un (by omega)]; exact pk_us
        · exact pk_us
    refine ⟨_, _, _, _, some k, hR1, ⟨rfl, rfl, rfl, rfl, rfl, rfl, fun x hx hs => ?_⟩, fun k' e => by cases e; exact ⟨hk, pk_us, rd_us⟩, fun post hp => xq_fresh (s := 1) hp3 (by omega) k2 k3' k4 (fun z => absurd z e12) (fun _ => ?_), fun post hp => yq_fresh (s := 1) hp3 k2 k3' k4 (fun z => absurd z e12) (fun _ => ?_)⟩
    · have hne : x ≠ 12 * p + k := fun z => hs (by rw [z]; exact h0)
      exact ⟨pk_un hne, rd_un hne, rd_un hne, rd_un hne⟩
    · rw [ei]
      refine nm_e (br_t (nI_pos' (by omega)) ⟨rd_in (by omega), ?_⟩)
      rw [ec, rd_ns16 (by omega)]
      refine nm_e ⟨3, br_f (by decide) ⟨rd_in (by omega), ?_⟩⟩
      -- the two cells
      have step1 : ∀ v1, v1 = rd_c0 (sh j) 1 → wX_plain_33 post (nI (P j)) (nI k) (nI (12 * p + k)) li nw gIt pa ab 2 (nI 1) dO dP dS dF dG dR dA xB xR xK xU xH xF xG xT xc xo xl (upd so (12 * p + k) (nI 1)) ho (upd xC (12 * p + k) (nI (P j))) (upd ce (2 * (12 * p + k)) (rd_c0 (sh j) 0)) (upd xt (12 * p + k) 0) xL va la gi gSk gOd gIo gSo gNa gSh gSr gMa gTi gCe := by
        intro v1 ev
        refine br_f (by decide) ⟨rd_in (by omega), ?_⟩
        rw [rd_cl (show P j < 3000 by omega), xh, e21, c21]
        by_cases b : sh j / 2 ^ 1 % 2 = 1
        · refine br_t ((rd_bit1 hsh (by omega)).mpr b) ⟨rd_in (by omega), nm_r (by rw [show (-1 : Int32) = rd_c0 (sh j) 1 from (if_pos b).symm]) (nm_e (br_t (by decide) hp))⟩
        · refine br_f (fun z => b ((rd_bit1 hsh (by omega)).mp z)) ⟨rd_in (by omega), nm_r (by rw [show (0 : Int32) = rd_c0 (sh j) 1 from (if_neg b).symm]) (nm_e (br_t (by decide) hp))⟩
      have W := step1 _ rfl
      dsimp only
      rw [rd_cl (show P j < 3000 by omega), xh, e20, c20]
      by_cases b : sh j / 2 ^ 0 % 2 = 1
      · refine br_t ((rd_bit1 (j := 0) hsh (by omega)).mpr b) ⟨rd_in (by omega), nm_r (by rw [show (-1 : Int32) = rd_c0 (sh j) 0 from (if_pos b).symm]) (nm_r (nI_1 0) W)⟩
      · refine br_f (fun z => b ((rd_bit1 (j := 0) hsh (by omega)).mp z)) ⟨rd_in (by omega), nm_r (by rw [show (0 : Int32) = rd_c0 (sh j) 0 from (if_neg b).symm]) (nm_r (nI_1 0) W)⟩
    · refine br_t (nI_pos' (by omega)) ?_
      rw [ei, ec]
      refine ⟨rd_in (by omega), nm_e ⟨3, br_f (by decide) ?_⟩⟩
      have W : wY_create_28 post (nI p) (nI k) yN yk tm hIt py bl 2 (nI 1) dO dP dS dF dG dR dA yB yR yK yO yA yH yF yG yU yT yb yc yl yp (upd so (12 * p + k) (nI 1)) (upd yC (12 * p + k) (nI j)) (upd yt (12 * p + k) 0) ho (upd ce (2 * (12 * p + k)) (rd_c0 (sh j) 0)) (upd (upd (upd yL (3 * (12 * p + k)) 0) (3 * (12 * p + k) + 1) 0) (3 * (12 * p + k) + 2) 0) va la gi ap ys hLi hOp hNa hSh hSr hTi hCe hRe := by
        refine br_f (by decide) ?_
        rw [ei]
        refine yq_ref (j := 1) (by omega) (by omega) (show j < 180 by omega) pk_us yh hsh ?_
        rw [e21, c21]
        by_cases b : sh j / 2 ^ 1 % 2 = 1
        · rw [b]
          refine br_f (by decide) ⟨rd_in (by omega), nm_r (by rw [show (-1 : Int32) = rd_c0 (sh j) 1 from (if_pos b).symm]) (nm_e (br_t (by decide) hp))⟩
        · rw [show sh j / 2 ^ 1 % 2 = 0 by omega]
          refine br_t rfl ⟨rd_in (by omega), nm_r (by rw [show (0 : Int32) = rd_c0 (sh j) 1 from (if_neg b).symm]) (nm_e (br_t (by decide) hp))⟩
      rw [ei]
      refine yq_ref (j := 0) (by omega) (by omega) (show j < 180 by omega) pk_us yh hsh ?_
      rw [e20, c20]
      by_cases b : sh j / 2 ^ 0 % 2 = 1
      · rw [b]
        refine br_f (by decide) ⟨rd_in (by omega), nm_r (by rw [show (-1 : Int32) = rd_c0 (sh j) 0 from (if_pos b).symm]) (nm_r (nI_1 0) W)⟩
      · rw [show sh j / 2 ^ 0 % 2 = 0 by omega]
        refine br_t rfl ⟨rd_in (by omega), nm_r (by rw [show (0 : Int32) = rd_c0 (sh j) 0 from (if_neg b).symm]) (nm_r (nI_1 0) W)⟩
end
section
/-! graphs: X's visit and Y's list, step by step alike -/
def rd_ix (od : Nat → Nat) : Nat → Nat → Option Nat
  | 0, _ => none
  | m + 1, v => match rd_ix od m v with
    | some i => some i
    | none => if od m = v then some m else none
theorem rd_ix_s {od : Nat → Nat} {v i : Nat} : ∀ m, rd_ix od m v = some i → i < m ∧ od i = v ∧ ∀ k, k < i → od k ≠ v := by
  intro m
  induction m with
  | zero => intro h; exact nomatch h
  | succ m ih =>
    intro h
    have e : rd_ix od (m + 1) v = match rd_ix od m v with | some i => some i | none => if od m = v then some m else none := rfl
    cases c : rd_ix od m v with
    | some j =>
      rw [e, c] at h
      cases h
      obtain ⟨a, b, d⟩ := ih c
      exact ⟨by omega, b, d⟩
    | none =>
      rw [e, c] at h
      have hn : ∀ k, k < m → od k ≠ v := by
        clear ih h e
        induction m with
        | zero => intro k hk; omega
        | succ m ih2 =>
          intro k hk
          have e2 : rd_ix od (m + 1) v = match rd_ix od m v with | some i => some i | none => if od m = v then some m else none := rfl
          cases c2 : rd_ix od m v with
          | some j => rw [e2, c2] at c; exact nomatch c
          | none =>
            rw [e2, c2] at c
            by_cases q : k = m
            · subst q
              intro z
              dsimp only at c
              rw [if_pos z] at c
              exact nomatch c
            · exact ih2 c2 k (by omega)
      by_cases z : od m = v
      · dsimp only at h
        rw [if_pos z] at h
        cases h
        exact ⟨by omega, z, hn⟩
      · dsimp only at h
        rw [if_neg z] at h
        exact nomatch h
theorem rd_ix_n {od : Nat → Nat} {v : Nat} : ∀ m, rd_ix od m v = none → ∀ k, k < m → od k ≠ v := by
  intro m
  induction m with
  | zero => intro _ k hk; omega
  | succ m ih2 =>
    intro c k hk
    have e2 : rd_ix od (m + 1) v = match rd_ix od m v with | some i => some i | none => if od m = v then some m else none := rfl
    cases c2 : rd_ix od m v with
    | some j => rw [e2, c2] at c; exact nomatch c
    | none =>
      rw [e2, c2] at c
      by_cases q : k = m
      · subst q
        intro z
        dsimp only at c
        rw [if_pos z] at c
        exact nomatch c
      · exact ih2 c2 k (by omega)
theorem rd_ix_c {od od' : Nat → Nat} {v : Nat} : ∀ m, (∀ k, k < m → od' k = od k) → rd_ix od' m v = rd_ix od m v := by
  intro m
  induction m with
  | zero => intro _; rfl
  | succ m ih =>
    intro h
    show (match rd_ix od' m v with | some i => some i | none => if od' m = v then some m else none) = (match rd_ix od m v with | some i => some i | none => if od m = v then some m else none)
    rw [ih (fun k hk => h k (by omega)), h m (by omega)]
theorem rd_ix_u {od : Nat → Nat} {m v u : Nat} (hn : rd_ix od m v = none) : rd_ix (rd_u od m v) (m + 1) u = if u = v then some m else rd_ix od m u := by
  have e : rd_ix (rd_u od m v) (m + 1) u = match rd_ix od m u with | some i => some i | none => if v = u then some m else none := by
    show (match rd_ix (rd_u od m v) m u with | some i => some i | none => if rd_u od m v m = u then some m else none) = _
    rw [rd_ix_c m (fun k hk => rd_un (by omega)), rd_us]
  rw [e]
  by_cases c : u = v
  · subst c
    rw [hn, if_pos rfl]
  · rw [if_neg c]
    cases rd_ix od m u with
    | some i => rfl
    | none => exact if_neg (fun z => c z.symm)
def rd_V (so : rt_F) (p m n : Nat) (od sk : Nat → Nat) (gOd gIo gSk hLi hOp : rt_F) : Prop :=
  m ≤ 12 ∧ n ≤ m + 1 ∧ (∀ i, i < m → gOd i = nI (od i) ∧ hLi i = nI (od i) ∧ od i < 12 ∧ ¬ so (12 * p + od i) = 0) ∧ (∀ i j, i < j → j < m → od i ≠ od j) ∧
  (∀ v, v < 12 → gIo v = rd_o (rd_ix od m v)) ∧ (∀ i, i < n → gSk i = nI (sk i) ∧ hOp i = nI (sk i) ∧ sk i < 12 ∧ ¬ so (12 * p + sk i) = 0)
def rd_bad (so : rt_F) (tk fl oc : Nat → Nat) (i : Nat) : Prop := so i = 1 ∧ tk i = 0 ∧ (nI (fl (oc i)) &&& 1) = 0
theorem rd_V_old {so gOd gIo gSk hLi hOp : rt_F} {p m n : Nat} {od sk : Nat → Nat} (h : rd_V so p m (n + 1) od sk gOd gIo gSk hLi hOp) : rd_V so p m n od sk gOd gIo gSk hLi hOp := by
  obtain ⟨h1, h2, h3, h4, h5, h6⟩ := h
  exact ⟨h1, by omega, h3, h4, h5, fun i hi => h6 i (by omega)⟩
theorem rd_V_new {so gOd gIo gSk hLi hOp : rt_F} {p m n : Nat} {od sk : Nat → Nat} (h : rd_V so p m (n + 1) od sk gOd gIo gSk hLi hOp) (hn : rd_ix od m (sk n) = none) :
    m < 12 ∧ rd_V so p (m + 1) n (rd_u od m (sk n)) sk (upd gOd m (nI (sk n))) (upd gIo (sk n) (nI m)) gSk (upd hLi m (nI (sk n))) hOp := by
  obtain ⟨h1, h2, h3, h4, h5, h6⟩ := h
  obtain ⟨k1, k2, k3, k4⟩ := h6 n (by omega)
  have hne := rd_ix_n m hn
  have hm : m < 12 := rd_php1 (f := od) (fun i hi => (h3 i hi).2.2.1) h4 k3 hne
  refine ⟨hm, by omega, by omega, fun i hi => ?_, fun i j hij hj => ?_, fun v hv => ?_, fun i hi => h6 i (by omega)⟩
  · by_cases e : i = m
    · subst e
      rw [pk_us, pk_us, rd_us]
      exact ⟨rfl, rfl, k3, k4⟩
    · rw [pk_un e, pk_un e, rd_un e]
      exact h3 i (by omega)
  · rw [rd_un (show i ≠ m by omega)]
    by_cases e : j = m
    · subst e
      rw [rd_us]; exact hne i hij
    · rw [rd_un e]; exact h4 i j hij (by omega)
  · rw [rd_ix_u hn]
    by_cases e : v = sk n
    · rw [if_pos e, e, pk_us]; rfl
    · rw [if_neg e, pk_un e]; exact h5 v hv
section
variable {K N p v b lm t : Nat} {P sh fl sg st oc tk le hm gv : Nat → Nat} {pr kn : Nat → Option Nat}
variable {li gIt pa ab yN yk tm hIt py bl : Int32} {dO dP dS dF dG dR dA xB xR xK xU xH xF xG xT xc xo xl so ho xC ce xt va la gi gSk gOd gIo gSo gNa gSh gSr gMa gTi gCe yB yR yK yO yA yH yF yG yU yT yb yc yl yp yC yt yL ap ys hLi hOp hNa hSh hSr hTi hCe hRe : Nat → Int32} {nw : Int64} {xL : Nat → Int64}
/-- what is known of a plain object, on both sides -/
theorem rd_obj (hC : rd_CR (N, P, sh, fl, sg, st, pr, kn) (xB, xR, xK, xU, xH, xF, xG, xT) (yN, yB, yR, yK, yO, yA, yH, yF, yG, yU, yT)) (hR : rd_OR K (N, P, sh, fl, sg, st, pr, kn) (oc, tk, le, hm, gv, lm, t) (so, ho, ce, va, la, gi) (li, nw, xC, xt, xL) (tm, yC, yt, yL, ap)) {i : Nat} (hi : i < 36) (h1 : so i = 1) :
    oc i < 180 ∧ sh (oc i) < 4 ∧ P (oc i) < 180 ∧ xC i = nI (P (oc i)) ∧ xH (P (oc i)) = nI (sh (oc i)) ∧ xF (P (oc i)) = nI (fl (oc i)) ∧ yC i = nI (oc i) ∧ yH (oc i) = nI (sh (oc i)) ∧ yF (oc i) = nI (fl (oc i)) ∧ yO (oc i) = nI (P (oc i) / 12) ∧ yA (oc i) = nI (P (oc i) % 12) ∧ oc i < N := by
  have hj := (hR.1.2.2.1 i hi h1).1
  have hN := rd_NB' hC.1
  obtain ⟨a1, _, a3, _⟩ := hC.1.1 _ hj
  obtain ⟨_, x2, x3, _⟩ := hC.2.1.2 _ hj
  obtain ⟨y1, y2, _, y4, y5, _⟩ := hC.2.2.1.2.2 _ hj
  exact ⟨by omega, a3, a1, hR.2.1.2.2.1 i hi h1, x2, x3, hR.2.2.2.1 i hi h1, y4, y5, y1, y2, hj⟩
theorem rd_push1 (hC : rd_CR (N, P, sh, fl, sg, st, pr, kn) (xB, xR, xK, xU, xH, xF, xG, xT) (yN, yB, yR, yK, yO, yA, yH, yF, yG, yU, yT)) (hR : rd_OR K (N, P, sh, fl, sg, st, pr, kn) (oc, tk, le, hm, gv, lm, t) (so, ho, ce, va, la, gi) (li, nw, xC, xt, xL) (tm, yC, yt, yL, ap)) (hp3 : p < 3) (hv : v < 12) (h1 : so (12 * p + v) = 1) {j n : Nat} {sk : Nat → Nat} (hj : j < 2) (hn : n < 20)
    (hst : ∀ i, i < n → gSk i = nI (sk i) ∧ hOp i = nI (sk i) ∧ sk i < 12 ∧ ¬ so (12 * p + sk i) = 0) :
    ∃ (n' : Nat) (sk' : Nat → Nat) (gSk' hOp' : rt_F), n' ≤ n + 1 ∧ (∀ i, i < n' → gSk' i = nI (sk' i) ∧ hOp' i = nI (sk' i) ∧ sk' i < 12 ∧ ¬ so (12 * p + sk' i) = 0) ∧
      (∀ (post : Int32 → SX → Prop) J x3 f, wX_visit_181 post J (nI p) x3 (nI (12 * p + v)) li nw gIt pa ab f (nI n') (nI j + (-1)) dO dP dS dF dG dR dA xB xR xK xU xH xF xG xT xc xo xl so ho xC ce xt xL va la gi gSk' gOd gIo gSo gNa gSh gSr gMa gTi gCe → wX_visit_181 post J (nI p) x3 (nI (12 * p + v)) li nw gIt pa ab (f + 1) (nI n) (nI j) dO dP dS dF dG dR dA xB xR xK xU xH xF xG xT xc xo xl so ho xC ce xt xL va la gi gSk gOd gIo gSo gNa gSh gSr gMa gTi gCe) ∧
      (∀ (post : SY → Prop) J x3 f, wY_list_118 post J (nI p) x3 (nI v) 1 yN yk tm hIt py bl f (nI n') (nI j + (-1)) dO dP dS dF dG dR dA yB yR yK yO yA yH yF yG yU yT yb yc yl yp so yC yt ho ce yL va la gi ap ys hLi hOp' hNa hSh hSr hTi hCe hRe → wY_list_118 post J (nI p) x3 (nI v) 1 yN yk tm hIt py bl (f + 1) (nI n) (nI j) dO dP dS dF dG dR dA yB yR yK yO yA yH yF yG yU yT yb yc yl yp so yC yt ho ce yL va la gi ap ys hLi hOp hNa hSh hSr hTi hCe hRe) := by
  obtain ⟨o1, o2, o3, o4, o5, o6, o7, o8, o9, o10, o11, o12⟩ := rd_obj hC hR (i := 12 * p + v) (by omega) h1
  have hvr := hR.1.2.2.2.2.2.2.2.2 (12 * p + v) (by omega) h1 j hj
  rw [show (12 * p + v) / 12 = p by omega] at hvr
  have e2 : 2 * nI (12 * p + v) + nI j = nI (2 * (12 * p + v) + j) := by rw [rd_m2, nI_add]
  have c2 : (nI (2 * (12 * p + v) + j)).toNatClampNeg = 2 * (12 * p + v) + j := rd_cl (by omega)
  have e12 : 12 * nI p + nI v = nI (12 * p + v) := by rw [rd_m12, nI_add]
  have xR : ∀ (post : Int32 → SX → Prop) J x3 f, ((nI (sh (oc (12 * p + v)) / 2 ^ j % 2) = 0 → ∀ x7 : Int32, x7 = nI j + (-1) → wX_visit_181 post J (nI p) x3 (nI (12 * p + v)) li nw gIt pa ab f (nI n) x7 dO dP dS dF dG dR dA xB xR xK xU xH xF xG xT xc xo xl so ho xC ce xt xL va la gi gSk gOd gIo gSo gNa gSh gSr gMa gTi gCe) ∧ (¬ nI (sh (oc (12 * p + v)) / 2 ^ j % 2) = 0 → (vp_in (nI (2 * (12 * p + v) + j)) 72 ∧ ((ce (2 * (12 * p + v) + j) < 0 → ∀ x7 : Int32, x7 = nI j + (-1) → wX_visit_181 post J (nI p) x3 (nI (12 * p + v)) li nw gIt pa ab f (nI n) x7 dO dP dS dF dG dR dA xB xR xK xU xH xF xG xT xc xo xl so ho xC ce xt xL va la gi gSk gOd gIo gSo gNa gSh gSr gMa gTi gCe) ∧ (¬ ce (2 * (12 * p + v) + j) < 0 → ∀ x4 : Int32, x4 = nI n + 1 → (vp_in (nI (2 * (12 * p + v) + j)) 72 ∧ (vp_in (nI n) 25 ∧ ∀ S : Nat → Int32, S = upd gSk (nI n).toNatClampNeg (vp_nar .char (((ce (2 * (12 * p + v) + j)).toUInt32 % 65536).toInt32)) → ∀ x7 : Int32, x7 = nI j + (-1) → wX_visit_181 post J (nI p) x3 (nI (12 * p + v)) li nw gIt pa ab f x4 x7 dO dP dS dF dG dR dA xB xR xK xU xH xF xG xT xc xo xl so ho xC ce xt xL va la gi S gOd gIo gSo gNa gSh gSr gMa gTi gCe))))))) → wX_visit_181 post J (nI p) x3 (nI (12 * p + v)) li nw gIt pa ab (f + 1) (nI n) (nI j) dO dP dS dF dG dR dA xB xR xK xU xH xF xG xT xc xo xl so ho xC ce xt xL va la gi gSk gOd gIo gSo gNa gSh gSr gMa gTi gCe := by
    intro post J x3 f h
    refine br_f (nI_pos (by omega)) ?_
    refine xq_ref (by omega) hj h1 o3 o4 o5 o2 ?_
    rw [e2, c2]
    exact h
  have yR' : ∀ (post : SY → Prop) J x3 f, ((nI (sh (oc (12 * p + v)) / 2 ^ j % 2) = 0 → wY_list_165 post J (wY_list_118 post J (nI p) x3 (nI v) 1 yN yk tm hIt py bl f) (nI p) x3 (nI n) (nI v) 1 (nI j) (-1) yN yk tm hIt py bl dO dP dS dF dG dR dA yB yR yK yO yA yH yF yG yU yT yb yc yl yp so yC yt ho ce yL va la gi ap ys hLi hOp hNa hSh hSr hTi hCe hRe) ∧ (¬ nI (sh (oc (12 * p + v)) / 2 ^ j % 2) = 0 → (vp_in (nI (2 * (12 * p + v) + j)) 72 ∧ wY_list_165 post J (wY_list_118 post J (nI p) x3 (nI v) 1 yN yk tm hIt py bl f) (nI p) x3 (nI n) (nI v) 1 (nI j) (ce (2 * (12 * p + v) + j)) yN yk tm hIt py bl dO dP dS dF dG dR dA yB yR yK yO yA yH yF yG yU yT yb yc yl yp so yC yt ho ce yL va la gi ap ys hLi hOp hNa hSh hSr hTi hCe hRe))) → wY_list_118 post J (nI p) x3 (nI v) 1 yN yk tm hIt py bl (f + 1) (nI n) (nI j) dO dP dS dF dG dR dA yB yR yK yO yA yH yF yG yU yT yb yc yl yp so yC yt ho ce yL va la gi ap ys hLi hOp hNa hSh hSr hTi hCe hRe := by
    intro post J x3 f h
    refine br_f (nI_pos (by omega)) (br_f (by decide) ?_)
    rw [e12]
    refine yq_ref (by omega) hj o1 o7 o8 o2 ?_
    rw [e2, c2]
    exact h
  by_cases bit : sh (oc (12 * p + v)) / 2 ^ j % 2 = 1
  · obtain ⟨m, em, hm⟩ := hvr bit
    have nb : ¬ nI (sh (oc (12 * p + v)) / 2 ^ j % 2) = 0 := by rw [bit]; decide
    cases m with
    | none =>
      refine ⟨n, sk, gSk, hOp, by omega, hst, fun post J x3 f h => xR post J x3 f (br_f nb ⟨rd_in (by omega), br_t (by rw [em]; exact rd_m1n) (nm_e h)⟩), fun post J x3 f h => yR' post J x3 f (br_f nb ⟨rd_in (by omega), br_t (by rw [em]; exact rd_m1n) (nm_e h)⟩)⟩
    | some k =>
      obtain ⟨hk, hkn⟩ := hm k rfl
      have ck : vp_nar .char (((ce (2 * (12 * p + v) + j)).toUInt32 % 65536).toInt32) = nI k := by rw [em]; exact rd_ch k (by omega)
      have cn : (nI n).toNatClampNeg = n := rd_cl (by omega)
      refine ⟨n + 1, rd_u sk n k, upd gSk n (nI k), upd hOp n (nI k), by omega, fun i hi => ?_, fun post J x3 f h => xR post J x3 f (br_f nb ⟨rd_in (by omega), br_f (by rw [em]; exact nI_pos (by omega)) (nm_r (nI_1 n) ⟨rd_in (by omega), rd_in (by omega), nm_r (by rw [ck, cn]) (nm_e h)⟩)⟩), fun post J x3 f h => yR' post J x3 f (br_f nb ⟨rd_in (by omega), br_f (by rw [em]; exact nI_pos (by omega)) (nm_r (nI_1 n) ⟨rd_in (by omega), nm_r (by rw [cn, em]; rfl) (nm_e h)⟩)⟩)⟩
      by_cases e : i = n
      · subst e
        rw [pk_us, pk_us, rd_us]
        exact ⟨rfl, rfl, hk, hkn⟩
      · rw [pk_un e, pk_un e, rd_un e]
        exact hst i (by omega)
  · have b0 : nI (sh (oc (12 * p + v)) / 2 ^ j % 2) = 0 := by rw [show sh (oc (12 * p + v)) / 2 ^ j % 2 = 0 by omega]; rfl
    exact ⟨n, sk, gSk, hOp, by omega, hst, fun post J x3 f h => xR post J x3 f (br_t b0 (nm_e h)), fun post J x3 f h => yR' post J x3 f (br_t b0 (br_t rd_m1n (nm_e h)))⟩
theorem rd_push2 (hC : rd_CR (N, P, sh, fl, sg, st, pr, kn) (xB, xR, xK, xU, xH, xF, xG, xT) (yN, yB, yR, yK, yO, yA, yH, yF, yG, yU, yT)) (hR : rd_OR K (N, P, sh, fl, sg, st, pr, kn) (oc, tk, le, hm, gv, lm, t) (so, ho, ce, va, la, gi) (li, nw, xC, xt, xL) (tm, yC, yt, yL, ap)) (hp3 : p < 3) (hv : v < 12) (h1 : so (12 * p + v) = 1) {n : Nat} {sk : Nat → Nat} (hn : n < 19)
    (hst : ∀ i, i < n → gSk i = nI (sk i) ∧ hOp i = nI (sk i) ∧ sk i < 12 ∧ ¬ so (12 * p + sk i) = 0) :
    ∃ (n' : Nat) (sk' : Nat → Nat) (gSk' hOp' : rt_F), n' ≤ n + 2 ∧ (∀ i, i < n' → gSk' i = nI (sk' i) ∧ hOp' i = nI (sk' i) ∧ sk' i < 12 ∧ ¬ so (12 * p + sk' i) = 0) ∧
      (∀ (post : Int32 → SX → Prop) J x3, J (nI n') gIt dO dP dS dF dG dR dA xB xR xK xU xH xF xG xT xc xo xl so ho xC ce xt xL va la gi gSk' gOd gIo gSo gNa gSh gSr gMa gTi gCe → ∃ f, wX_visit_181 post J (nI p) x3 (nI (12 * p + v)) li nw gIt pa ab f (nI n) 1 dO dP dS dF dG dR dA xB xR xK xU xH xF xG xT xc xo xl so ho xC ce xt xL va la gi gSk gOd gIo gSo gNa gSh gSr gMa gTi gCe) ∧
      (∀ (post : SY → Prop) J x3, J (nI n') hIt dO dP dS dF dG dR dA yB yR yK yO yA yH yF yG yU yT yb yc yl yp so yC yt ho ce yL va la gi ap ys hLi hOp' hNa hSh hSr hTi hCe hRe → ∃ f, wY_list_118 post J (nI p) x3 (nI v) 1 yN yk tm hIt py bl f (nI n) 1 dO dP dS dF dG dR dA yB yR yK yO yA yH yF yG yU yT yb yc yl yp so yC yt ho ce yL va la gi ap ys hLi hOp hNa hSh hSr hTi hCe hRe) := by
  obtain ⟨n1, sk1, gSk1, hOp1, a1, a2, X1, Y1⟩ := rd_push1 hC hR hp3 hv h1 (j := 1) (by omega) (by omega) hst
  obtain ⟨n2, sk2, gSk2, hOp2, b1, b2, X2, Y2⟩ := rd_push1 (gSk := gSk1) (hOp := hOp1) hC hR hp3 hv h1 (j := 0) (by omega) (show n1 < 20 by omega) a2
  exact ⟨n2, sk2, gSk2, hOp2, by omega, b2, fun post J x3 h => ⟨3, X1 post J x3 2 (X2 post J x3 1 (br_t (by decide) h))⟩, fun post J x3 h => ⟨3, Y1 post J x3 2 (Y2 post J x3 1 (br_t (by decide) h))⟩⟩
end
end
section
/-! the loops of visit and list -/
section
variable {K N p b lm t : Nat} {P sh fl sg st oc tk le hm gv : Nat → Nat} {pr kn : Nat → Option Nat}
variable {li gIt pa ab yN yk tm hIt py bl : Int32} {dO dP dS dF dG dR dA xB xR xK xU xH xF xG xT xc xo xl so ho xC ce xt va la gi gSk gOd gIo gSo gNa gSh gSr gMa gTi gCe yB yR yK yO yA yH yF yG yU yT yb yc yl yp yC yt yL ap ys hLi hOp hNa hSh hSr hTi hCe hRe : Nat → Int32} {nw : Int64} {xL : Nat → Int64}
theorem yq_item {post : Int32 → Prop} {m v : Nat} {od : Nat → Nat} (hm : m ≤ 12) (hv : v < 12) (h : ∀ i, i < m → hLi i = nI (od i) ∧ od i < 12) (hp : post (rd_o (rd_ix od m v))) : wpY_itemOf post (yN, yk, tm, nI m, py, bl, dO, dP, dS, dF, dG, dR, dA, yB, yR, yK, yO, yA, yH, yF, yG, yU, yT, yb, yc, yl, yp, so, yC, yt, ho, ce, yL, va, la, gi, ap, ys, hLi, hOp, hNa, hSh, hSr, hTi, hCe, hRe) (nI v) := by
  obtain ⟨k, k1, k2, k3, k4⟩ := rd_first (fun i => od i = v) 0 m (Nat.zero_le _)
  refine rd_run (fun f j => wY_itemOf_2 post (nI v) yN yk tm (nI m) py bl dO dP dS dF dG dR dA yB yR yK yO yA yH yF yG yU yT yb yc yl yp so yC yt ho ce yL va la gi ap ys hLi hOp hNa hSh hSr hTi hCe hRe f (nI j)) (i := 0) (k := k) k1 ⟨1, ?_⟩ (fun f j hj1 hj2 W => ?_)
  · cases c : rd_ix od m v with
    | none =>
      have hn := rd_ix_n m c
      have : k = m := by
        rcases k4 with z | z
        · exact z
        · by_cases q : k = m
          · exact q
          · exact absurd z (hn k (by omega))
      subst this
      rw [c] at hp
      exact br_t (Int32.le_refl _) hp
    | some i =>
      obtain ⟨s1, s2, s3⟩ := rd_ix_s m c
      have hk : k = i := by
        by_cases q : k < i
        · rcases k4 with z | z
          · omega
          · exact absurd z (s3 k q)
        · by_cases q2 : i < k
          · exact absurd s2 (k3 i (Nat.zero_le _) q2)
          · omega
      subst hk
      rw [c] at hp
      refine br_f (nI_ge s1 (by omega)) ⟨rd_in (by omega), ?_⟩
      rw [rd_cl (by omega), (h k s1).1, s2]
      exact br_t rfl hp
  · refine br_f (nI_ge (by omega) (by omega)) ⟨rd_in (by omega), ?_⟩
    obtain ⟨a1, a2⟩ := h j (by omega)
    rw [rd_cl (by omega), a1]
    exact br_f (fun z => k3 j hj1 hj2 ((nI_eq (by omega) (by omega)).mp z)) (nm_r (nI_1 j) W)
/-- Y's round: the top is known, or it is new -/
theorem yq_23o {post : SY → Prop} {x3 : Int32} {m n f : Nat} {od sk : Nat → Nat} (hV : rd_V so p m (n + 1) od sk gOd gIo gSk hLi hOp) (hk : rd_ix od m (sk n) ≠ none) (h : wY_list_23 post (nI p) x3 yN yk tm py bl f (nI n) (nI m) dO dP dS dF dG dR dA yB yR yK yO yA yH yF yG yU yT yb yc yl yp so yC yt ho ce yL va la gi ap ys hLi hOp hNa hSh hSr hTi hCe hRe) :
    wY_list_23 post (nI p) x3 yN yk tm py bl (f + 1) (nI (n + 1)) (nI m) dO dP dS dF dG dR dA yB yR yK yO yA yH yF yG yU yT yb yc yl yp so yC yt ho ce yL va la gi ap ys hLi hOp hNa hSh hSr hTi hCe hRe := by
  obtain ⟨h1, h2, h3, h4, h5, h6⟩ := hV
  obtain ⟨k1, k2, k3, k4⟩ := h6 n (by omega)
  refine br_f (nI_nle (by omega) (by omega)) (nm_r (pk_m1 n) ⟨rd_in (by omega), ?_⟩)
  rw [rd_cl (by omega), k2]
  refine nm_e ?_
  refine yq_item (od := od) h1 k3 (fun i hi => ⟨(h3 i hi).2.1, (h3 i hi).2.2.1⟩) ?_
  cases c : rd_ix od m (sk n) with
  | none => exact absurd c hk
  | some i => exact br_f (nI_pos (by have := (rd_ix_s m c).1; omega)) h
theorem yq_23n {post : SY → Prop} {x3 : Int32} {m n f : Nat} {od sk : Nat → Nat} (hp3 : p < 3) (hV : rd_V so p m (n + 1) od sk gOd gIo gSk hLi hOp) (hk : rd_ix od m (sk n) = none) (hty : so (12 * p + sk n) = 1 → yt (12 * p + sk n) = nI (tk (12 * p + sk n))) (htb : tk (12 * p + sk n) < 5000)
    (h1 : so (12 * p + sk n) = 1 → (x3 = 0 → tk (12 * p + sk n) = 0) → ∃ f', wY_list_118 post (wY_list_23 post (nI p) x3 yN yk tm py bl f) (nI p) x3 (nI (sk n)) 1 yN yk tm (nI (m + 1)) py bl f' (nI n) 1 dO dP dS dF dG dR dA yB yR yK yO yA yH yF yG yU yT yb yc yl yp so yC yt ho ce yL va la gi ap ys (upd hLi m (nI (sk n))) hOp hNa hSh hSr hTi hCe hRe)
    (h0 : ¬ (so (12 * p + sk n) = 1 ∧ (x3 = 0 → tk (12 * p + sk n) = 0)) → wY_list_23 post (nI p) x3 yN yk tm py bl f (nI n) (nI (m + 1)) dO dP dS dF dG dR dA yB yR yK yO yA yH yF yG yU yT yb yc yl yp so yC yt ho ce yL va la gi ap ys (upd hLi m (nI (sk n))) hOp hNa hSh hSr hTi hCe hRe) :
    wY_list_23 post (nI p) x3 yN yk tm py bl (f + 1) (nI (n + 1)) (nI m) dO dP dS dF dG dR dA yB yR yK yO yA yH yF yG yU yT yb yc yl yp so yC yt ho ce yL va la gi ap ys hLi hOp hNa hSh hSr hTi hCe hRe := by
  have hm := (rd_V_new hV hk).1
  obtain ⟨v1, v2, v3, v4, v5, v6⟩ := hV
  obtain ⟨k1, k2, k3, k4⟩ := v6 n (by omega)
  have h0' : ¬ (so (12 * p + sk n) = 1 ∧ (x3 = 0 → tk (12 * p + sk n) = 0)) → ∃ f', wY_list_118 post (wY_list_23 post (nI p) x3 yN yk tm py bl f) (nI p) x3 (nI (sk n)) 0 yN yk tm (nI (m + 1)) py bl f' (nI n) 1 dO dP dS dF dG dR dA yB yR yK yO yA yH yF yG yU yT yb yc yl yp so yC yt ho ce yL va la gi ap ys (upd hLi m (nI (sk n))) hOp hNa hSh hSr hTi hCe hRe := fun z => ⟨1, br_f (by decide) (br_t rfl (h0 z))⟩
  refine br_f (nI_nle (by omega) (by omega)) (nm_r (pk_m1 n) ⟨rd_in (by omega), ?_⟩)
  rw [rd_cl (show n < 3000 by omega), k2]
  refine nm_e ?_
  refine yq_item (od := od) v1 k3 (fun i hi => ⟨(v3 i hi).2.1, (v3 i hi).2.2.1⟩) ?_
  rw [hk]
  refine br_t rd_m1n ⟨rd_in hm, ?_⟩
  rw [rd_cl (show m < 3000 by omega)]
  refine nm_e (nm_r (nI_1 m) ?_)
  rw [rd_m12, nI_add, rd_cl (by omega)]
  refine ⟨rd_in (by omega), ?_⟩
  by_cases c1 : so (12 * p + sk n) = 1
  · refine br_t c1 ?_
    by_cases c3 : x3 = 0
    · refine br_t c3 ⟨rd_in (by omega), ?_⟩
      rw [hty c1]
      by_cases c4 : tk (12 * p + sk n) = 0
      · exact br_t (by rw [c4]; rfl) (h1 c1 (fun _ => c4))
      · exact br_f (nI_ne0 (by omega) (by omega)) (h0' (fun z => c4 (z.2 c3)))
    · exact br_f c3 (h1 c1 (fun z => absurd z c3))
  · exact br_f c1 (h0' (fun z => c1 z.1))
/-- Y alone goes on to the end -/
theorem rd_lis (hC : rd_CR (N, P, sh, fl, sg, st, pr, kn) (xB, xR, xK, xU, xH, xF, xG, xT) (yN, yB, yR, yK, yO, yA, yH, yF, yG, yU, yT)) (hR : rd_OR K (N, P, sh, fl, sg, st, pr, kn) (oc, tk, le, hm, gv, lm, t) (so, ho, ce, va, la, gi) (li, nw, xC, xt, xL) (tm, yC, yt, yL, ap)) (hK : K ≤ 4000) (hp3 : p < 3) (x3 : Int32) :
    ∀ (μ m n : Nat) (od sk : Nat → Nat) (gOd gIo gSk hLi hOp : rt_F), 2 * (12 - m) + n ≤ μ → rd_V so p m n od sk gOd gIo gSk hLi hOp →
    ∃ (m' : Nat) (od' : Nat → Nat) (hLi' hOp' : rt_F), m ≤ m' ∧ m' ≤ 12 ∧ (∀ i, i < m' → hLi' i = nI (od' i) ∧ od' i < 12 ∧ ¬ so (12 * p + od' i) = 0) ∧ (∀ i, i < m → od' i = od i) ∧
      (∀ post : SY → Prop, post (yN, yk, tm, nI m', py, bl, dO, dP, dS, dF, dG, dR, dA, yB, yR, yK, yO, yA, yH, yF, yG, yU, yT, yb, yc, yl, yp, so, yC, yt, ho, ce, yL, va, la, gi, ap, ys, hLi', hOp', hNa, hSh, hSr, hTi, hCe, hRe) → ∃ f, wY_list_23 post (nI p) x3 yN yk tm py bl f (nI n) (nI m) dO dP dS dF dG dR dA yB yR yK yO yA yH yF yG yU yT yb yc yl yp so yC yt ho ce yL va la gi ap ys hLi hOp hNa hSh hSr hTi hCe hRe) := by
  intro μ
  induction μ with
  | zero =>
    intro m n od sk gOd gIo gSk hLi hOp hμ hV
    obtain rfl : n = 0 := by omega
    obtain ⟨h1, h2, h3, h4, h5, h6⟩ := hV
    exact ⟨m, od, hLi, hOp, Nat.le_refl _, h1, fun i hi => (h3 i hi).2, fun _ _ => rfl, fun post hp => ⟨1, br_t (Int32.le_refl _) hp⟩⟩
  | succ μ ih =>
    intro m n od sk gOd gIo gSk hLi hOp hμ hV
    cases n with
    | zero =>
      obtain ⟨h1, h2, h3, h4, h5, h6⟩ := hV
      exact ⟨m, od, hLi, hOp, Nat.le_refl _, h1, fun i hi => (h3 i hi).2, fun _ _ => rfl, fun post hp => ⟨1, br_t (Int32.le_refl _) hp⟩⟩
    | succ n =>
      by_cases hk : rd_ix od m (sk n) = none
      · obtain ⟨hm, hV'⟩ := rd_V_new hV hk
        obtain ⟨k1, k2, k3, k4⟩ := hV.2.2.2.2.2 n (by omega)
        have hty : so (12 * p + sk n) = 1 → yt (12 * p + sk n) = nI (tk (12 * p + sk n)) := fun _ => hR.2.2.2.2.1 _ (by omega) k4
        have htb : tk (12 * p + sk n) < 5000 := by have := (hR.1.2.1 (12 * p + sk n) (by omega)).2.2.2; omega
        by_cases lead : so (12 * p + sk n) = 1 ∧ (x3 = 0 → tk (12 * p + sk n) = 0)
        · obtain ⟨n2, sk2, gSk2, hOp2, b1, b2, X2, Y2⟩ := rd_push2 (pa := 0) (ab := 0) (gIt := 0) (xc := so) (xo := so) (xl := so) (gOd := so) (gIo := so) (gSo := so) (gNa := so) (gSh := so) (gSr := so) (gMa := so) (gTi := so) (gCe := so) (gSk := gSk) (hOp := hOp) (hLi := upd hLi m (nI (sk n))) (hIt := nI (m + 1)) hC hR hp3 k3 lead.1 (n := n) (sk := sk) (by have := hV.2.1; omega) hV'.2.2.2.2.2
          have hV2 : rd_V so p (m + 1) n2 (rd_u od m (sk n)) sk2 (upd gOd m (nI (sk n))) (upd gIo (sk n) (nI m)) gSk2 (upd hLi m (nI (sk n))) hOp2 := ⟨hV'.1, by have := hV.2.1; omega, hV'.2.2.1, hV'.2.2.2.1, hV'.2.2.2.2.1, b2⟩
          obtain ⟨m', od', hLi', hOp', r1, r2, r3, r4, Y3⟩ := ih (m + 1) n2 _ sk2 _ _ gSk2 _ hOp2 (by omega) hV2
          refine ⟨m', od', hLi', hOp', by omega, r2, r3, fun i hi => (r4 i (by omega)).trans (rd_un (by omega)), fun post hp => ?_⟩
          obtain ⟨F, hF⟩ := Y3 post hp
          exact ⟨F + 1, yq_23n hp3 hV hk hty htb (fun _ _ => Y2 post _ x3 hF) (fun z => absurd lead z)⟩
        · obtain ⟨m', od', hLi', hOp', r1, r2, r3, r4, Y3⟩ := ih (m + 1) n _ sk _ _ gSk _ hOp (by omega) hV'
          refine ⟨m', od', hLi', hOp', by omega, r2, r3, fun i hi => (r4 i (by omega)).trans (rd_un (by omega)), fun post hp => ?_⟩
          obtain ⟨F, hF⟩ := Y3 post hp
          exact ⟨F + 1, yq_23n hp3 hV hk hty htb (fun z1 z2 => absurd ⟨z1, z2⟩ lead) (fun _ => hF)⟩
      · obtain ⟨m', od', hLi', hOp', r1, r2, r3, r4, Y3⟩ := ih m n od sk gOd gIo gSk hLi hOp (by omega) (rd_V_old hV)
        refine ⟨m', od', hLi', hOp', r1, r2, r3, r4, fun post hp => ?_⟩
        obtain ⟨F, hF⟩ := Y3 post hp
        exact ⟨F + 1, yq_23o hV hk hF⟩
/-- X's round -/
theorem xq_48o {post : Int32 → SX → Prop} {x3 : Int32} {m n f : Nat} {od sk : Nat → Nat} (hV : rd_V so p m (n + 1) od sk gOd gIo gSk hLi hOp) (hk : rd_ix od m (sk n) ≠ none) (h : wX_visit_48 post (nI p) x3 li nw pa ab f (nI n) (nI m) dO dP dS dF dG dR dA xB xR xK xU xH xF xG xT xc xo xl so ho xC ce xt xL va la gi gSk gOd gIo gSo gNa gSh gSr gMa gTi gCe) :
    wX_visit_48 post (nI p) x3 li nw pa ab (f + 1) (nI (n + 1)) (nI m) dO dP dS dF dG dR dA xB xR xK xU xH xF xG xT xc xo xl so ho xC ce xt xL va la gi gSk gOd gIo gSo gNa gSh gSr gMa gTi gCe := by
  obtain ⟨h1, h2, h3, h4, h5, h6⟩ := hV
  obtain ⟨k1, k2, k3, k4⟩ := h6 n (by omega)
  refine br_f (nI_nle (by omega) (by omega)) (nm_r (pk_m1 n) ⟨rd_in (by omega), ?_⟩)
  rw [rd_cl (by omega), k1]
  refine nm_e (nm_e ⟨rd_in k3, ?_⟩)
  rw [rd_cl (by omega), h5 _ k3]
  cases c : rd_ix od m (sk n) with
  | none => exact absurd c hk
  | some i => exact br_f (nI_pos (by have := (rd_ix_s m c).1; omega)) h
theorem xq_48n {post : Int32 → SX → Prop} {m n f : Nat} {od sk : Nat → Nat} (hp3 : p < 3) (hb : b < 2) (hV : rd_V so p m (n + 1) od sk gOd gIo gSk hLi hOp) (hk : rd_ix od m (sk n) = none) (hso : so (12 * p + sk n) = 1 ∨ so (12 * p + sk n) = 2) (hty : xt (12 * p + sk n) = nI (tk (12 * p + sk n))) (htb : tk (12 * p + sk n) < 5000)
    (h1 : so (12 * p + sk n) = 1 → (b = 1 → tk (12 * p + sk n) = 0) → wX_visit_146 post (wX_visit_48 post (nI p) (nI b) li nw pa ab f) (nI p) (nI b) (nI n) (nI (12 * p + sk n)) li nw (nI (m + 1)) pa ab dO dP dS dF dG dR dA xB xR xK xU xH xF xG xT xc xo xl so ho xC ce xt xL va la gi gSk (upd gOd m (nI (sk n))) (upd gIo (sk n) (nI m)) gSo gNa gSh gSr gMa gTi gCe)
    (h0 : ¬ (so (12 * p + sk n) = 1 ∧ (b = 1 → tk (12 * p + sk n) = 0)) → wX_visit_48 post (nI p) (nI b) li nw pa ab f (nI n) (nI (m + 1)) dO dP dS dF dG dR dA xB xR xK xU xH xF xG xT xc xo xl so ho xC ce xt xL va la gi gSk (upd gOd m (nI (sk n))) (upd gIo (sk n) (nI m)) gSo gNa gSh gSr gMa gTi gCe) :
    wX_visit_48 post (nI p) (nI b) li nw pa ab (f + 1) (nI (n + 1)) (nI m) dO dP dS dF dG dR dA xB xR xK xU xH xF xG xT xc xo xl so ho xC ce xt xL va la gi gSk gOd gIo gSo gNa gSh gSr gMa gTi gCe := by
  have hm := (rd_V_new hV hk).1
  obtain ⟨v1, v2, v3, v4, v5, v6⟩ := hV
  obtain ⟨k1, k2, k3, k4⟩ := v6 n (by omega)
  refine br_f (nI_nle (by omega) (by omega)) (nm_r (pk_m1 n) ⟨rd_in (by omega), ?_⟩)
  rw [rd_cl (show n < 3000 by omega), k1]
  refine nm_e ?_
  rw [rd_m12, nI_add]
  refine nm_e ⟨rd_in k3, ?_⟩
  rw [rd_cl (show sk n < 3000 by omega), v5 _ k3, hk, rd_nb8 (by omega), rd_nb8 (by omega), rd_cl (show m < 3000 by omega), rd_cl (by omega)]
  refine br_t rd_m1n ⟨rd_in k3, nm_e (nm_r (nI_1 m) ⟨rd_in hm, nm_e ⟨rd_in (by omega), ?_⟩⟩)⟩
  rcases hso with c1 | c2
  · refine br_f (by rw [c1]; decide) ?_
    by_cases c3 : b = 0
    · exact br_t (by rw [c3]; rfl) (h1 c1 (fun z => by omega))
    · refine br_f (nI_ne0 (by omega) (by omega)) ⟨rd_in (by omega), ?_⟩
      rw [hty]
      by_cases c4 : tk (12 * p + sk n) = 0
      · exact br_t (by rw [c4]; exact Int32.le_refl _) (h1 c1 (fun _ => c4))
      · exact br_f (nI_nle (by omega) (by omega)) (h0 (fun z => c4 (z.2 (by omega))))
  · exact br_t c2 (h0 (fun z => by rw [c2] at z; exact absurd z.1 (by decide)))
/-- both -/
theorem rd_vis (hC : rd_CR (N, P, sh, fl, sg, st, pr, kn) (xB, xR, xK, xU, xH, xF, xG, xT) (yN, yB, yR, yK, yO, yA, yH, yF, yG, yU, yT)) (hR : rd_OR K (N, P, sh, fl, sg, st, pr, kn) (oc, tk, le, hm, gv, lm, t) (so, ho, ce, va, la, gi) (li, nw, xC, xt, xL) (tm, yC, yt, yL, ap)) (hK : K ≤ 4000) (hp3 : p < 3) (hb : b < 2) :
    ∀ (μ m n : Nat) (od sk : Nat → Nat) (gOd gIo gSk hLi hOp : rt_F), 2 * (12 - m) + n ≤ μ → rd_V so p m n od sk gOd gIo gSk hLi hOp → (b = 1 → ∀ i, i < m → ¬ rd_bad so tk fl oc (12 * p + od i)) →
    (∃ (m' : Nat) (od' sk' : Nat → Nat) (gOd' gIo' gSk' hLi' hOp' : rt_F), rd_V so p m' 0 od' sk' gOd' gIo' gSk' hLi' hOp' ∧ (b = 1 → ∀ i, i < m' → ¬ rd_bad so tk fl oc (12 * p + od' i)) ∧ m ≤ m' ∧ (∀ i, i < m → od' i = od i) ∧
      (∀ post : Int32 → SX → Prop, post (-1) (li, nw, nI m', pa, ab, dO, dP, dS, dF, dG, dR, dA, xB, xR, xK, xU, xH, xF, xG, xT, xc, xo, xl, so, ho, xC, ce, xt, xL, va, la, gi, gSk', gOd', gIo', gSo, gNa, gSh, gSr, gMa, gTi, gCe) → ∃ f, wX_visit_48 post (nI p) (nI b) li nw pa ab f (nI n) (nI m) dO dP dS dF dG dR dA xB xR xK xU xH xF xG xT xc xo xl so ho xC ce xt xL va la gi gSk gOd gIo gSo gNa gSh gSr gMa gTi gCe) ∧
      (∀ post : SY → Prop, post (yN, yk, tm, nI m', py, bl, dO, dP, dS, dF, dG, dR, dA, yB, yR, yK, yO, yA, yH, yF, yG, yU, yT, yb, yc, yl, yp, so, yC, yt, ho, ce, yL, va, la, gi, ap, ys, hLi', hOp', hNa, hSh, hSr, hTi, hCe, hRe) → ∃ f, wY_list_23 post (nI p) (nI (1 - b)) yN yk tm py bl f (nI n) (nI m) dO dP dS dF dG dR dA yB yR yK yO yA yH yF yG yU yT yb yc yl yp so yC yt ho ce yL va la gi ap ys hLi hOp hNa hSh hSr hTi hCe hRe)) ∨
    (b = 1 ∧ ∃ (m1 m' : Nat) (od' : Nat → Nat) (gOd' gIo' gSk' hLi' hOp' : rt_F) (gIt' : Int32), m1 < m' ∧ m' ≤ 12 ∧ (∀ i, i < m' → hLi' i = nI (od' i) ∧ od' i < 12 ∧ ¬ so (12 * p + od' i) = 0) ∧ (∀ i, i < m1 → ¬ rd_bad so tk fl oc (12 * p + od' i)) ∧ rd_bad so tk fl oc (12 * p + od' m1) ∧
      (∀ post : Int32 → SX → Prop, post (nI (P (oc (12 * p + od' m1)) % 12)) (li, nw, gIt', pa, ab, dO, dP, dS, dF, dG, dR, dA, xB, xR, xK, xU, xH, xF, xG, xT, xc, xo, xl, so, ho, xC, ce, xt, xL, va, la, gi, gSk', gOd', gIo', gSo, gNa, gSh, gSr, gMa, gTi, gCe) → ∃ f, wX_visit_48 post (nI p) (nI b) li nw pa ab f (nI n) (nI m) dO dP dS dF dG dR dA xB xR xK xU xH xF xG xT xc xo xl so ho xC ce xt xL va la gi gSk gOd gIo gSo gNa gSh gSr gMa gTi gCe) ∧
      (∀ post : SY → Prop, post (yN, yk, tm, nI m', py, bl, dO, dP, dS, dF, dG, dR, dA, yB, yR, yK, yO, yA, yH, yF, yG, yU, yT, yb, yc, yl, yp, so, yC, yt, ho, ce, yL, va, la, gi, ap, ys, hLi', hOp', hNa, hSh, hSr, hTi, hCe, hRe) → ∃ f, wY_list_23 post (nI p) (nI (1 - b)) yN yk tm py bl f (nI n) (nI m) dO dP dS dF dG dR dA yB yR yK yO yA yH yF yG yU yT yb yc yl yp so yC yt ho ce yL va la gi ap ys hLi hOp hNa hSh hSr hTi hCe hRe)) := by
  intro μ
  induction μ with
  | zero =>
    intro m n od sk gOd gIo gSk hLi hOp hμ hV hbad
    obtain rfl : n = 0 := by omega
    exact Or.inl ⟨m, od, sk, gOd, gIo, gSk, hLi, hOp, hV, hbad, Nat.le_refl _, fun _ _ => rfl, fun post hp => ⟨1, br_t (Int32.le_refl _) hp⟩, fun post hp => ⟨1, br_t (Int32.le_refl _) hp⟩⟩
  | succ μ ih =>
    intro m n od sk gOd gIo gSk hLi hOp hμ hV hbad
    cases n with
    | zero => exact Or.inl ⟨m, od, sk, gOd, gIo, gSk, hLi, hOp, hV, hbad, Nat.le_refl _, fun _ _ => rfl, fun post hp => ⟨1, br_t (Int32.le_refl _) hp⟩, fun post hp => ⟨1, br_t (Int32.le_refl _) hp⟩⟩
    | succ n =>
      by_cases hk : rd_ix od m (sk n) = none
      case neg =>
        rcases ih m n od sk gOd gIo gSk hLi hOp (by omega) (rd_V_old hV) hbad with ⟨m', od', sk', a1, a2, a3, a4, a5, r1, r2, r3, r4, X3, Y3⟩ | ⟨hb1, m1, m', od', a1, a2, a3, a4, a5, a6, r1, r2, r3, r4, r5, X3, Y3⟩
        · refine Or.inl ⟨m', od', sk', a1, a2, a3, a4, a5, r1, r2, r3, r4, fun post hp => ?_, fun post hp => ?_⟩
          · obtain ⟨F, hF⟩ := X3 post hp
            exact ⟨F + 1, xq_48o hV hk hF⟩
          · obtain ⟨F, hF⟩ := Y3 post hp
            exact ⟨F + 1, yq_23o hV hk hF⟩
        · refine Or.inr ⟨hb1, m1, m', od', a1, a2, a3, a4, a5, a6, r1, r2, r3, r4, r5, fun post hp => ?_, fun post hp => ?_⟩
          · obtain ⟨F, hF⟩ := X3 post hp
            exact ⟨F + 1, xq_48o hV hk hF⟩
          · obtain ⟨F, hF⟩ := Y3 post hp
            exact ⟨F + 1, yq_23o hV hk hF⟩
      obtain ⟨hm, hV'⟩ := rd_V_new hV hk
      obtain ⟨k1, k2, k3, k4⟩ := hV.2.2.2.2.2 n (by omega)
      have hty : yt (12 * p + sk n) = nI (tk (12 * p + sk n)) := hR.2.2.2.2.1 _ (by omega) k4
      have htx : xt (12 * p + sk n) = nI (tk (12 * p + sk n)) := hR.2.1.2.2.2.1 _ (by omega) k4
      have htb : tk (12 * p + sk n) < 5000 := by have := (hR.1.2.1 (12 * p + sk n) (by omega)).2.2.2; omega
      have hso : so (12 * p + sk n) = 1 ∨ so (12 * p + sk n) = 2 := (hR.1.2.1 (12 * p + sk n) (by omega)).1.resolve_left k4
      have hx3 : nI (1 - b) = 0 ↔ b = 1 := by
        have : b = 0 ∨ b = 1 := by omega
        rcases this with rfl | rfl <;> decide
      have hld : (so (12 * p + sk n) = 1 ∧ (nI (1 - b) = 0 → tk (12 * p + sk n) = 0)) ↔ (so (12 * p + sk n) = 1 ∧ (b = 1 → tk (12 * p + sk n) = 0)) := by rw [hx3]
      have mono : ∀ (m' : Nat) (od' : Nat → Nat), m + 1 ≤ m' → (∀ i, i < m + 1 → od' i = rd_u od m (sk n) i) → m ≤ m' ∧ ∀ i, i < m → od' i = od i := fun m' od' z1 z2 => ⟨by omega, fun i hi => (z2 i (by omega)).trans (rd_un (by omega))⟩
      by_cases lead : so (12 * p + sk n) = 1 ∧ (b = 1 → tk (12 * p + sk n) = 0)
      · obtain ⟨o1, o2, o3, o4, o5, o6, o7, o8, o9, o10, o11, o12⟩ := rd_obj hC hR (i := 12 * p + sk n) (by omega) lead.1
        have ci : (nI (12 * p + sk n)).toNatClampNeg = 12 * p + sk n := rd_cl (by omega)
        by_cases hbd : b = 1 ∧ rd_bad so tk fl oc (12 * p + sk n)
        · -- X stops here
          right
          have hV0 := hV'
          obtain ⟨n2, sk2, gSk2, hOp2, b1, b2, X2, Y2⟩ := rd_push2 (pa := 0) (ab := 0) (gIt := 0) (xc := so) (xo := so) (xl := so) (gOd := so) (gIo := so) (gSo := so) (gNa := so) (gSh := so) (gSr := so) (gMa := so) (gTi := so) (gCe := so) (gSk := gSk) (hOp := hOp) (hLi := upd hLi m (nI (sk n))) (hIt := nI (m + 1)) hC hR hp3 k3 lead.1 (n := n) (sk := sk) (by have := hV.2.1; omega) hV'.2.2.2.2.2
          have hV2 : rd_V so p (m + 1) n2 (rd_u od m (sk n)) sk2 (upd gOd m (nI (sk n))) (upd gIo (sk n) (nI m)) gSk2 (upd hLi m (nI (sk n))) hOp2 := ⟨hV'.1, by have := hV.2.1; omega, hV'.2.2.1, hV'.2.2.2.1, hV'.2.2.2.2.1, b2⟩
          obtain ⟨m', od', hLi', hOp', r1, r2, r3, r4, Y3⟩ := rd_lis hC hR hK hp3 (nI (1 - b)) μ (m + 1) n2 _ sk2 _ _ gSk2 _ hOp2 (by omega) hV2
          have em : od' m = sk n := (r4 m (by omega)).trans rd_us
          refine ⟨hbd.1, m, m', od', upd gOd m (nI (sk n)), upd gIo (sk n) (nI m), gSk, hLi', hOp', nI (m + 1), by omega, r2, r3, fun i hi => ?_, ?_, fun post hp => ⟨1, xq_48n hp3 hb hV hk hso htx htb (fun _ _ => ?_) (fun z => absurd lead z)⟩, fun post hp => ?_⟩
          · rw [r4 i (by omega), rd_un (by omega)]; exact hbad hbd.1 i hi
          · rw [em]; exact hbd.2
          · rw [em] at hp
            refine br_f (nI_ne0 (by omega) (by omega)) ⟨rd_in (by omega), ?_⟩
            rw [ci, o4]
            refine ⟨rd_in o3, ?_⟩
            rw [rd_cl (by omega), o6]
            refine br_t hbd.2.2.2 ⟨rd_in (by omega), by decide, ?_⟩
            rw [show (12 : Int32) = nI 12 from rfl, pk_rem (by omega) (by omega) (by omega)]
            exact hp
          · obtain ⟨F, hF⟩ := Y3 post hp
            exact ⟨F + 1, yq_23n hp3 hV hk (fun _ => hty) htb (fun _ _ => Y2 post _ _ hF) (fun z => absurd (hld.mpr lead) z)⟩
        · -- both push
          obtain ⟨n2, sk2, gSk2, hOp2, b1, b2, X2, Y2⟩ := rd_push2 (gSk := gSk) (hOp := hOp) (hLi := upd hLi m (nI (sk n))) (hIt := nI (m + 1)) (gIt := nI (m + 1)) (gOd := upd gOd m (nI (sk n))) (gIo := upd gIo (sk n) (nI m)) hC hR hp3 k3 lead.1 (n := n) (sk := sk) (by have := hV.2.1; omega) hV'.2.2.2.2.2
          have hV2 : rd_V so p (m + 1) n2 (rd_u od m (sk n)) sk2 (upd gOd m (nI (sk n))) (upd gIo (sk n) (nI m)) gSk2 (upd hLi m (nI (sk n))) hOp2 := ⟨hV'.1, by have := hV.2.1; omega, hV'.2.2.1, hV'.2.2.2.1, hV'.2.2.2.2.1, b2⟩
          have hbad2 : b = 1 → ∀ i, i < m + 1 → ¬ rd_bad so tk fl oc (12 * p + rd_u od m (sk n) i) := by
            intro hb1 i hi
            by_cases e : i = m
            · subst e; rw [rd_us]; exact fun z => hbd ⟨hb1, z⟩
            · rw [rd_un e]; exact hbad hb1 i (by omega)
          have hX146 : ∀ (post : Int32 → SX → Prop) F, wX_visit_48 post (nI p) (nI b) li nw pa ab F (nI n2) (nI (m + 1)) dO dP dS dF dG dR dA xB xR xK xU xH xF xG xT xc xo xl so ho xC ce xt xL va la gi gSk2 (upd gOd m (nI (sk n))) (upd gIo (sk n) (nI m)) gSo gNa gSh gSr gMa gTi gCe → wX_visit_48 post (nI p) (nI b) li nw pa ab (F + 1) (nI (n + 1)) (nI m) dO dP dS dF dG dR dA xB xR xK xU xH xF xG xT xc xo xl so ho xC ce xt xL va la gi gSk gOd gIo gSo gNa gSh gSr gMa gTi gCe := by
            intro post F h
            refine xq_48n hp3 hb hV hk hso htx htb (fun _ _ => ?_) (fun z => absurd lead z)
            by_cases c : b = 0
            · exact br_t (by rw [c]; rfl) (X2 post _ _ h)
            · refine br_f (nI_ne0 (by omega) (by omega)) ⟨rd_in (by omega), ?_⟩
              rw [ci, o4]
              refine ⟨rd_in o3, ?_⟩
              rw [rd_cl (by omega), o6]
              exact br_f (fun z => hbd ⟨by omega, lead.1, lead.2 (by omega), z⟩) (X2 post _ _ h)
          rcases ih (m + 1) n2 _ sk2 _ _ gSk2 _ hOp2 (by omega) hV2 hbad2 with ⟨m', od', sk', a1, a2, a3, a4, a5, r1, r2, r3, r4, X3, Y3⟩ | ⟨hb1, m1, m', od', a1, a2, a3, a4, a5, a6, r1, r2, r3, r4, r5, X3, Y3⟩
          · refine Or.inl ⟨m', od', sk', a1, a2, a3, a4, a5, r1, r2, (mono m' od' r3 r4).1, (mono m' od' r3 r4).2, fun post hp => ?_, fun post hp => ?_⟩
            · obtain ⟨F, hF⟩ := X3 post hp
              exact ⟨F + 1, hX146 post F hF⟩
            · obtain ⟨F, hF⟩ := Y3 post hp
              exact ⟨F + 1, yq_23n hp3 hV hk (fun _ => hty) htb (fun _ _ => Y2 post _ _ hF) (fun z => absurd (hld.mpr lead) z)⟩
          · refine Or.inr ⟨hb1, m1, m', od', a1, a2, a3, a4, a5, a6, r1, r2, r3, r4, r5, fun post hp => ?_, fun post hp => ?_⟩
            · obtain ⟨F, hF⟩ := X3 post hp
              exact ⟨F + 1, hX146 post F hF⟩
            · obtain ⟨F, hF⟩ := Y3 post hp
              exact ⟨F + 1, yq_23n hp3 hV hk (fun _ => hty) htb (fun _ _ => Y2 post _ _ hF) (fun z => absurd (hld.mpr lead) z)⟩
      · have hbad2 : b = 1 → ∀ i, i < m + 1 → ¬ rd_bad so tk fl oc (12 * p + rd_u od m (sk n) i) := by
          intro hb1 i hi
          by_cases e : i = m
          · subst e; rw [rd_us]; exact fun z => lead ⟨z.1, fun _ => z.2.1⟩
          · rw [rd_un e]; exact hbad hb1 i (by omega)
        rcases ih (m + 1) n _ sk _ _ gSk _ hOp (by omega) hV' hbad2 with ⟨m', od', sk', a1, a2, a3, a4, a5, r1, r2, r3, r4, X3, Y3⟩ | ⟨hb1, m1, m', od', a1, a2, a3, a4, a5, a6, r1, r2, r3, r4, r5, X3, Y3⟩
        · refine Or.inl ⟨m', od', sk', a1, a2, a3, a4, a5, r1, r2, (mono m' od' r3 r4).1, (mono m' od' r3 r4).2, fun post hp => ?_, fun post hp => ?_⟩
          · obtain ⟨F, hF⟩ := X3 post hp
            exact ⟨F + 1, xq_48n hp3 hb hV hk hso htx htb (fun z1 z2 => absurd ⟨z1, z2⟩ lead) (fun _ => hF)⟩
          · obtain ⟨F, hF⟩ := Y3 post hp
            exact ⟨F + 1, yq_23n hp3 hV hk (fun _ => hty) htb (fun z1 z2 => absurd (hld.mp ⟨z1, z2⟩) lead) (fun _ => hF)⟩
        · refine Or.inr ⟨hb1, m1, m', od', a1, a2, a3, a4, a5, a6, r1, r2, r3, r4, r5, fun post hp => ?_, fun post hp => ?_⟩
          · obtain ⟨F, hF⟩ := X3 post hp
            exact ⟨F + 1, xq_48n hp3 hb hV hk hso htx htb (fun z1 z2 => absurd ⟨z1, z2⟩ lead) (fun _ => hF)⟩
          · obtain ⟨F, hF⟩ := Y3 post hp
            exact ⟨F + 1, yq_23n hp3 hV hk (fun _ => hty) htb (fun z1 z2 => absurd (hld.mp ⟨z1, z2⟩) lead) (fun _ => hF)⟩
end
end
section
/-! visit and list from their beginnings -/
theorem rd_fill {f : rt_F} {j : Nat} {x : Int32} : upd (fun v => if v < j then x else f v) j x = fun v => if v < j + 1 then x else f v := by
  funext v
  show (if v = j then x else if v < j then x else f v) = if v < j + 1 then x else f v
  by_cases c : v = j
  · rw [if_pos c, if_pos (by omega)]
  · rw [if_neg c]
    by_cases c2 : v < j
    · rw [if_pos c2, if_pos (by omega)]
    · rw [if_neg c2, if_neg (by omega)]
section
variable {K N p b lm t : Nat} {P sh fl sg st oc tk le hm gv : Nat → Nat} {pr kn : Nat → Option Nat}
variable {li gIt pa ab yN yk tm hIt py bl : Int32} {dO dP dS dF dG dR dA xB xR xK xU xH xF xG xT xc xo xl so ho xC ce xt va la gi gSk gOd gIo gSo gNa gSh gSr gMa gTi gCe yB yR yK yO yA yH yF yG yU yT yb yc yl yp yC yt yL ap ys hLi hOp hNa hSh hSr hTi hCe hRe : Nat → Int32} {nw : Int64} {xL : Nat → Int64}
theorem rd_visit {fr : Option Nat} (hC : rd_CR (N, P, sh, fl, sg, st, pr, kn) (xB, xR, xK, xU, xH, xF, xG, xT) (yN, yB, yR, yK, yO, yA, yH, yF, yG, yU, yT)) (hR : rd_OR K (N, P, sh, fl, sg, st, pr, kn) (oc, tk, le, hm, gv, lm, t) (so, ho, ce, va, la, gi) (li, nw, xC, xt, xL) (tm, yC, yt, yL, ap)) (hK : K ≤ 4000) (hp3 : p < 3) (hb : b < 2) (hfr : ∀ v, fr = some v → v < 12 ∧ ¬ so (12 * p + v) = 0) :
    (∃ (m' : Nat) (od' sk' : Nat → Nat) (gOd' gIo' gSk' hLi' hOp' : rt_F), rd_V so p m' 0 od' sk' gOd' gIo' gSk' hLi' hOp' ∧ (b = 1 → ∀ i, i < m' → ¬ rd_bad so tk fl oc (12 * p + od' i)) ∧
      (∀ post : Int32 → SX → Prop, post (-1) (li, nw, nI m', pa, ab, dO, dP, dS, dF, dG, dR, dA, xB, xR, xK, xU, xH, xF, xG, xT, xc, xo, xl, so, ho, xC, ce, xt, xL, va, la, gi, gSk', gOd', gIo', gSo, gNa, gSh, gSr, gMa, gTi, gCe) → wpX_visit post (li, nw, gIt, pa, ab, dO, dP, dS, dF, dG, dR, dA, xB, xR, xK, xU, xH, xF, xG, xT, xc, xo, xl, so, ho, xC, ce, xt, xL, va, la, gi, gSk, gOd, gIo, gSo, gNa, gSh, gSr, gMa, gTi, gCe) (nI p) (rd_o fr) (nI b)) ∧
      (∀ post : SY → Prop, post (yN, yk, tm, nI m', py, bl, dO, dP, dS, dF, dG, dR, dA, yB, yR, yK, yO, yA, yH, yF, yG, yU, yT, yb, yc, yl, yp, so, yC, yt, ho, ce, yL, va, la, gi, ap, ys, hLi', hOp', hNa, hSh, hSr, hTi, hCe, hRe) → wpY_list post (yN, yk, tm, hIt, py, bl, dO, dP, dS, dF, dG, dR, dA, yB, yR, yK, yO, yA, yH, yF, yG, yU, yT, yb, yc, yl, yp, so, yC, yt, ho, ce, yL, va, la, gi, ap, ys, hLi, hOp, hNa, hSh, hSr, hTi, hCe, hRe) (nI p) (rd_o fr) (nI (1 - b)))) ∨
    (b = 1 ∧ ∃ (m1 m' : Nat) (od' : Nat → Nat) (gOd' gIo' gSk' hLi' hOp' : rt_F) (gIt' : Int32), m1 < m' ∧ m' ≤ 12 ∧ (∀ i, i < m' → hLi' i = nI (od' i) ∧ od' i < 12 ∧ ¬ so (12 * p + od' i) = 0) ∧ (∀ i, i < m1 → ¬ rd_bad so tk fl oc (12 * p + od' i)) ∧ rd_bad so tk fl oc (12 * p + od' m1) ∧
      (∀ post : Int32 → SX → Prop, post (nI (P (oc (12 * p + od' m1)) % 12)) (li, nw, gIt', pa, ab, dO, dP, dS, dF, dG, dR, dA, xB, xR, xK, xU, xH, xF, xG, xT, xc, xo, xl, so, ho, xC, ce, xt, xL, va, la, gi, gSk', gOd', gIo', gSo, gNa, gSh, gSr, gMa, gTi, gCe) → wpX_visit post (li, nw, gIt, pa, ab, dO, dP, dS, dF, dG, dR, dA, xB, xR, xK, xU, xH, xF, xG, xT, xc, xo, xl, so, ho, xC, ce, xt, xL, va, la, gi, gSk, gOd, gIo, gSo, gNa, gSh, gSr, gMa, gTi, gCe) (nI p) (rd_o fr) (nI b)) ∧
      (∀ post : SY → Prop, post (yN, yk, tm, nI m', py, bl, dO, dP, dS, dF, dG, dR, dA, yB, yR, yK, yO, yA, yH, yF, yG, yU, yT, yb, yc, yl, yp, so, yC, yt, ho, ce, yL, va, la, gi, ap, ys, hLi', hOp', hNa, hSh, hSr, hTi, hCe, hRe) → wpY_list post (yN, yk, tm, hIt, py, bl, dO, dP, dS, dF, dG, dR, dA, yB, yR, yK, yO, yA, yH, yF, yG, yU, yT, yb, yc, yl, yp, so, yC, yt, ho, ce, yL, va, la, gi, ap, ys, hLi, hOp, hNa, hSh, hSr, hTi, hCe, hRe) (nI p) (rd_o fr) (nI (1 - b)))) := by
  have h8 : ∀ post : Int32 → SX → Prop, ((rd_o fr < 0 → ∃ n48 : Nat, wX_visit_48 post (nI p) (nI b) li nw pa ab n48 0 0 dO dP dS dF dG dR dA xB xR xK xU xH xF xG xT xc xo xl so ho xC ce xt xL va la gi gSk gOd (fun v => if v < 12 then -1 else gIo v) gSo gNa gSh gSr gMa gTi gCe) ∧ (¬ rd_o fr < 0 → ∀ x4 : Int32, x4 = 0 + 1 → ∀ S : Nat → Int32, S = upd gSk 0 (vp_nar .char (((rd_o fr).toUInt32 % 65536).toInt32)) → ∃ n48 : Nat, wX_visit_48 post (nI p) (nI b) li nw pa ab n48 x4 0 dO dP dS dF dG dR dA xB xR xK xU xH xF xG xT xc xo xl so ho xC ce xt xL va la gi S gOd (fun v => if v < 12 then -1 else gIo v) gSo gNa gSh gSr gMa gTi gCe)) → wpX_visit post (li, nw, gIt, pa, ab, dO, dP, dS, dF, dG, dR, dA, xB, xR, xK, xU, xH, xF, xG, xT, xc, xo, xl, so, ho, xC, ce, xt, xL, va, la, gi, gSk, gOd, gIo, gSo, gNa, gSh, gSr, gMa, gTi, gCe) (nI p) (rd_o fr) (nI b) := by
    intro post h
    refine rd_run (fun f j => wX_visit_8 post (nI p) (rd_o fr) (nI b) li nw 0 pa ab f (nI j) dO dP dS dF dG dR dA xB xR xK xU xH xF xG xT xc xo xl so ho xC ce xt xL va la gi gSk gOd (fun v => if v < j then -1 else gIo v) gSo gNa gSh gSr gMa gTi gCe) (i := 0) (k := 12) (by omega) ⟨1, br_t (Int32.le_refl _) h⟩ (fun f j _ hj W => ?_)
    refine br_f (nI_ge (b := 12) hj (by omega)) ⟨rd_in hj, ?_⟩
    rw [rd_cl (by omega), rd_nbm, rd_fill]
    exact nm_e (nm_r (nI_1 j) W)
  have h8Y : ∀ post : SY → Prop, ((rd_o fr < 0 → ∃ n23 : Nat, wY_list_23 post (nI p) (nI (1 - b)) yN yk tm py bl n23 0 0 dO dP dS dF dG dR dA yB yR yK yO yA yH yF yG yU yT yb yc yl yp so yC yt ho ce yL va la gi ap ys hLi hOp hNa hSh hSr hTi hCe hRe) ∧ (¬ rd_o fr < 0 → ∀ x4 : Int32, x4 = 0 + 1 → ∀ S : Nat → Int32, S = upd hOp 0 (rd_o fr) → ∃ n23 : Nat, wY_list_23 post (nI p) (nI (1 - b)) yN yk tm py bl n23 x4 0 dO dP dS dF dG dR dA yB yR yK yO yA yH yF yG yU yT yb yc yl yp so yC yt ho ce yL va la gi ap ys hLi S hNa hSh hSr hTi hCe hRe)) → wpY_list post (yN, yk, tm, hIt, py, bl, dO, dP, dS, dF, dG, dR, dA, yB, yR, yK, yO, yA, yH, yF, yG, yU, yT, yb, yc, yl, yp, so, yC, yt, ho, ce, yL, va, la, gi, ap, ys, hLi, hOp, hNa, hSh, hSr, hTi, hCe, hRe) (nI p) (rd_o fr) (nI (1 - b)) := by
    intro post h
    unfold wpY_list
    dsimp only
    exact h
  have hio : ∀ v, v < 12 → (fun v => if v < 12 then -1 else gIo v) v = rd_o (rd_ix (fun _ => 0) 0 v) := fun v hv => if_pos hv
  cases fr with
  | none =>
    rcases rd_vis (b := b) hC hR hK hp3 hb 24 0 0 (fun _ => 0) (fun _ => 0) gOd (fun v => if v < 12 then -1 else gIo v) gSk hLi hOp (by omega) ⟨by omega, by omega, fun i hi => by omega, fun i j h1 h2 => by omega, hio, fun i hi => by omega⟩ (fun _ i hi => by omega) with ⟨m', od', sk', a1, a2, a3, a4, a5, r1, r2, r3, r4, X3, Y3⟩ | ⟨hb1, m1, m', od', a1, a2, a3, a4, a5, a6, r1, r2, r3, r4, r5, X3, Y3⟩
    · exact Or.inl ⟨m', od', sk', a1, a2, a3, a4, a5, r1, r2, fun post hp => h8 post (br_t rd_m1n (X3 post hp)), fun post hp => h8Y post (br_t rd_m1n (Y3 post hp))⟩
    · exact Or.inr ⟨hb1, m1, m', od', a1, a2, a3, a4, a5, a6, r1, r2, r3, r4, r5, fun post hp => h8 post (br_t rd_m1n (X3 post hp)), fun post hp => h8Y post (br_t rd_m1n (Y3 post hp))⟩
  | some v =>
    obtain ⟨hv, hvn⟩ := hfr v rfl
    have n0 : ¬ rd_o (some v) < 0 := nI_pos (by omega)
    have ech : vp_nar .char (((rd_o (some v)).toUInt32 % 65536).toInt32) = nI v := rd_ch v (by omega)
    rcases rd_vis (b := b) hC hR hK hp3 hb 25 0 1 (fun _ => 0) (fun _ => v) gOd (fun v => if v < 12 then -1 else gIo v) (upd gSk 0 (nI v)) hLi (upd hOp 0 (nI v)) (by omega) ⟨by omega, by omega, fun i hi => by omega, fun i j h1 h2 => by omega, hio, fun i hi => by
        obtain rfl : i = 0 := by omega
        rw [pk_us, pk_us]
        exact ⟨rfl, rfl, hv, hvn⟩⟩ (fun _ i hi => by omega) with ⟨m', od', sk', a1, a2, a3, a4, a5, r1, r2, r3, r4, X3, Y3⟩ | ⟨hb1, m1, m', od', a1, a2, a3, a4, a5, a6, r1, r2, r3, r4, r5, X3, Y3⟩
    · exact Or.inl ⟨m', od', sk', a1, a2, a3, a4, a5, r1, r2, fun post hp => h8 post (br_f n0 (nm_r rd_0a (nm_r (by rw [ech]) (X3 post hp)))), fun post hp => h8Y post (br_f n0 (nm_r rd_0a (nm_e (Y3 post hp))))⟩
    · exact Or.inr ⟨hb1, m1, m', od', a1, a2, a3, a4, a5, a6, r1, r2, r3, r4, r5, fun post hp => h8 post (br_f n0 (nm_r rd_0a (nm_r (by rw [ech]) (X3 post hp)))), fun post hp => h8Y post (br_f n0 (nm_r rd_0a (nm_e (Y3 post hp))))⟩
end
end
section
/-! write: an item described -/
def rd_wc (bit : Nat) (od : Nat → Nat) (m : Nat) (x : Int32) : Int32 := if bit = 1 then (if x < 0 then x else rd_o (rd_ix od m x.toNatClampNeg)) else x
def rd_src (lo : Nat) (an : Option Nat) : Option Nat := if lo = 4 then an else some lo
def rd_IR (K m : Nat) (gSo gNa gSh gSr gTi gCe hNa hSh hSr hTi hCe : rt_F) (i : Nat) : Prop :=
  (gSo i = 2 ∧ hNa i = -1 ∧ ∃ q tt, q < 3 ∧ 1 ≤ tt ∧ tt ≤ K ∧ gSr i = nI q ∧ hSr i = nI q ∧ gTi i = nI tt ∧ hTi i = nI tt) ∨
  (gSo i = 1 ∧ ∃ (nm s : Nat) (src : Option Nat), nm < 12 ∧ s < 4 ∧ (∀ l, src = some l → l < 4) ∧ gNa i = nI nm ∧ hNa i = nI nm ∧ gSh i = nI s ∧ hSh i = nI s ∧ gSr i = rd_o src ∧ hSr i = rd_o src ∧
    ∀ j, j < 2 → hCe (2 * i + j) = gCe (2 * i + j) ∧ (s / 2 ^ j % 2 = 1 → ∃ mo : Option Nat, gCe (2 * i + j) = rd_o mo ∧ ∀ v, mo = some v → v < m))
section
variable {K N p b lm t m k i : Nat} {P sh fl sg st oc tk le hm gv od sk : Nat → Nat} {pr kn : Nat → Option Nat}
variable {li gIt pa ab yN yk tm hIt py bl : Int32} {dO dP dS dF dG dR dA xB xR xK xU xH xF xG xT xc xo xl so ho xC ce xt va la gi gSk gOd gIo gSo gNa gSh gSr gMa gTi gCe yB yR yK yO yA yH yF yG yU yT yb yc yl yp yC yt yL ap ys hLi hOp hNa hSh hSr hTi hCe hRe : Nat → Int32} {nw : Int64} {xL : Nat → Int64}
theorem xq_desc1 {post : SX → Prop} {f j : Nat} (hC : rd_CR (N, P, sh, fl, sg, st, pr, kn) (xB, xR, xK, xU, xH, xF, xG, xT) (yN, yB, yR, yK, yO, yA, yH, yF, yG, yU, yT)) (hR : rd_OR K (N, P, sh, fl, sg, st, pr, kn) (oc, tk, le, hm, gv, lm, t) (so, ho, ce, va, la, gi) (li, nw, xC, xt, xL) (tm, yC, yt, yL, ap)) (hp3 : p < 3) (hi : i / 12 = p) (h1 : so i = 1) (hk : k < 12) (hj : j < 2) (hio : ∀ v, v < 12 → gIo v = rd_o (rd_ix od m v))
    (h : wX_describe_69 post (nI i) (nI k) li nw gIt pa ab f (nI (j + 1)) dO dP dS dF dG dR dA xB xR xK xU xH xF xG xT xc xo xl so ho xC ce xt xL va la gi gSk gOd gIo gSo gNa gSh gSr gMa gTi (upd gCe (2 * k + j) (rd_wc (sh (oc i) / 2 ^ j % 2) od m (ce (2 * i + j))))) : wX_describe_69 post (nI i) (nI k) li nw gIt pa ab (f + 1) (nI j) dO dP dS dF dG dR dA xB xR xK xU xH xF xG xT xc xo xl so ho xC ce xt xL va la gi gSk gOd gIo gSo gNa gSh gSr gMa gTi gCe := by
  have hi36 : i < 36 := by omega
  obtain ⟨o1, o2, o3, o4, o5, o6, o7, o8, o9, o10, o11, o12⟩ := rd_obj hC hR hi36 h1
  have hvr := hR.1.2.2.2.2.2.2.2.2 i hi36 h1 j hj
  refine br_f (nI_ge (b := 2) hj (by omega)) ?_
  refine xq_ref hi36 hj h1 o3 o4 o5 o2 ?_
  rw [rd_m2, nI_add, rd_m2, nI_add, rd_cl (show 2 * i + j < 3000 by omega), rd_cl (show 2 * k + j < 3000 by omega)]
  refine ⟨rd_in (by omega), nm_e ?_⟩
  unfold rd_wc at h
  by_cases bit : sh (oc i) / 2 ^ j % 2 = 1
  · rw [if_pos bit] at h
    rw [bit]
    refine br_f (by decide) ?_
    obtain ⟨mo, em, hmo⟩ := hvr bit
    cases mo with
    | none =>
      rw [em, rd_o0, if_pos rd_m1n] at h
      rw [em, rd_o0]
      exact br_t rd_m1n ⟨rd_in (by omega), nm_e (nm_r (nI_1 j) h)⟩
    | some v =>
      have hv := (hmo v rfl).1
      rw [em, rd_o1, if_neg (nI_pos (by omega)), rd_cl (by omega), ← hio v hv] at h
      rw [em, rd_o1, rd_cl (by omega)]
      exact br_f (nI_pos (by omega)) ⟨rd_in hv, rd_in (by omega), nm_e (nm_r (nI_1 j) h)⟩
  · rw [if_neg bit] at h
    rw [show sh (oc i) / 2 ^ j % 2 = 0 by omega]
    exact br_t rfl ⟨rd_in (by omega), nm_e (nm_r (nI_1 j) h)⟩
theorem xq_desc {post : SX → Prop} {an : Option Nat} (hC : rd_CR (N, P, sh, fl, sg, st, pr, kn) (xB, xR, xK, xU, xH, xF, xG, xT) (yN, yB, yR, yK, yO, yA, yH, yF, yG, yU, yT)) (hR : rd_OR K (N, P, sh, fl, sg, st, pr, kn) (oc, tk, le, hm, gv, lm, t) (so, ho, ce, va, la, gi) (li, nw, xC, xt, xL) (tm, yC, yt, yL, ap)) (hp3 : p < 3) (hi : i / 12 = p) (h1 : so i = 1) (hk : k < 12) (hio : ∀ v, v < 12 → gIo v = rd_o (rd_ix od m v)) (ea : dA p = rd_o an) (han : ∀ j, an = some j → j < 4)
    (h : post (li, nw, gIt, pa, ab, dO, dP, dS, dF, dG, dR, dA, xB, xR, xK, xU, xH, xF, xG, xT, xc, xo, xl, so, ho, xC, ce, xt, xL, va, la, gi, gSk, gOd, gIo, gSo, upd gNa k (nI (P (oc i) % 12)), upd gSh k (nI (sh (oc i))), upd gSr k (rd_o (rd_src (P (oc i) / 12 % 5) an)), gMa, gTi, upd (upd gCe (2 * k + 0) (rd_wc (sh (oc i) / 2 ^ 0 % 2) od m (ce (2 * i + 0)))) (2 * k + 1) (rd_wc (sh (oc i) / 2 ^ 1 % 2) od m (ce (2 * i + 1))))) : wpX_describe post (li, nw, gIt, pa, ab, dO, dP, dS, dF, dG, dR, dA, xB, xR, xK, xU, xH, xF, xG, xT, xc, xo, xl, so, ho, xC, ce, xt, xL, va, la, gi, gSk, gOd, gIo, gSo, gNa, gSh, gSr, gMa, gTi, gCe) (nI p) (nI i) (nI k) := by
  have hi36 : i < 36 := by omega
  obtain ⟨o1, o2, o3, o4, o5, o6, o7, o8, o9, o10, o11, o12⟩ := rd_obj hC hR hi36 h1
  have e12 : nI (P (oc i)) / 12 = nI (P (oc i) / 12) := by rw [show (12 : Int32) = nI 12 from rfl, pk_div (by omega) (by omega) (by omega)]
  have e5 : nI (P (oc i) / 12) - nI (P (oc i) / 12) / 5 * 5 = nI (P (oc i) / 12 % 5) := by rw [show (5 : Int32) = nI 5 from rfl, pk_rem (by omega) (by omega) (by omega)]
  have er : nI (P (oc i)) - nI (P (oc i) / 12) * 12 = nI (P (oc i) % 12) := by rw [← e12, show (12 : Int32) = nI 12 from rfl, pk_rem (by omega) (by omega) (by omega)]
  unfold wpX_describe
  dsimp only
  rw [rd_cl (show i < 3000 by omega), o4]
  refine ⟨rd_in hi36, nm_e ?_⟩
  rw [e12, e5, er, rd_cl (show k < 3000 by omega), rd_nb8 (by omega), rd_cl (show P (oc i) < 3000 by omega), o5, rd_nb (by omega), rd_cl (show p < 3000 by omega), ea, rd_nbo (fun j e => by have := han j e; omega)]
  refine ⟨by decide, by decide, nm_e ⟨by decide, rd_in hk, nm_e ⟨rd_in o3, rd_in hk, nm_e ?_⟩⟩⟩
  unfold rd_src at h
  by_cases c4 : P (oc i) / 12 % 5 = 4
  · rw [if_pos c4] at h
    refine br_t (by rw [c4]; rfl) ⟨rd_in hp3, rd_in hk, nm_e ⟨3, ?_⟩⟩
    exact xq_desc1 (j := 0) hC hR hp3 hi h1 hk (by omega) hio (xq_desc1 (j := 1) hC hR hp3 hi h1 hk (by omega) hio (br_t (by decide) h))
  · rw [if_neg c4] at h
    refine br_f (fun z => c4 ((nI_eq (b := 4) (by omega) (by omega)).mp z)) ⟨rd_in hk, ?_⟩
    rw [rd_nb8 (by omega)]
    refine nm_e ⟨3, ?_⟩
    exact xq_desc1 (j := 0) hC hR hp3 hi h1 hk (by omega) hio (xq_desc1 (j := 1) hC hR hp3 hi h1 hk (by omega) hio (br_t (by decide) h))
/-- X: one item -/
theorem xq_wr {post : Int32 → SX → Prop} {an : Option Nat} {f : Nat} (hC : rd_CR (N, P, sh, fl, sg, st, pr, kn) (xB, xR, xK, xU, xH, xF, xG, xT) (yN, yB, yR, yK, yO, yA, yH, yF, yG, yU, yT)) (hR : rd_OR K (N, P, sh, fl, sg, st, pr, kn) (oc, tk, le, hm, gv, lm, t) (so, ho, ce, va, la, gi) (li, nw, xC, xt, xL) (tm, yC, yt, yL, ap)) (hK : K ≤ 4000) (hp3 : p < 3) (hm12 : m ≤ 12) (hk : k < m) (hod : gOd k = nI (od k)) (ho12 : od k < 12) (hnf : ¬ so (12 * p + od k) = 0) (hio : ∀ v, v < 12 → gIo v = rd_o (rd_ix od m v)) (ea : dA p = rd_o an) (han : ∀ j, an = some j → j < 4)
    (h1 : so (12 * p + od k) = 1 → tk (12 * p + od k) = 0 → wX_write_23 post (nI p) f (nI (k + 1)) li nw (nI m) pa ab dO dP dS dF dG dR dA xB xR xK xU xH xF xG xT xc xo xl so ho xC ce xt xL va la gi gSk gOd gIo (upd gSo k 1) (upd gNa k (nI (P (oc (12 * p + od k)) % 12))) (upd gSh k (nI (sh (oc (12 * p + od k))))) (upd (upd gSr k (nI p)) k (rd_o (rd_src (P (oc (12 * p + od k)) / 12 % 5) an))) gMa (upd gTi k 0) (upd (upd gCe (2 * k + 0) (rd_wc (sh (oc (12 * p + od k)) / 2 ^ 0 % 2) od m (ce (2 * (12 * p + od k) + 0)))) (2 * k + 1) (rd_wc (sh (oc (12 * p + od k)) / 2 ^ 1 % 2) od m (ce (2 * (12 * p + od k) + 1)))))
    (h2 : ¬ (so (12 * p + od k) = 1 ∧ tk (12 * p + od k) = 0) → wX_write_23 post (nI p) f (nI (k + 1)) li nw (nI m) pa ab dO dP dS dF dG dR dA xB xR xK xU xH xF xG xT xc xo xl so ho xC ce xt xL va la gi gSk gOd gIo (upd gSo k 2) gNa gSh (upd gSr k (if so (12 * p + od k) = 1 then nI p else nI (hm (12 * p + od k)))) gMa (upd gTi k (nI (tk (12 * p + od k)))) gCe) :
    wX_write_23 post (nI p) (f + 1) (nI k) li nw (nI m) pa ab dO dP dS dF dG dR dA xB xR xK xU xH xF xG xT xc xo xl so ho xC ce xt xL va la gi gSk gOd gIo gSo gNa gSh gSr gMa gTi gCe := by
  have hi36 : 12 * p + od k < 36 := by omega
  have hxt := hR.2.1.2.2.2.1 _ hi36 hnf
  obtain ⟨a1, a2, a3, a4⟩ := hR.1.2.1 _ hi36
  have ci : (nI (12 * p + od k)).toNatClampNeg = 12 * p + od k := rd_cl (by omega)
  have ck : (nI k).toNatClampNeg = k := rd_cl (by omega)
  refine br_f (nI_ge hk (by omega)) ⟨rd_in (by omega), ?_⟩
  rw [ck, hod, rd_m12, nI_add]
  refine nm_e ⟨rd_in hi36, ?_⟩
  rw [ci]
  by_cases c1 : so (12 * p + od k) = 1
  · refine br_t c1 ⟨rd_in hi36, ?_⟩
    rw [hxt]
    by_cases c2 : tk (12 * p + od k) = 0
    · refine br_t (by rw [c2]; rfl) (br_f (by decide) ⟨rd_in (by omega), ?_⟩)
      rw [ck, show (1 : Int32) = nI 1 from rfl, rd_nb8 (by omega)]
      refine nm_e ⟨rd_in hi36, br_t (by rw [ci]; exact c1) ⟨rd_in (by omega), ?_⟩⟩
      rw [ck, ci, rd_nb8 (by omega), hxt, c2]
      refine nm_e ⟨rd_in hi36, rd_in (by omega), nm_e (br_f (by decide) ?_)⟩
      exact xq_desc hC hR hp3 (by omega) c1 (by omega) hio ea han (nm_r (nI_1 k) (h1 c1 c2))
    · have H := h2 (fun z => c2 z.2)
      rw [if_pos c1] at H
      refine br_f (nI_ne0 (by omega) (by omega)) (br_t rfl ⟨rd_in (by omega), ?_⟩)
      rw [ck, show (2 : Int32) = nI 2 from rfl, rd_nb8 (by omega)]
      refine nm_e ⟨rd_in hi36, br_t (by rw [ci]; exact c1) ⟨rd_in (by omega), ?_⟩⟩
      rw [ck, ci, rd_nb8 (by omega), hxt]
      exact nm_e ⟨rd_in hi36, rd_in (by omega), nm_e (br_t rfl (nm_r (nI_1 k) H))⟩
  · have H := h2 (fun z => c1 z.1)
    rw [if_neg c1] at H
    refine br_f c1 (br_t rfl ⟨rd_in (by omega), ?_⟩)
    rw [ck, show (2 : Int32) = nI 2 from rfl, rd_nb8 (by omega)]
    refine nm_e ⟨rd_in hi36, br_f (by rw [ci]; exact c1) ⟨rd_in hi36, rd_in (by omega), ?_⟩⟩
    rw [ck, ci, a2, rd_nb (by omega), hxt]
    exact nm_e ⟨rd_in hi36, rd_in (by omega), nm_e (br_t rfl (nm_r (nI_1 k) H))⟩
end
end
section
/-! write: Y's items; both loops -/
section
variable {K N p b lm t m k i : Nat} {P sh fl sg st oc tk le hm gv od sk : Nat → Nat} {pr kn : Nat → Option Nat}
variable {li gIt pa ab yN yk tm hIt py bl : Int32} {dO dP dS dF dG dR dA xB xR xK xU xH xF xG xT xc xo xl so ho xC ce xt va la gi gSk gOd gIo gSo gNa gSh gSr gMa gTi gCe yB yR yK yO yA yH yF yG yU yT yb yc yl yp yC yt yL ap ys hLi hOp hNa hSh hSr hTi hCe hRe : Nat → Int32} {nw : Int64} {xL : Nat → Int64}
theorem yq_desc1 {post : Int32 → SY → Prop} {J} {f j : Nat} (hC : rd_CR (N, P, sh, fl, sg, st, pr, kn) (xB, xR, xK, xU, xH, xF, xG, xT) (yN, yB, yR, yK, yO, yA, yH, yF, yG, yU, yT)) (hR : rd_OR K (N, P, sh, fl, sg, st, pr, kn) (oc, tk, le, hm, gv, lm, t) (so, ho, ce, va, la, gi) (li, nw, xC, xt, xL) (tm, yC, yt, yL, ap)) (hp3 : p < 3) (hi : i / 12 = p) (h1 : so i = 1) (hk : k < 12) (hj : j < 2) (hm12 : m ≤ 12) (hli : ∀ i, i < m → hLi i = nI (od i) ∧ od i < 12)
    (h : wY_write_234 post J (nI p) (nI k) (nI i) yN yk tm (nI m) py bl f (nI (j + 1)) dO dP dS dF dG dR dA yB yR yK yO yA yH yF yG yU yT yb yc yl yp so yC yt ho ce yL va la gi ap ys hLi hOp hNa hSh hSr hTi (upd hCe (2 * k + j) (rd_wc (sh (oc i) / 2 ^ j % 2) od m (ce (2 * i + j)))) hRe) : wY_write_234 post J (nI p) (nI k) (nI i) yN yk tm (nI m) py bl (f + 1) (nI j) dO dP dS dF dG dR dA yB yR yK yO yA yH yF yG yU yT yb yc yl yp so yC yt ho ce yL va la gi ap ys hLi hOp hNa hSh hSr hTi hCe hRe := by
  have hi36 : i < 36 := by omega
  obtain ⟨o1, o2, o3, o4, o5, o6, o7, o8, o9, o10, o11, o12⟩ := rd_obj hC hR hi36 h1
  have hvr := hR.1.2.2.2.2.2.2.2.2 i hi36 h1 j hj
  have e2 : 2 * nI i + nI j = nI (2 * i + j) := by rw [rd_m2, nI_add]
  have e3 : 2 * nI k + nI j = nI (2 * k + j) := by rw [rd_m2, nI_add]
  have c2 : (nI (2 * i + j)).toNatClampNeg = 2 * i + j := rd_cl (by omega)
  have c3 : (nI (2 * k + j)).toNatClampNeg = 2 * k + j := rd_cl (by omega)
  have h295 : wY_write_234 post J (nI p) (nI k) (nI i) yN yk tm (nI m) py bl f (nI (j + 1)) dO dP dS dF dG dR dA yB yR yK yO yA yH yF yG yU yT yb yc yl yp so yC yt ho ce yL va la gi ap ys hLi hOp hNa hSh hSr hTi (upd hCe (2 * k + j) (ce (2 * i + j))) hRe → wY_write_295 post J (wY_write_234 post J (nI p) (nI k) (nI i) yN yk tm (nI m) py bl f) (nI p) (nI k) (nI i) (nI j) (nI (2 * k + j)) yN yk tm (nI m) py bl dO dP dS dF dG dR dA yB yR yK yO yA yH yF yG yU yT yb yc yl yp so yC yt ho ce yL va la gi ap ys hLi hOp hNa hSh hSr hTi hCe hRe := by
    intro H
    unfold wY_write_295
    rw [e2, c2, c3]
    exact ⟨rd_in (by omega), rd_in (by omega), nm_e (nm_r (nI_1 j) H)⟩
  refine br_f (nI_ge (b := 2) hj (by omega)) ?_
  refine yq_ref hi36 hj o1 o7 o8 o2 ?_
  rw [e3, e2, c2, c3]
  unfold rd_wc at h
  by_cases bit : sh (oc i) / 2 ^ j % 2 = 1
  · rw [if_pos bit] at h
    rw [bit]
    refine br_f (by decide) ⟨rd_in (by omega), ?_⟩
    obtain ⟨mo, em, hmo⟩ := hvr bit
    cases mo with
    | none =>
      rw [if_pos (show ce (2 * i + j) < 0 by rw [em]; exact rd_m1n)] at h
      exact br_t (by rw [em]; exact rd_m1n) (h295 h)
    | some v =>
      have hv := (hmo v rfl).1
      rw [em, rd_o1, if_neg (nI_pos (by omega)), rd_cl (by omega)] at h
      rw [em, rd_o1]
      refine br_f (nI_pos (by omega)) ⟨rd_in (by omega), ?_⟩
      exact yq_item hm12 hv hli ⟨rd_in (by omega), nm_e (nm_r (nI_1 j) h)⟩
  · rw [if_neg bit] at h
    rw [show sh (oc i) / 2 ^ j % 2 = 0 by omega]
    exact br_t rfl (h295 h)
/-- Y: one item; a bad one ends it -/
theorem yq_wr {post : Int32 → SY → Prop} {an : Option Nat} {f : Nat} (hC : rd_CR (N, P, sh, fl, sg, st, pr, kn) (xB, xR, xK, xU, xH, xF, xG, xT) (yN, yB, yR, yK, yO, yA, yH, yF, yG, yU, yT)) (hR : rd_OR K (N, P, sh, fl, sg, st, pr, kn) (oc, tk, le, hm, gv, lm, t) (so, ho, ce, va, la, gi) (li, nw, xC, xt, xL) (tm, yC, yt, yL, ap)) (hK : K ≤ 4000) (hp3 : p < 3) (hm12 : m ≤ 12) (hk : k < m) (hli : ∀ i, i < m → hLi i = nI (od i) ∧ od i < 12) (hnf : ¬ so (12 * p + od k) = 0) (ea : dA p = rd_o an)
    (hb : rd_bad so tk fl oc (12 * p + od k) → post 10 (yN, yk, tm, nI m, py, nI (P (oc (12 * p + od k)) % 12), dO, dP, dS, dF, dG, dR, dA, yB, yR, yK, yO, yA, yH, yF, yG, yU, yT, yb, yc, yl, yp, so, yC, yt, ho, ce, yL, va, la, gi, ap, ys, hLi, hOp, upd hNa k (nI (P (oc (12 * p + od k)) % 12)), hSh, upd hSr k (rd_o (rd_src (P (oc (12 * p + od k)) / 12 % 5) an)), upd hTi k 0, hCe, hRe))
    (h1 : so (12 * p + od k) = 1 → tk (12 * p + od k) = 0 → ¬ rd_bad so tk fl oc (12 * p + od k) → wY_write_9 post (nI p) yN yk tm (nI m) py f (nI (k + 1)) (nI (P (oc (12 * p + od k)) % 12)) dO dP dS dF dG dR dA yB yR yK yO yA yH yF yG yU yT yb yc yl yp so yC yt ho ce yL va la gi ap ys hLi hOp (upd hNa k (nI (P (oc (12 * p + od k)) % 12))) (upd hSh k (nI (sh (oc (12 * p + od k))))) (upd hSr k (rd_o (rd_src (P (oc (12 * p + od k)) / 12 % 5) an))) (upd hTi k 0) (upd (upd hCe (2 * k + 0) (rd_wc (sh (oc (12 * p + od k)) / 2 ^ 0 % 2) od m (ce (2 * (12 * p + od k) + 0)))) (2 * k + 1) (rd_wc (sh (oc (12 * p + od k)) / 2 ^ 1 % 2) od m (ce (2 * (12 * p + od k) + 1)))) hRe)
    (h2 : ¬ (so (12 * p + od k) = 1 ∧ tk (12 * p + od k) = 0) → wY_write_9 post (nI p) yN yk tm (nI m) py f (nI (k + 1)) bl dO dP dS dF dG dR dA yB yR yK yO yA yH yF yG yU yT yb yc yl yp so yC yt ho ce yL va la gi ap ys hLi hOp (upd hNa k (-1)) hSh (upd hSr k (if so (12 * p + od k) = 1 then nI p else nI (hm (12 * p + od k)))) (upd hTi k (nI (tk (12 * p + od k)))) hCe hRe) :
    wY_write_9 post (nI p) yN yk tm (nI m) py (f + 1) (nI k) bl dO dP dS dF dG dR dA yB yR yK yO yA yH yF yG yU yT yb yc yl yp so yC yt ho ce yL va la gi ap ys hLi hOp hNa hSh hSr hTi hCe hRe := by
  obtain ⟨hod, ho12⟩ := hli k hk
  have hi36 : 12 * p + od k < 36 := by omega
  have hyt := hR.2.2.2.2.1 _ hi36 hnf
  obtain ⟨a1, a2, a3, a4⟩ := hR.1.2.1 _ hi36
  have ci : (nI (12 * p + od k)).toNatClampNeg = 12 * p + od k := rd_cl (by omega)
  have ck : (nI k).toNatClampNeg = k := rd_cl (by omega)
  have hnp : ¬ (so (12 * p + od k) = 1 ∧ tk (12 * p + od k) = 0) → wY_write_55 post (wY_write_9 post (nI p) yN yk tm (nI m) py f) (nI p) (nI k) (nI (12 * p + od k)) yN yk tm (nI m) py bl dO dP dS dF dG dR dA yB yR yK yO yA yH yF yG yU yT yb yc yl yp so yC yt ho ce yL va la gi ap ys hLi hOp hNa hSh hSr hTi hCe hRe := by
    intro hn
    have H := h2 hn
    unfold wY_write_55 wY_write_56
    refine br_t rfl ⟨rd_in (by omega), ?_⟩
    rw [ck, ci, hyt]
    refine nm_e ⟨rd_in hi36, rd_in (by omega), nm_e (br_t rfl ⟨rd_in hi36, ?_⟩)⟩
    by_cases c1 : so (12 * p + od k) = 1
    · rw [if_pos c1] at H
      refine br_f (by rw [c1]; decide) ⟨rd_in (by omega), ?_⟩
      rw [ck]
      exact nm_e (br_t rfl (nm_r (nI_1 k) H))
    · rw [if_neg c1] at H
      refine br_t ((a1.resolve_left hnf).resolve_left c1) ⟨rd_in hi36, rd_in (by omega), ?_⟩
      rw [ck, a2]
      exact nm_e (br_t rfl (nm_r (nI_1 k) H))
  refine br_f (nI_ge hk (by omega)) ⟨rd_in (by omega), ?_⟩
  rw [ck, hod, rd_m12, nI_add]
  refine nm_e ⟨rd_in hi36, ?_⟩
  rw [ci]
  by_cases c1 : so (12 * p + od k) = 1
  · refine br_t c1 ⟨rd_in hi36, ?_⟩
    rw [hyt]
    by_cases c2 : tk (12 * p + od k) = 0
    · obtain ⟨o1, o2, o3, o4, o5, o6, o7, o8, o9, o10, o11, o12⟩ := rd_obj hC hR hi36 c1
      have coc : (nI (oc (12 * p + od k))).toNatClampNeg = oc (12 * p + od k) := rd_cl (by omega)
      have e5 : nI (P (oc (12 * p + od k)) / 12) - nI (P (oc (12 * p + od k)) / 12) / 5 * 5 = nI (P (oc (12 * p + od k)) / 12 % 5) := by rw [show (5 : Int32) = nI 5 from rfl, pk_rem (by omega) (by omega) (by omega)]
      refine br_t (by rw [c2]; rfl) (br_f (by decide) ⟨rd_in hi36, ?_⟩)
      rw [ci, o7, coc, o11]
      refine ⟨rd_in o1, rd_in (by omega), ?_⟩
      rw [ck, ci, hyt, c2]
      -- the source, then what is behind it
      have h174 : ∀ z0 : Int32, z0 = rd_o (rd_src (P (oc (12 * p + od k)) / 12 % 5) an) → wY_write_174 post (wY_write_9 post (nI p) yN yk tm (nI m) py f) (nI p) (nI k) (nI (12 * p + od k)) 1 z0 (nI k) yN yk tm (nI m) py bl dO dP dS dF dG dR dA yB yR yK yO yA yH yF yG yU yT yb yc yl yp so yC yt ho ce yL va la gi ap ys hLi hOp (upd hNa k (nI (P (oc (12 * p + od k)) % 12))) hSh hSr (upd hTi k 0) hCe hRe := by
        intro z0 ez
        subst ez
        refine ⟨rd_in (by omega), ?_⟩
        rw [ck]
        refine nm_e (br_f (by decide) ⟨rd_in (by omega), nm_r (pk_us) ⟨rd_in hi36, ?_⟩⟩)
        rw [ci, o7, coc, o9, o8]
        refine ⟨rd_in o1, ?_⟩
        by_cases cb : (nI (fl (oc (12 * p + od k))) &&& 1) = 0
        · exact br_t cb (hb ⟨c1, c2, cb⟩)
        · have H := h1 c1 c2 (fun z => cb z.2.2)
          refine br_f cb ⟨rd_in hi36, rd_in o1, rd_in (by omega), nm_e ⟨3, ?_⟩⟩
          exact yq_desc1 (j := 0) hC hR hp3 (by omega) c1 (by omega) (by omega) hm12 hli (yq_desc1 (j := 1) hC hR hp3 (by omega) c1 (by omega) (by omega) hm12 hli (br_t (by decide) (nm_r (nI_1 k) H)))
      refine nm_e ⟨rd_in hi36, rd_in (by omega), nm_e (br_f (by decide) ⟨rd_in hi36, ?_⟩)⟩
      rw [o7, coc, o10, e5]
      refine ⟨rd_in o1, by decide, ?_⟩
      by_cases c4 : P (oc (12 * p + od k)) / 12 % 5 = 4
      · refine br_t (by rw [c4]; exact Int32.le_refl _) ⟨rd_in hp3, h174 _ ?_⟩
        rw [rd_cl (by omega), ea]
        exact congrArg rd_o (if_pos c4).symm
      · refine br_f (nI_ge (b := 4) (by omega) (by omega)) ⟨rd_in hi36, rd_in o1, by decide, h174 _ ?_⟩
        exact congrArg rd_o (show some (P (oc (12 * p + od k)) / 12 % 5) = rd_src (P (oc (12 * p + od k)) / 12 % 5) an from (if_neg c4).symm)
    · exact br_f (nI_ne0 (by omega) (by omega)) (hnp (fun z => c2 z.2))
  · exact br_f c1 (hnp (fun z => c1 z.1))
end
end
section
/-! write, whole -/
theorem rd_IR_c {K m i : Nat} {gSo gNa gSh gSr gTi gCe hNa hSh hSr hTi hCe gSo' gNa' gSh' gSr' gTi' gCe' hNa' hSh' hSr' hTi' hCe' : rt_F} (h : rd_IR K m gSo gNa gSh gSr gTi gCe hNa hSh hSr hTi hCe i) (e1 : gSo' i = gSo i) (e2 : gNa' i = gNa i) (e3 : gSh' i = gSh i) (e4 : gSr' i = gSr i) (e5 : gTi' i = gTi i) (e6 : ∀ j, j < 2 → gCe' (2 * i + j) = gCe (2 * i + j)) (e7 : hNa' i = hNa i) (e8 : hSh' i = hSh i) (e9 : hSr' i = hSr i) (e10 : hTi' i = hTi i) (e11 : ∀ j, j < 2 → hCe' (2 * i + j) = hCe (2 * i + j)) :
    rd_IR K m gSo' gNa' gSh' gSr' gTi' gCe' hNa' hSh' hSr' hTi' hCe' i := by
  unfold rd_IR at h ⊢
  rw [e1, e2, e3, e4, e5, e7, e8, e9, e10]
  rcases h with h | ⟨h1, nm, s, src, a1, a2, a3, a4, a5, a6, a7, a8, a9, a10⟩
  · exact Or.inl h
  · refine Or.inr ⟨h1, nm, s, src, a1, a2, a3, a4, a5, a6, a7, a8, a9, fun j hj => ?_⟩
    rw [e6 j hj, e11 j hj]
    exact a10 j hj
def rd_GR (K m : Nat) : rt_GX → rt_GY → Prop
  | (gIt, _, _, _, gSo, gNa, gSh, gSr, _, gTi, gCe), (hIt, _, _, hNa, hSh, hSr, hTi, hCe, _) => gIt = nI m ∧ hIt = nI m ∧ m ≤ 12 ∧ ∀ i, i < m → rd_IR K m gSo gNa gSh gSr gTi gCe hNa hSh hSr hTi hCe i
section
variable {K N p b lm t m : Nat} {P sh fl sg st oc tk le hm gv od sk : Nat → Nat} {pr kn : Nat → Option Nat}
variable {li gIt pa ab yN yk tm hIt py bl : Int32} {dO dP dS dF dG dR dA xB xR xK xU xH xF xG xT xc xo xl so ho xC ce xt va la gi gSk gOd gIo gSo gNa gSh gSr gMa gTi gCe yB yR yK yO yA yH yF yG yU yT yb yc yl yp yC yt yL ap ys hLi hOp hNa hSh hSr hTi hCe hRe : Nat → Int32} {nw : Int64} {xL : Nat → Int64}
theorem rd_wloop {an : Option Nat} (hC : rd_CR (N, P, sh, fl, sg, st, pr, kn) (xB, xR, xK, xU, xH, xF, xG, xT) (yN, yB, yR, yK, yO, yA, yH, yF, yG, yU, yT)) (hR : rd_OR K (N, P, sh, fl, sg, st, pr, kn) (oc, tk, le, hm, gv, lm, t) (so, ho, ce, va, la, gi) (li, nw, xC, xt, xL) (tm, yC, yt, yL, ap)) (hK : K ≤ 4000) (hp3 : p < 3) (hV : rd_V so p m 0 od sk gOd gIo gSk hLi hOp) (hbad : ∀ i, i < m → ¬ rd_bad so tk fl oc (12 * p + od i)) (ea : dA p = rd_o an) (han : ∀ j, an = some j → j < 4) :
    ∀ (e k : Nat) (gSo gNa gSh gSr gTi gCe hNa hSh hSr hTi hCe : rt_F) (bl : Int32), k + e = m → (∀ i, i < k → rd_IR K m gSo gNa gSh gSr gTi gCe hNa hSh hSr hTi hCe i) →
    ∃ (gSo' gNa' gSh' gSr' gTi' gCe' hNa' hSh' hSr' hTi' hCe' : rt_F) (bl' : Int32), (∀ i, i < m → rd_IR K m gSo' gNa' gSh' gSr' gTi' gCe' hNa' hSh' hSr' hTi' hCe' i) ∧
      (∀ post : Int32 → SX → Prop, post 0 (li, nw, nI m, pa, ab, dO, dP, dS, dF, dG, dR, dA, xB, xR, xK, xU, xH, xF, xG, xT, xc, xo, xl, so, ho, xC, ce, xt, xL, va, la, gi, gSk, gOd, gIo, gSo', gNa', gSh', gSr', gMa, gTi', gCe') → ∃ f, wX_write_23 post (nI p) f (nI k) li nw (nI m) pa ab dO dP dS dF dG dR dA xB xR xK xU xH xF xG xT xc xo xl so ho xC ce xt xL va la gi gSk gOd gIo gSo gNa gSh gSr gMa gTi gCe) ∧
      (∀ post : Int32 → SY → Prop, post 0 (yN, yk, tm, nI m, py, bl', dO, dP, dS, dF, dG, dR, dA, yB, yR, yK, yO, yA, yH, yF, yG, yU, yT, yb, yc, yl, yp, so, yC, yt, ho, ce, yL, va, la, gi, ap, ys, hLi, hOp, hNa', hSh', hSr', hTi', hCe', hRe) → ∃ f, wY_write_9 post (nI p) yN yk tm (nI m) py f (nI k) bl dO dP dS dF dG dR dA yB yR yK yO yA yH yF yG yU yT yb yc yl yp so yC yt ho ce yL va la gi ap ys hLi hOp hNa hSh hSr hTi hCe hRe) := by
  obtain ⟨v1, v2, v3, v4, v5, v6⟩ := hV
  have hli : ∀ i, i < m → hLi i = nI (od i) ∧ od i < 12 := fun i hi => ⟨(v3 i hi).2.1, (v3 i hi).2.2.1⟩
  intro e
  induction e with
  | zero =>
    intro k gSo gNa gSh gSr gTi gCe hNa hSh hSr hTi hCe bl hk hir
    obtain rfl : k = m := by omega
    exact ⟨gSo, gNa, gSh, gSr, gTi, gCe, hNa, hSh, hSr, hTi, hCe, bl, hir, fun post hp => ⟨1, br_t (Int32.le_refl _) hp⟩, fun post hp => ⟨1, br_t (Int32.le_refl _) hp⟩⟩
  | succ e ih =>
    intro k gSo gNa gSh gSr gTi gCe hNa hSh hSr hTi hCe bl hk hir
    have hkm : k < m := by omega
    obtain ⟨q1, q2, q3, q4⟩ := v3 k hkm
    have hi36 : 12 * p + od k < 36 := by omega
    obtain ⟨a1, a2, a3, a4⟩ := hR.1.2.1 _ hi36
    by_cases pl : so (12 * p + od k) = 1 ∧ tk (12 * p + od k) = 0
    · obtain ⟨o1, o2, o3, o4, o5, o6, o7, o8, o9, o10, o11, o12⟩ := rd_obj hC hR hi36 pl.1
      have hvr := hR.1.2.2.2.2.2.2.2.2 _ hi36 pl.1
      obtain ⟨gSo', gNa', gSh', gSr', gTi', gCe', hNa', hSh', hSr', hTi', hCe', bl', r1, X1, Y1⟩ := ih (k + 1) (upd gSo k 1) (upd gNa k (nI (P (oc (12 * p + od k)) % 12))) (upd gSh k (nI (sh (oc (12 * p + od k))))) (upd (upd gSr k (nI p)) k (rd_o (rd_src (P (oc (12 * p + od k)) / 12 % 5) an))) (upd gTi k 0)
        (upd (upd gCe (2 * k + 0) (rd_wc (sh (oc (12 * p + od k)) / 2 ^ 0 % 2) od m (ce (2 * (12 * p + od k) + 0)))) (2 * k + 1) (rd_wc (sh (oc (12 * p + od k)) / 2 ^ 1 % 2) od m (ce (2 * (12 * p + od k) + 1))))
        (upd hNa k (nI (P (oc (12 * p + od k)) % 12))) (upd hSh k (nI (sh (oc (12 * p + od k))))) (upd hSr k (rd_o (rd_src (P (oc (12 * p + od k)) / 12 % 5) an))) (upd hTi k 0)
        (upd (upd hCe (2 * k + 0) (rd_wc (sh (oc (12 * p + od k)) / 2 ^ 0 % 2) od m (ce (2 * (12 * p + od k) + 0)))) (2 * k + 1) (rd_wc (sh (oc (12 * p + od k)) / 2 ^ 1 % 2) od m (ce (2 * (12 * p + od k) + 1)))) (nI (P (oc (12 * p + od k)) % 12)) (by omega) (fun i hi => by
          by_cases ei : i = k
          · subst ei
            right
            rw [pk_us, pk_us, pk_us, pk_us, pk_us, pk_us, pk_us]
            refine ⟨rfl, P (oc (12 * p + od i)) % 12, sh (oc (12 * p + od i)), rd_src (P (oc (12 * p + od i)) / 12 % 5) an, by omega, o2, fun l el => ?_, rfl, rfl, rfl, rfl, rfl, rfl, fun j hj => ?_⟩
            · unfold rd_src at el
              by_cases c4 : P (oc (12 * p + od i)) / 12 % 5 = 4
              · rw [if_pos c4] at el; exact han l el
              · rw [if_neg c4] at el; cases el; omega
            · have w : ∀ (F : rt_F), upd (upd F (2 * i + 0) (rd_wc (sh (oc (12 * p + od i)) / 2 ^ 0 % 2) od m (ce (2 * (12 * p + od i) + 0)))) (2 * i + 1) (rd_wc (sh (oc (12 * p + od i)) / 2 ^ 1 % 2) od m (ce (2 * (12 * p + od i) + 1))) (2 * i + j) = rd_wc (sh (oc (12 * p + od i)) / 2 ^ j % 2) od m (ce (2 * (12 * p + od i) + j)) := by
                intro F
                have : j = 0 ∨ j = 1 := by omega
                rcases this with rfl | rfl
                · rw [pk_un (by omega), pk_us]
                · rw [pk_us]
              rw [w, w]
              refine ⟨rfl, fun bit => ?_⟩
              unfold rd_wc
              rw [if_pos bit]
              obtain ⟨mo, em, hmo⟩ := hvr j hj bit
              cases mo with
              | none => rw [em, rd_o0, if_pos rd_m1n]; exact ⟨none, rfl, fun v e => nomatch e⟩
              | some v =>
                have hv := (hmo v rfl).1
                rw [em, rd_o1, if_neg (nI_pos (by omega)), rd_cl (by omega)]
                exact ⟨rd_ix od m v, rfl, fun u eu => (rd_ix_s m eu).1⟩
          · exact rd_IR_c (hir i (by omega)) (pk_un ei) (pk_un ei) (pk_un ei) (by rw [pk_un ei, pk_un ei]) (pk_un ei) (fun j hj => by rw [pk_un (by omega), pk_un (by omega)]) (pk_un ei) (pk_un ei) (pk_un ei) (pk_un ei) (fun j hj => by rw [pk_un (by omega), pk_un (by omega)]))
      refine ⟨gSo', gNa', gSh', gSr', gTi', gCe', hNa', hSh', hSr', hTi', hCe', bl', r1, fun post hp => ?_, fun post hp => ?_⟩
      · obtain ⟨F, hF⟩ := X1 post hp
        exact ⟨F + 1, xq_wr hC hR hK hp3 v1 hkm q1 q3 q4 v5 ea han (fun _ _ => hF) (fun z => absurd pl z)⟩
      · obtain ⟨F, hF⟩ := Y1 post hp
        exact ⟨F + 1, yq_wr hC hR hK hp3 v1 hkm hli q4 ea (fun z => absurd z (hbad k hkm)) (fun _ _ _ => hF) (fun z => absurd pl z)⟩
    · have htk : 1 ≤ tk (12 * p + od k) := by
        rcases a1.resolve_left q4 with c | c
        · have : ¬ tk (12 * p + od k) = 0 := fun z => pl ⟨c, z⟩
          omega
        · exact hR.1.2.2.2.1 _ hi36 c
      obtain ⟨gSo', gNa', gSh', gSr', gTi', gCe', hNa', hSh', hSr', hTi', hCe', bl', r1, X1, Y1⟩ := ih (k + 1) (upd gSo k 2) gNa gSh (upd gSr k (if so (12 * p + od k) = 1 then nI p else nI (hm (12 * p + od k)))) (upd gTi k (nI (tk (12 * p + od k)))) gCe
        (upd hNa k (-1)) hSh (upd hSr k (if so (12 * p + od k) = 1 then nI p else nI (hm (12 * p + od k)))) (upd hTi k (nI (tk (12 * p + od k)))) hCe bl (by omega) (fun i hi => by
          by_cases ei : i = k
          · subst ei
            left
            rw [pk_us, pk_us, pk_us, pk_us, pk_us, pk_us]
            refine ⟨rfl, rfl, if so (12 * p + od i) = 1 then p else hm (12 * p + od i), tk (12 * p + od i), ?_, htk, a4, ?_, ?_, rfl, rfl⟩
            · by_cases c : so (12 * p + od i) = 1
              · rw [if_pos c]; exact hp3
              · rw [if_neg c]; exact a3
            · by_cases c : so (12 * p + od i) = 1
              · rw [if_pos c, if_pos c]
              · rw [if_neg c, if_neg c]
            · by_cases c : so (12 * p + od i) = 1
              · rw [if_pos c, if_pos c]
              · rw [if_neg c, if_neg c]
          · exact rd_IR_c (hir i (by omega)) (pk_un ei) rfl rfl (pk_un ei) (pk_un ei) (fun j hj => rfl) (pk_un ei) rfl (pk_un ei) (pk_un ei) (fun j hj => rfl))
      refine ⟨gSo', gNa', gSh', gSr', gTi', gCe', hNa', hSh', hSr', hTi', hCe', bl', r1, fun post hp => ?_, fun post hp => ?_⟩
      · obtain ⟨F, hF⟩ := X1 post hp
        exact ⟨F + 1, xq_wr hC hR hK hp3 v1 hkm q1 q3 q4 v5 ea han (fun z1 z2 => absurd ⟨z1, z2⟩ pl) (fun _ => hF)⟩
      · obtain ⟨F, hF⟩ := Y1 post hp
        exact ⟨F + 1, yq_wr hC hR hK hp3 v1 hkm hli q4 ea (fun z => absurd z (hbad k hkm)) (fun z1 z2 _ => absurd ⟨z1, z2⟩ pl) (fun _ => hF)⟩
/-- Y alone up to the bad one -/
theorem rd_wbad {an : Option Nat} {m1 : Nat} (hC : rd_CR (N, P, sh, fl, sg, st, pr, kn) (xB, xR, xK, xU, xH, xF, xG, xT) (yN, yB, yR, yK, yO, yA, yH, yF, yG, yU, yT)) (hR : rd_OR K (N, P, sh, fl, sg, st, pr, kn) (oc, tk, le, hm, gv, lm, t) (so, ho, ce, va, la, gi) (li, nw, xC, xt, xL) (tm, yC, yt, yL, ap)) (hK : K ≤ 4000) (hp3 : p < 3) (hm12 : m ≤ 12) (hm1 : m1 < m) (hli : ∀ i, i < m → hLi i = nI (od i) ∧ od i < 12 ∧ ¬ so (12 * p + od i) = 0) (hok : ∀ i, i < m1 → ¬ rd_bad so tk fl oc (12 * p + od i)) (hbad : rd_bad so tk fl oc (12 * p + od m1)) (ea : dA p = rd_o an) :
    ∀ (e k : Nat) (hNa hSh hSr hTi hCe : rt_F) (bl : Int32), k + e = m1 →
    ∃ (hNa' hSh' hSr' hTi' hCe' : rt_F), (∀ post : Int32 → SY → Prop, post 10 (yN, yk, tm, nI m, py, nI (P (oc (12 * p + od m1)) % 12), dO, dP, dS, dF, dG, dR, dA, yB, yR, yK, yO, yA, yH, yF, yG, yU, yT, yb, yc, yl, yp, so, yC, yt, ho, ce, yL, va, la, gi, ap, ys, hLi, hOp, hNa', hSh', hSr', hTi', hCe', hRe) → ∃ f, wY_write_9 post (nI p) yN yk tm (nI m) py f (nI k) bl dO dP dS dF dG dR dA yB yR yK yO yA yH yF yG yU yT yb yc yl yp so yC yt ho ce yL va la gi ap ys hLi hOp hNa hSh hSr hTi hCe hRe) := by
  have hli' : ∀ i, i < m → hLi i = nI (od i) ∧ od i < 12 := fun i hi => ⟨(hli i hi).1, (hli i hi).2.1⟩
  intro e
  induction e with
  | zero =>
    intro k hNa hSh hSr hTi hCe bl hk
    obtain rfl : k = m1 := by omega
    exact ⟨_, _, _, _, _, fun post hp => ⟨1, yq_wr hC hR hK hp3 hm12 hm1 hli' (hli k hm1).2.2 ea (fun _ => hp) (fun _ _ z => absurd hbad z) (fun z => absurd ⟨hbad.1, hbad.2.1⟩ z)⟩⟩
  | succ e ih =>
    intro k hNa hSh hSr hTi hCe bl hk
    have hkm : k < m := by omega
    by_cases pl : so (12 * p + od k) = 1 ∧ tk (12 * p + od k) = 0
    · obtain ⟨b1, b2, b3, b4, b5, Y1⟩ := ih (k + 1) (upd hNa k (nI (P (oc (12 * p + od k)) % 12))) (upd hSh k (nI (sh (oc (12 * p + od k))))) (upd hSr k (rd_o (rd_src (P (oc (12 * p + od k)) / 12 % 5) an))) (upd hTi k 0)
        (upd (upd hCe (2 * k + 0) (rd_wc (sh (oc (12 * p + od k)) / 2 ^ 0 % 2) od m (ce (2 * (12 * p + od k) + 0)))) (2 * k + 1) (rd_wc (sh (oc (12 * p + od k)) / 2 ^ 1 % 2) od m (ce (2 * (12 * p + od k) + 1)))) (nI (P (oc (12 * p + od k)) % 12)) (by omega)
      refine ⟨b1, b2, b3, b4, b5, fun post hp => ?_⟩
      obtain ⟨F, hF⟩ := Y1 post hp
      exact ⟨F + 1, yq_wr hC hR hK hp3 hm12 hkm hli' (hli k hkm).2.2 ea (fun z => absurd z (hok k (by omega))) (fun _ _ _ => hF) (fun z => absurd pl z)⟩
    · obtain ⟨b1, b2, b3, b4, b5, Y1⟩ := ih (k + 1) (upd hNa k (-1)) hSh (upd hSr k (if so (12 * p + od k) = 1 then nI p else nI (hm (12 * p + od k)))) (upd hTi k (nI (tk (12 * p + od k)))) hCe bl (by omega)
      refine ⟨b1, b2, b3, b4, b5, fun post hp => ?_⟩
      obtain ⟨F, hF⟩ := Y1 post hp
      exact ⟨F + 1, yq_wr hC hR hK hp3 hm12 hkm hli' (hli k hkm).2.2 ea (fun z => absurd z (hok k (by omega))) (fun z1 z2 _ => absurd ⟨z1, z2⟩ pl) (fun _ => hF)⟩
end
theorem rd_write {K p : Nat} {fr : Option Nat} {T : rt_T} {A : rt_A} {w : rt_W} {o : rt_OX} {o' : rt_OY} {pa ab py bl : Int32} {d : rt_D} {c : rt_CX} {c' : rt_CY} {t : rt_TX} {t' : rt_TY} {ys : rt_F} {g : rt_GX} {g' : rt_GY}
    (hD : rd_DI d) (hC : rd_CR T c c') (hR : rd_OR K T A w o o') (hK : K ≤ 4000) (hp3 : p < 3) (hfr : ∀ v, fr = some v → v < 12 ∧ ¬ w.1 (12 * p + v) = 0) :
    (∃ (m : Nat) (g1 : rt_GX) (g1' : rt_GY) (bl' : Int32), rd_GR K m g1 g1' ∧
      (∀ post : Int32 → SX → Prop, post 0 (rd_X pa (-1) d c t w o g1) → wpX_write post (rd_X pa ab d c t w o g) (nI p) (rd_o fr)) ∧
      (∀ post : Int32 → SY → Prop, post 0 (rd_Y py bl' d c' t' w o' ys g1') → wpY_write post (rd_Y py bl d c' t' w o' ys g') (nI p) (rd_o fr))) ∨
    (∃ (nm : Nat) (g1 : rt_GX) (g1' : rt_GY), nm < 12 ∧
      (∀ post : Int32 → SX → Prop, post 10 (rd_X pa (nI nm) d c t w o g1) → wpX_write post (rd_X pa ab d c t w o g) (nI p) (rd_o fr)) ∧
      (∀ post : Int32 → SY → Prop, post 10 (rd_Y py (nI nm) d c' t' w o' ys g1') → wpY_write post (rd_Y py bl d c' t' w o' ys g') (nI p) (rd_o fr))) := by
  obtain ⟨N, P, sh, fl, sg, st, pr, kn⟩ := T
  obtain ⟨oc, tk, le, hm, gv, lm, tn⟩ := A
  obtain ⟨so, ho, ce, va, la, gi⟩ := w
  obtain ⟨li, nw, xC, xt, xL⟩ := o
  obtain ⟨tm, yC, yt, yL, ap⟩ := o'
  obtain ⟨dO, dP, dS, dF, dG, dR, dA⟩ := d
  obtain ⟨xB, xR, xK, xU, xH, xF, xG, xT⟩ := c
  obtain ⟨yN, yB, yR, yK, yO, yA, yH, yF, yG, yU, yT⟩ := c'
  obtain ⟨xc, xo, xl⟩ := t
  obtain ⟨yk, yb, yc, yl, yp⟩ := t'
  obtain ⟨gIt, gSk, gOd, gIo, gSo, gNa, gSh, gSr, gMa, gTi, gCe⟩ := g
  obtain ⟨hIt, hLi, hOp, hNa, hSh, hSr, hTi, hCe, hRe⟩ := g'
  obtain ⟨an, ea, han⟩ := hD.2.2 p hp3
  rcases rd_visit (b := 1) hC hR hK hp3 (by omega) hfr with ⟨m, od, sk, gOd1, gIo1, gSk1, hLi1, hOp1, hV, hbad, X1, Y1⟩ | ⟨_, m1, m, od, gOd1, gIo1, gSk1, hLi1, hOp1, gIt1, r1, r2, r3, r4, r5, X1, Y1⟩
  · obtain ⟨gSo', gNa', gSh', gSr', gTi', gCe', hNa', hSh', hSr', hTi', hCe', bl', q1, X2, Y2⟩ := rd_wloop (ab := -1) hC hR hK hp3 hV (hbad rfl) ea han m 0 gSo gNa gSh gSr gTi gCe hNa hSh hSr hTi hCe bl (by omega) (fun i hi => by omega)
    refine Or.inl ⟨m, (nI m, gSk1, gOd1, gIo1, gSo', gNa', gSh', gSr', gMa, gTi', gCe'), (nI m, hLi1, hOp1, hNa', hSh', hSr', hTi', hCe', hRe), bl', ⟨rfl, rfl, hV.1, q1⟩, fun post hp => ?_, fun post hp => ?_⟩
    · show wpX_write post (li, nw, gIt, pa, ab, dO, dP, dS, dF, dG, dR, dA, xB, xR, xK, xU, xH, xF, xG, xT, xc, xo, xl, so, ho, xC, ce, xt, xL, va, la, gi, gSk, gOd, gIo, gSo, gNa, gSh, gSr, gMa, gTi, gCe) _ _
      unfold wpX_write
      dsimp only
      exact X1 _ (br_t rd_m1n (X2 post hp))
    · show wpY_write post (yN, yk, tm, hIt, py, bl, dO, dP, dS, dF, dG, dR, dA, yB, yR, yK, yO, yA, yH, yF, yG, yU, yT, yb, yc, yl, yp, so, yC, yt, ho, ce, yL, va, la, gi, ap, ys, hLi, hOp, hNa, hSh, hSr, hTi, hCe, hRe) _ _
      unfold wpY_write
      dsimp only
      exact Y1 _ (Y2 post hp)
  · obtain ⟨hNa', hSh', hSr', hTi', hCe', Y2⟩ := rd_wbad hC hR hK hp3 r2 r1 r3 r4 r5 ea m1 0 hNa hSh hSr hTi hCe bl (by omega)
    refine Or.inr ⟨P (oc (12 * p + od m1)) % 12, (gIt1, gSk1, gOd1, gIo1, gSo, gNa, gSh, gSr, gMa, gTi, gCe), (nI m, hLi1, hOp1, hNa', hSh', hSr', hTi', hCe', hRe), by omega, fun post hp => ?_, fun post hp => ?_⟩
    · show wpX_write post (li, nw, gIt, pa, ab, dO, dP, dS, dF, dG, dR, dA, xB, xR, xK, xU, xH, xF, xG, xT, xc, xo, xl, so, ho, xC, ce, xt, xL, va, la, gi, gSk, gOd, gIo, gSo, gNa, gSh, gSr, gMa, gTi, gCe) _ _
      unfold wpX_write
      dsimp only
      exact X1 _ (br_f (nI_pos (by omega)) hp)
    · show wpY_write post (yN, yk, tm, hIt, py, bl, dO, dP, dS, dF, dG, dR, dA, yB, yR, yK, yO, yA, yH, yF, yG, yU, yT, yb, yc, yl, yp, so, yC, yt, ho, ce, yL, va, la, gi, ap, ys, hLi, hOp, hNa, hSh, hSr, hTi, hCe, hRe) _ _
      unfold wpY_write
      dsimp only
      exact Y1 _ (Y2 post hp)
end
section
/-! an item is received -/
def rd_sh (T : rt_T) : Nat → Nat := T.2.2.1
theorem rd_TE_P {T T' : rt_T} {j : Nat} (h : rd_TE T T') (hj : j < rd_N T) : rd_P T' j = rd_P T j ∧ j < rd_N T' ∧ rd_sh T' j = rd_sh T j := by
  obtain ⟨N, P, sh, fl, sg, st, pr, kn⟩ := T
  obtain ⟨N', P', sh', fl', sg', st', pr', kn'⟩ := T'
  obtain ⟨a, b⟩ := h
  obtain ⟨b1, b2, b3, b4⟩ := b j hj
  exact ⟨b1, Nat.lt_of_lt_of_le hj a, b2⟩
theorem rd_OR_te {K : Nat} {T T' : rt_T} {A : rt_A} {w : rt_W} {o : rt_OX} {o' : rt_OY} (h : rd_TE T T') (hR : rd_OR K T A w o o') : rd_OR K T' A w o o' := by
  obtain ⟨N, P, sh, fl, sg, st, pr, kn⟩ := T
  obtain ⟨N', P', sh', fl', sg', st', pr', kn'⟩ := T'
  obtain ⟨oc, tk, le, hm, gv, lm, t⟩ := A
  obtain ⟨so, ho, ce, va, la, gi⟩ := w
  obtain ⟨li, nw, xC, xt, xL⟩ := o
  obtain ⟨tm, yC, yt, yL, ap⟩ := o'
  obtain ⟨a, b⟩ := h
  obtain ⟨⟨a1, a2, a3, a4, a5, a6, a7, a8, a9⟩, ⟨b1, b2, b3, b4, b5⟩, hY⟩ := hR
  refine ⟨⟨a1, a2, fun i hi h1 => ⟨Nat.lt_of_lt_of_le (a3 i hi h1).1 a, (a3 i hi h1).2⟩, a4, a5, a6, a7, a8, fun i hi h1 j hj hb => ?_⟩, ⟨b1, b2, fun i hi h1 => ?_, b4, b5⟩, hY⟩
  · rw [(b _ (a3 i hi h1).1).2.1] at hb
    exact a9 i hi h1 j hj hb
  · rw [(b _ (a3 i hi h1).1).1]
    exact b3 i hi h1
def rd_md (q : Nat) (T : rt_T) (A : rt_A) (w : rt_W) (gSo gSh gMa hRe : rt_F) (k : Nat) : Prop := ∃ md, md < 12 ∧ gMa k = nI md ∧ hRe k = nI md ∧ ¬ w.1 (12 * q + md) = 0 ∧ (gSo k = 1 → w.1 (12 * q + md) = 1 ∧ gSh k = nI (rd_sh T (A.1 (12 * q + md))))
theorem rd_md_e {K q k : Nat} {T T' : rt_T} {A A' : rt_A} {w w' : rt_W} {o : rt_OX} {o' : rt_OY} {gSo gSh gMa hRe gMa' hRe' : rt_F} (hq : q < 3) (hR : rd_OR K T A w o o') (hT : rd_TE T T') (hE : rd_EO A w A' w') (eM : gMa' k = gMa k) (eR : hRe' k = hRe k) (h : rd_md q T A w gSo gSh gMa hRe k) : rd_md q T' A' w' gSo gSh gMa' hRe' k := by
  obtain ⟨N, P, sh, fl, sg, st, pr, kn⟩ := T
  obtain ⟨oc, tk, le, hm, gv, lm, t⟩ := A
  obtain ⟨so, ho, ce, va, la, gi⟩ := w
  obtain ⟨oc', tk', le', hm', gv', lm', t'⟩ := A'
  obtain ⟨so', ho', ce', va', la', gi'⟩ := w'
  obtain ⟨_, _, _, _, _, _, e7⟩ := hE
  obtain ⟨md, h1, h2, h3, h4, h5⟩ := h
  obtain ⟨f1, f2, f3, f4⟩ := e7 (12 * q + md) (by omega) h4
  refine ⟨md, h1, eM.trans h2, eR.trans h3, ?_, fun hs => ?_⟩
  · show ¬ so' (12 * q + md) = 0
    rw [f1]; exact h4
  · obtain ⟨g1, g2⟩ := h5 hs
    obtain ⟨li, nw, xC, xt, xL⟩ := o
    obtain ⟨tm, yC, yt, yL, ap⟩ := o'
    have hlt := (hR.1.2.2.1 (12 * q + md) (by omega) g1).1
    refine ⟨?_, ?_⟩
    · show so' (12 * q + md) = 1
      rw [f1]; exact g1
    · show gSh k = nI (rd_sh T' (oc' (12 * q + md)))
      rw [f2, (rd_TE_P hT hlt).2.2]
      exact g2
theorem rd_shXY {T : rt_T} {c : rt_CX} {c' : rt_CY} {j : Nat} (hC : rd_CR T c c') (hj : j < rd_N T) : c.2.2.2.2.1 (rd_P T j) = nI (rd_sh T j) ∧ c'.2.2.2.2.2.2.1 j = nI (rd_sh T j) ∧ rd_P T j < 180 ∧ j < 180 ∧ rd_sh T j < 4 := by
  obtain ⟨N, P, sh, fl, sg, st, pr, kn⟩ := T
  obtain ⟨xB, xR, xK, xU, xH, xF, xG, xT⟩ := c
  obtain ⟨yN, yB, yR, yK, yO, yA, yH, yF, yG, yU, yT⟩ := c'
  have hN := rd_NB' hC.1
  have hj' : j < N := hj
  exact ⟨(hC.2.1.2 j hj).2.1, (hC.2.2.1.2.2 j hj).2.2.2.1, (hC.1.1 j hj).1, by omega, (hC.1.1 j hj).2.2.1⟩
theorem rd_recv {K q m k : Nat} {T : rt_T} {A : rt_A} {w : rt_W} {o : rt_OX} {o' : rt_OY} {pa ab py bl gIt hIt : Int32} {d : rt_D} {c : rt_CX} {c' : rt_CY} {t : rt_TX} {t' : rt_TY} {ys gSk gOd gIo gSo gNa gSh gSr gMa gTi gCe hLi hOp hNa hSh hSr hTi hCe hRe : rt_F}
    (hD : rd_DI d) (hC : rd_CR T c c') (hR : rd_OR K T A w o o') (hK : K ≤ 4000) (hq : q < 3) (hk : k < 12) (hIR : rd_IR K m gSo gNa gSh gSr gTi gCe hNa hSh hSr hTi hCe k) :
    ∃ (T' : rt_T) (A' : rt_A) (c1 : rt_CX) (c1' : rt_CY) (t1 : rt_TX) (t1' : rt_TY) (w1 : rt_W) (o1 : rt_OX) (o1' : rt_OY) (gMa' hRe' : rt_F) (ab' : Int32) (e : Nat), rd_CR T' c1 c1' ∧ rd_TE T T' ∧ rd_OR K T' A' w1 o1 o1' ∧ rd_EO A w A' w1 ∧ e < 10 ∧
      (∀ i, i ≠ k → gMa' i = gMa i ∧ hRe' i = hRe i) ∧ (e = 0 → rd_md q T' A' w1 gSo gSh gMa' hRe' k) ∧
      (∀ post : Int32 → SX → Prop, post (nI e) (rd_X pa ab' d c1 t1 w1 o1 (gIt, gSk, gOd, gIo, gSo, gNa, gSh, gSr, gMa', gTi, gCe)) → wpX_receive post (rd_X pa ab d c t w o (gIt, gSk, gOd, gIo, gSo, gNa, gSh, gSr, gMa, gTi, gCe)) (nI q) (nI k)) ∧
      (∀ post : Int32 → SY → Prop, post (nI e) (rd_Y py ab' d c1' t1' w1 o1' ys (hIt, hLi, hOp, hNa, hSh, hSr, hTi, hCe, hRe')) → wpY_readItem post (rd_Y py bl d c' t' w o' ys (hIt, hLi, hOp, hNa, hSh, hSr, hTi, hCe, hRe)) (nI q) (nI k)) := by
  have ck : (nI k).toNatClampNeg = k := rd_cl (by omega)
  rcases hIR with ⟨s2, hn, q2, tt, hq2, ht1, htK, e1, e2, e3, e4⟩ | ⟨s1, nm, s, src, hnm, hs, hsrc, e1, e2, e3, e4, e5, e6, _⟩
  · -- a stub
    obtain ⟨A1, w1, o1, o1', r, hR1, hE1, hr, X1, Y1⟩ := rd_stub (pa := pa) (ab := -1) (py := py) (bl := -1) (d := d) (c := c) (c' := c') (t := t) (t' := t') (ys := ys) (g := (gIt, gSk, gOd, gIo, gSo, gNa, gSh, gSr, gMa, gTi, gCe)) (g' := (hIt, hLi, hOp, hNa, hSh, hSr, hTi, hCe, hRe)) hR hK hq hq2 ht1 htK
    have hrb : ∀ j, r = some j → j < 128 := fun j e => by have := (hr j e).1; omega
    have fin : ∀ e : Nat, e < 10 → (e = 0 → r ≠ none) → (∀ post : Int32 → SX → Prop, post (nI e) (rd_X pa (-1) d c t w1 o1 (gIt, gSk, gOd, gIo, gSo, gNa, gSh, gSr, upd gMa k (rd_o r), gTi, gCe)) → ((0 ≤ rd_o r → post 0 (rd_X pa (-1) d c t w1 o1 (gIt, gSk, gOd, gIo, gSo, gNa, gSh, gSr, upd gMa k (rd_o r), gTi, gCe))) ∧ (¬ 0 ≤ rd_o r → post 9 (rd_X pa (-1) d c t w1 o1 (gIt, gSk, gOd, gIo, gSo, gNa, gSh, gSr, upd gMa k (rd_o r), gTi, gCe))))) → (∀ post : Int32 → SY → Prop, post (nI e) (rd_Y py (-1) d c' t' w1 o1' ys (hIt, hLi, hOp, hNa, hSh, hSr, hTi, hCe, upd hRe k (rd_o r))) → ((0 ≤ rd_o r → post 0 (rd_Y py (-1) d c' t' w1 o1' ys (hIt, hLi, hOp, hNa, hSh, hSr, hTi, hCe, upd hRe k (rd_o r)))) ∧ (¬ 0 ≤ rd_o r → post 9 (rd_Y py (-1) d c' t' w1 o1' ys (hIt, hLi, hOp, hNa, hSh, hSr, hTi, hCe, upd hRe k (rd_o r)))))) →
        ∃ (T' : rt_T) (A' : rt_A) (c1 : rt_CX) (c1' : rt_CY) (t1 : rt_TX) (t1' : rt_TY) (w1 : rt_W) (o1 : rt_OX) (o1' : rt_OY) (gMa' hRe' : rt_F) (ab' : Int32) (e : Nat), rd_CR T' c1 c1' ∧ rd_TE T T' ∧ rd_OR K T' A' w1 o1 o1' ∧ rd_EO A w A' w1 ∧ e < 10 ∧
          (∀ i, i ≠ k → gMa' i = gMa i ∧ hRe' i = hRe i) ∧ (e = 0 → rd_md q T' A' w1 gSo gSh gMa' hRe' k) ∧
          (∀ post : Int32 → SX → Prop, post (nI e) (rd_X pa ab' d c1 t1 w1 o1 (gIt, gSk, gOd, gIo, gSo, gNa, gSh, gSr, gMa', gTi, gCe)) → wpX_receive post (rd_X pa ab d c t w o (gIt, gSk, gOd, gIo, gSo, gNa, gSh, gSr, gMa, gTi, gCe)) (nI q) (nI k)) ∧
          (∀ post : Int32 → SY → Prop, post (nI e) (rd_Y py ab' d c1' t1' w1 o1' ys (hIt, hLi, hOp, hNa, hSh, hSr, hTi, hCe, hRe')) → wpY_readItem post (rd_Y py bl d c' t' w o' ys (hIt, hLi, hOp, hNa, hSh, hSr, hTi, hCe, hRe)) (nI q) (nI k)) := by
      intro e he hne hx hy
      refine ⟨T, A1, c, c', t, t', w1, o1, o1', upd gMa k (rd_o r), upd hRe k (rd_o r), -1, e, hC, rd_TE_rfl _, hR1, hE1, he, fun i hi => ⟨pk_un hi, pk_un hi⟩, fun e0 => ?_, fun post hp => ?_, fun post hp => ?_⟩
      · cases r with
        | none => exact absurd rfl (hne e0)
        | some v =>
          obtain ⟨r1, r2⟩ := hr v rfl
          refine ⟨v, r1, pk_us, pk_us, ?_, fun z => ?_⟩
          · rw [r2]; decide
          · rw [s2] at z; exact absurd z (by decide)
      · unfold wpX_receive rd_X
        dsimp only
        rw [ck, s2, e1, e3]
        refine ⟨rd_in hk, br_t rfl ⟨rd_in hk, rd_in hk, X1 _ ?_⟩⟩
        unfold rd_X wX_receive_130
        dsimp only
        rw [ck, rd_nb8o hrb]
        exact ⟨rd_in hk, nm_e (hx post hp)⟩
      · unfold wpY_readItem rd_Y
        dsimp only
        rw [ck, hn, e2, e4]
        refine ⟨rd_in hk, nm_e ⟨rd_in hk, br_f rd_m1p ⟨rd_in hk, rd_in hk, Y1 _ ?_⟩⟩⟩
        unfold rd_Y wY_readItem_128
        dsimp only
        rw [ck]
        refine ⟨rd_in hk, nm_e ⟨rd_in hk, ?_⟩⟩
        rw [pk_us]
        exact hy post hp
    cases r with
    | none => exact fin 9 (by omega) (fun z => by omega) (fun post hp => br_f rd_m1p hp) (fun post hp => br_f rd_m1p hp)
    | some v => exact fin 0 (by omega) (fun _ z => nomatch z) (fun post hp => br_t (nI_pos' (by have := hrb v rfl; omega)) hp) (fun post hp => br_t (nI_pos' (by have := hrb v rfl; omega)) hp)
  · -- a plain one
    -- the loader
    obtain ⟨l, hl, ex, ey⟩ : ∃ l, l < 5 ∧ (∀ A : Int32 → Prop, A (nI l) → ((0 ≤ rd_o src → (vp_in (nI k) 12 ∧ A (rd_o src))) ∧ (¬ 0 ≤ rd_o src → A 4))) ∧ True := by
      cases src with
      | none => exact ⟨4, by omega, fun A h => br_f rd_m1p h, trivial⟩
      | some l => exact ⟨l, by have := hsrc l rfl; omega, fun A h => br_t (nI_pos' (by have := hsrc l rfl; omega)) ⟨rd_in hk, h⟩, trivial⟩
    obtain ⟨T1, c1, c1', t1, t1', rx, ry, hC1, hE1, hRR, X1, Y1⟩ := rd_load (T := T) (d := d) (c := c) (c' := c') (t := t) (t' := t') (pa := pa) (ab := nI nm) (py := py) (bl := nI nm) (w := w) (o := o) (o' := o') (ys := ys) (g := (gIt, gSk, gOd, gIo, gSo, gNa, gSh, gSr, gMa, gTi, gCe)) (g' := (hIt, hLi, hOp, hNa, hSh, hSr, hTi, hCe, hRe)) hD hC hq hl hnm
    -- X and Y up to the load
    have hX : ∀ post : Int32 → SX → Prop, wpX_load (fun r_9 u => match u with | (li, nw, gIt, pa, ab, dO, dP, dS, dF, dG, dR, dA, xB, xR, xK, xU, xH, xF, xG, xT, xc, xo, xl, so, ho, xC, ce, xt, xL, va, la, gi, gSk, gOd, gIo, gSo, gNa, gSh, gSr, gMa, gTi, gCe) => (((0 ≤ r_9 → (vp_in r_9 180 ∧ (vp_in (nI k) 12 ∧ ((((xH r_9.toNatClampNeg) = (gSh (nI k).toNatClampNeg) → (wpX_ready (fun r_56 u => match u with | (li, nw, gIt, pa, ab, dO, dP, dS, dF, dG, dR, dA, xB, xR, xK, xU, xH, xF, xG, xT, xc, xo, xl, so, ho, xC, ce, xt, xL, va, la, gi, gSk, gOd, gIo, gSo, gNa, gSh, gSr, gMa, gTi, gCe) => (((r_56 = 0 → (wpX_plain (fun r_100 u => match u with | (li, nw, gIt, pa, ab, dO, dP, dS, dF, dG, dR, dA, xB, xR, xK, xU, xH, xF, xG, xT, xc, xo, xl, so, ho, xC, ce, xt, xL, va, la, gi, gSk, gOd, gIo, gSo, gNa, gSh, gSr, gMa, gTi, gCe) => (wX_receive_130 post (nI k) r_100 li nw gIt pa ab dO dP dS dF dG dR dA xB xR xK xU xH xF xG xT xc xo xl so ho xC ce xt xL va la gi gSk gOd gIo gSo gNa gSh gSr gMa gTi gCe)) (li, nw, gIt, pa, ab, dO, dP, dS, dF, dG, dR, dA, xB, xR, xK, xU, xH, xF, xG, xT, xc, xo, xl, so, ho, xC, ce, xt, xL, va, la, gi, gSk, gOd, gIo, gSo, gNa, gSh, gSr, gMa, gTi, gCe) (nI q) r_9)) ∧ (¬ r_56 = 0 → (post r_56 (li, nw, gIt, pa, ab, dO, dP, dS, dF, dG, dR, dA, xB, xR, xK, xU, xH, xF, xG, xT, xc, xo, xl, so, ho, xC, ce, xt, xL, va, la, gi, gSk, gOd, gIo, gSo, gNa, gSh, gSr, gMa, gTi, gCe)))))) (li, nw, gIt, pa, ab, dO, dP, dS, dF, dG, dR, dA, xB, xR, xK, xU, xH, xF, xG, xT, xc, xo, xl, so, ho, xC, ce, xt, xL, va, la, gi, gSk, gOd, gIo, gSo, gNa, gSh, gSr, gMa, gTi, gCe) r_9)) ∧ (¬ (xH r_9.toNatClampNeg) = (gSh (nI k).toNatClampNeg) → (post 8 (li, nw, gIt, pa, ab, dO, dP, dS, dF, dG, dR, dA, xB, xR, xK, xU, xH, xF, xG, xT, xc, xo, xl, so, ho, xC, ce, xt, xL, va, la, gi, gSk, gOd, gIo, gSo, gNa, gSh, gSr, gMa, gTi, gCe)))))))) ∧ (¬ 0 ≤ r_9 → (post (-r_9) (li, nw, gIt, pa, ab, dO, dP, dS, dF, dG, dR, dA, xB, xR, xK, xU, xH, xF, xG, xT, xc, xo, xl, so, ho, xC, ce, xt, xL, va, la, gi, gSk, gOd, gIo, gSo, gNa, gSh, gSr, gMa, gTi, gCe)))))) (rd_X pa (nI nm) d c t w o (gIt, gSk, gOd, gIo, gSo, gNa, gSh, gSr, gMa, gTi, gCe)) (nI q) (nI l) (nI nm) → wpX_receive post (rd_X pa ab d c t w o (gIt, gSk, gOd, gIo, gSo, gNa, gSh, gSr, gMa, gTi, gCe)) (nI q) (nI k) := by
      intro post h
      unfold wpX_receive rd_X
      dsimp only
      rw [ck, s1, e1, e5]
      refine ⟨rd_in hk, br_f (by decide) ⟨rd_in hk, nm_e ⟨rd_in hk, ?_⟩⟩⟩
      refine ex (fun z => wX_receive_67 post (nI q) (nI k) z (nI q) _ _ _ _ _ _ _ _ _ _ _ _ _ _ _ _ _ _ _ _ _ _ _ _ _ _ _ _ _ _ _ _ _ _ _ _ _ _ _ _ _ _) ?_
      unfold wX_receive_67
      rw [ck, e1]
      rw [ck] at h
      exact ⟨rd_in hk, h⟩
    have hY : ∀ post : Int32 → SY → Prop, wpY_load (fun r_9 u => match u with | (yN, yk, tm, hIt, py, bl, dO, dP, dS, dF, dG, dR, dA, yB, yR, yK, yO, yA, yH, yF, yG, yU, yT, yb, yc, yl, yp, so, yC, yt, ho, ce, yL, va, la, gi, ap, ys, hLi, hOp, hNa, hSh, hSr, hTi, hCe, hRe) => (((0 ≤ r_9 → (vp_in r_9 180 ∧ (vp_in (nI k) 12 ∧ ((((yH r_9.toNatClampNeg) = (hSh (nI k).toNatClampNeg) → (wpY_ready (fun r_60 u => match u with | (yN, yk, tm, hIt, py, bl, dO, dP, dS, dF, dG, dR, dA, yB, yR, yK, yO, yA, yH, yF, yG, yU, yT, yb, yc, yl, yp, so, yC, yt, ho, ce, yL, va, la, gi, ap, ys, hLi, hOp, hNa, hSh, hSr, hTi, hCe, hRe) => (((r_60 ≤ 0 → (wpY_create (fun r_108 u => match u with | (yN, yk, tm, hIt, py, bl, dO, dP, dS, dF, dG, dR, dA, yB, yR, yK, yO, yA, yH, yF, yG, yU, yT, yb, yc, yl, yp, so, yC, yt, ho, ce, yL, va, la, gi, ap, ys, hLi, hOp, hNa, hSh, hSr, hTi, hCe, hRe) => (vp_in (nI k) 12 ∧ ∀ a_read_156 : Nat → Int32, a_read_156 = upd hRe (nI k).toNatClampNeg r_108 → (wY_readItem_128 post (nI k) yN yk tm hIt py bl dO dP dS dF dG dR dA yB yR yK yO yA yH yF yG yU yT yb yc yl yp so yC yt ho ce yL va la gi ap ys hLi hOp hNa hSh hSr hTi hCe a_read_156))) (yN, yk, tm, hIt, py, bl, dO, dP, dS, dF, dG, dR, dA, yB, yR, yK, yO, yA, yH, yF, yG, yU, yT, yb, yc, yl, yp, so, yC, yt, ho, ce, yL, va, la, gi, ap, ys, hLi, hOp, hNa, hSh, hSr, hTi, hCe, hRe) (nI q) r_9)) ∧ (¬ r_60 ≤ 0 → (post r_60 (yN, yk, tm, hIt, py, bl, dO, dP, dS, dF, dG, dR, dA, yB, yR, yK, yO, yA, yH, yF, yG, yU, yT, yb, yc, yl, yp, so, yC, yt, ho, ce, yL, va, la, gi, ap, ys, hLi, hOp, hNa, hSh, hSr, hTi, hCe, hRe)))))) (yN, yk, tm, hIt, py, bl, dO, dP, dS, dF, dG, dR, dA, yB, yR, yK, yO, yA, yH, yF, yG, yU, yT, yb, yc, yl, yp, so, yC, yt, ho, ce, yL, va, la, gi, ap, ys, hLi, hOp, hNa, hSh, hSr, hTi, hCe, hRe) r_9)) ∧ (¬ (yH r_9.toNatClampNeg) = (hSh (nI k).toNatClampNeg) → (post 8 (yN, yk, tm, hIt, py, bl, dO, dP, dS, dF, dG, dR, dA, yB, yR, yK, yO, yA, yH, yF, yG, yU, yT, yb, yc, yl, yp, so, yC, yt, ho, ce, yL, va, la, gi, ap, ys, hLi, hOp, hNa, hSh, hSr, hTi, hCe, hRe)))))))) ∧ (¬ 0 ≤ r_9 → (post (-r_9) (yN, yk, tm, hIt, py, bl, dO, dP, dS, dF, dG, dR, dA, yB, yR, yK, yO, yA, yH, yF, yG, yU, yT, yb, yc, yl, yp, so, yC, yt, ho, ce, yL, va, la, gi, ap, ys, hLi, hOp, hNa, hSh, hSr, hTi, hCe, hRe)))))) (rd_Y py (nI nm) d c' t' w o' ys (hIt, hLi, hOp, hNa, hSh, hSr, hTi, hCe, hRe)) (nI q) (nI l) (nI nm) → wpY_readItem post (rd_Y py bl d c' t' w o' ys (hIt, hLi, hOp, hNa, hSh, hSr, hTi, hCe, hRe)) (nI q) (nI k) := by
      intro post h
      unfold wpY_readItem rd_Y
      dsimp only
      rw [ck, e2, e6]
      refine ⟨rd_in hk, nm_e ⟨rd_in hk, br_t (nI_pos' (by omega)) ⟨rd_in hk, ?_⟩⟩⟩
      refine ex (fun z => wY_readItem_66 post (nI q) (nI k) z (nI q) _ _ _ _ _ _ _ _ _ _ _ _ _ _ _ _ _ _ _ _ _ _ _ _ _ _ _ _ _ _ _ _ _ _ _ _ _ _ _ _ _ _ _ _ _ _) ?_
      unfold wY_readItem_66
      rw [ck, e2]
      rw [ck] at h
      exact ⟨rd_in hk, h⟩
    rcases hRR with ⟨e, h1, h2, rfl, rfl⟩ | ⟨j, hj, rfl, rfl⟩
    · obtain ⟨k1, k2, k3, k4⟩ := rd_neg e h1 h2
      refine ⟨T1, A, c1, c1', t1, t1', w, o, o', gMa, hRe, nI nm, e, hC1, hE1, rd_OR_te hE1 hR, rd_EO_rfl _ _, by omega, fun i _ => ⟨rfl, rfl⟩, fun z => by omega, fun post hp => hX post (X1 _ ?_), fun post hp => hY post (Y1 _ ?_)⟩
      · unfold rd_X
        dsimp only
        refine br_f k3 ?_
        rw [Int32.neg_neg]
        exact hp
      · unfold rd_Y
        dsimp only
        refine br_f k3 ?_
        rw [Int32.neg_neg]
        exact hp
    · obtain ⟨f1, f2, f3, f4, f5⟩ := rd_shXY hC1 hj
      have cP : (nI (rd_P T1 j)).toNatClampNeg = rd_P T1 j := rd_cl (by omega)
      have cj : (nI j).toNatClampNeg = j := rd_cl (by omega)
      by_cases hss : rd_sh T1 j = s
      case neg =>
        have ns : ¬ nI (rd_sh T1 j) = nI s := fun z => hss ((nI_eq (by omega) (by omega)).mp z)
        refine ⟨T1, A, c1, c1', t1, t1', w, o, o', gMa, hRe, nI nm, 8, hC1, hE1, rd_OR_te hE1 hR, rd_EO_rfl _ _, by omega, fun i _ => ⟨rfl, rfl⟩, fun z => by omega, fun post hp => hX post (X1 _ ?_), fun post hp => hY post (Y1 _ ?_)⟩
        · unfold rd_X
          dsimp only
          rw [cP, f1, ck, e3]
          exact br_t (nI_pos' (by omega)) ⟨rd_in f3, rd_in hk, br_f ns hp⟩
        · unfold rd_Y
          dsimp only
          rw [cj, f2, ck, e4]
          exact br_t (nI_pos' (by omega)) ⟨rd_in f4, rd_in hk, br_f ns hp⟩
      obtain ⟨T2, c2, c2', t2, t2', e2, hC2, hE2, he2, X2, Y2⟩ := rd_ready (T := T1) (d := d) (c := c1) (c' := c1') (t := t1) (t' := t1') (pa := pa) (ab := nI nm) (py := py) (bl := nI nm) (w := w) (o := o) (o' := o') (ys := ys) (g := (gIt, gSk, gOd, gIo, gSo, gNa, gSh, gSr, gMa, gTi, gCe)) (g' := (hIt, hLi, hOp, hNa, hSh, hSr, hTi, hCe, hRe)) hC1 hj
      obtain ⟨p1, p2, p3⟩ := rd_TE_P hE2 hj
      have hE12 := rd_TE_tr hE1 hE2
      have hX2 : ∀ post : Int32 → SX → Prop, ((nI e2 = 0 → wpX_plain (fun r_100 u => match u with | (li, nw, gIt, pa, ab, dO, dP, dS, dF, dG, dR, dA, xB, xR, xK, xU, xH, xF, xG, xT, xc, xo, xl, so, ho, xC, ce, xt, xL, va, la, gi, gSk, gOd, gIo, gSo, gNa, gSh, gSr, gMa, gTi, gCe) => (wX_receive_130 post (nI k) r_100 li nw gIt pa ab dO dP dS dF dG dR dA xB xR xK xU xH xF xG xT xc xo xl so ho xC ce xt xL va la gi gSk gOd gIo gSo gNa gSh gSr gMa gTi gCe)) (rd_X pa (nI nm) d c2 t2 w o (gIt, gSk, gOd, gIo, gSo, gNa, gSh, gSr, gMa, gTi, gCe)) (nI q) (nI (rd_P T1 j))) ∧ (¬ nI e2 = 0 → post (nI e2) (rd_X pa (nI nm) d c2 t2 w o (gIt, gSk, gOd, gIo, gSo, gNa, gSh, gSr, gMa, gTi, gCe)))) → wpX_receive post (rd_X pa ab d c t w o (gIt, gSk, gOd, gIo, gSo, gNa, gSh, gSr, gMa, gTi, gCe)) (nI q) (nI k) := by
        intro post h
        refine hX post (X1 _ ?_)
        unfold rd_X
        dsimp only
        rw [cP, f1, ck, e3, hss]
        exact br_t (nI_pos' (by omega)) ⟨rd_in f3, rd_in hk, br_t rfl (X2 _ h)⟩
      have hY2 : ∀ post : Int32 → SY → Prop, ((nI e2 ≤ 0 → wpY_create (fun r_108 u => match u with | (yN, yk, tm, hIt, py, bl, dO, dP, dS, dF, dG, dR, dA, yB, yR, yK, yO, yA, yH, yF, yG, yU, yT, yb, yc, yl, yp, so, yC, yt, ho, ce, yL, va, la, gi, ap, ys, hLi, hOp, hNa, hSh, hSr, hTi, hCe, hRe) => (vp_in (nI k) 12 ∧ ∀ a_read_156 : Nat → Int32, a_read_156 = upd hRe (nI k).toNatClampNeg r_108 → (wY_readItem_128 post (nI k) yN yk tm hIt py bl dO dP dS dF dG dR dA yB yR yK yO yA yH yF yG yU yT yb yc yl yp so yC yt ho ce yL va la gi ap ys hLi hOp hNa hSh hSr hTi hCe a_read_156))) (rd_Y py (nI nm) d c2' t2' w o' ys (hIt, hLi, hOp, hNa, hSh, hSr, hTi, hCe, hRe)) (nI q) (nI j)) ∧ (¬ nI e2 ≤ 0 → post (nI e2) (rd_Y py (nI nm) d c2' t2' w o' ys (hIt, hLi, hOp, hNa, hSh, hSr, hTi, hCe, hRe)))) → wpY_readItem post (rd_Y py bl d c' t' w o' ys (hIt, hLi, hOp, hNa, hSh, hSr, hTi, hCe, hRe)) (nI q) (nI k) := by
        intro post h
        refine hY post (Y1 _ ?_)
        unfold rd_Y
        dsimp only
        rw [cj, f2, ck, e4, hss]
        rw [ck] at h
        exact br_t (nI_pos' (by omega)) ⟨rd_in f4, rd_in hk, br_t rfl (Y2 _ h)⟩
      by_cases he0 : e2 = 0
      case neg =>
        exact ⟨T2, A, c2, c2', t2, t2', w, o, o', gMa, hRe, nI nm, e2, hC2, hE12, rd_OR_te hE12 hR, rd_EO_rfl _ _, by omega, fun i _ => ⟨rfl, rfl⟩, fun z => absurd z he0, fun post hp => hX2 post (br_f (nI_ne0 (by omega) (by omega)) hp), fun post hp => hY2 post (br_f (nI_nle (by omega) (by omega)) hp)⟩
      subst he0
      obtain ⟨A3, w3, o3, o3', r, hR3, hE3, hr, X3, Y3⟩ := rd_plain (p := q) (j := j) (pa := pa) (ab := nI nm) (py := py) (bl := nI nm) (d := d) (t := t2) (t' := t2') (ys := ys) (g := (gIt, gSk, gOd, gIo, gSo, gNa, gSh, gSr, gMa, gTi, gCe)) (g' := (hIt, hLi, hOp, hNa, hSh, hSr, hTi, hCe, hRe)) hC2 (rd_OR_te hE12 hR) hq p2
      rw [p1] at X3
      have hrb : ∀ j, r = some j → j < 128 := fun j e => by have := (hr j e).1; omega
      have hX3 : ∀ post : Int32 → SX → Prop, ((0 ≤ rd_o r → post 0 (rd_X pa (nI nm) d c2 t2 w3 o3 (gIt, gSk, gOd, gIo, gSo, gNa, gSh, gSr, upd gMa k (rd_o r), gTi, gCe))) ∧ (¬ 0 ≤ rd_o r → post 9 (rd_X pa (nI nm) d c2 t2 w3 o3 (gIt, gSk, gOd, gIo, gSo, gNa, gSh, gSr, upd gMa k (rd_o r), gTi, gCe)))) → wpX_receive post (rd_X pa ab d c t w o (gIt, gSk, gOd, gIo, gSo, gNa, gSh, gSr, gMa, gTi, gCe)) (nI q) (nI k) := by
        intro post h
        refine hX2 post (br_t rfl (X3 _ ?_))
        unfold rd_X wX_receive_130
        dsimp only
        rw [ck, rd_nb8o hrb]
        exact ⟨rd_in hk, nm_e h⟩
      have hY3 : ∀ post : Int32 → SY → Prop, ((0 ≤ rd_o r → post 0 (rd_Y py (nI nm) d c2' t2' w3 o3' ys (hIt, hLi, hOp, hNa, hSh, hSr, hTi, hCe, upd hRe k (rd_o r)))) ∧ (¬ 0 ≤ rd_o r → post 9 (rd_Y py (nI nm) d c2' t2' w3 o3' ys (hIt, hLi, hOp, hNa, hSh, hSr, hTi, hCe, upd hRe k (rd_o r))))) → wpY_readItem post (rd_Y py bl d c' t' w o' ys (hIt, hLi, hOp, hNa, hSh, hSr, hTi, hCe, hRe)) (nI q) (nI k) := by
        intro post h
        refine hY2 post (br_t (Int32.le_refl _) (Y3 _ ?_))
        unfold rd_Y wY_readItem_128
        dsimp only
        rw [ck]
        refine ⟨rd_in hk, nm_e ⟨rd_in hk, ?_⟩⟩
        rw [pk_us]
        exact h
      cases r with
      | none => exact ⟨T2, A3, c2, c2', t2, t2', w3, o3, o3', upd gMa k (-1), upd hRe k (-1), nI nm, 9, hC2, hE12, hR3, hE3, by omega, fun i hi => ⟨pk_un hi, pk_un hi⟩, fun z => by omega, fun post hp => hX3 post (br_f rd_m1p hp), fun post hp => hY3 post (br_f rd_m1p hp)⟩
      | some v =>
        obtain ⟨r1, r2, r3⟩ := hr v rfl
        refine ⟨T2, A3, c2, c2', t2, t2', w3, o3, o3', upd gMa k (nI v), upd hRe k (nI v), nI nm, 0, hC2, hE12, hR3, hE3, by omega, fun i hi => ⟨pk_un hi, pk_un hi⟩, fun _ => ⟨v, r1, pk_us, pk_us, by rw [r2]; decide, fun _ => ⟨r2, ?_⟩⟩, fun post hp => hX3 post (br_t (nI_pos' (by omega)) hp), fun post hp => hY3 post (br_t (nI_pos' (by omega)) hp)⟩
        rw [r3, p3, hss]
        exact e3
end
section
/-! read: the cells, then all -/
theorem rd_OR_ce {K X j : Nat} {x : Int32} {T : rt_T} {A : rt_A} {so ho ce va la gi : rt_F} {o : rt_OX} {o' : rt_OY} (hj : j < 2) (hv : so X = 1 → rd_sh T (A.1 X) / 2 ^ j % 2 = 1 → rd_vr so (X / 12) x) (hR : rd_OR K T A (so, ho, ce, va, la, gi) o o') : rd_OR K T A (so, ho, upd ce (2 * X + j) x, va, la, gi) o o' := by
  obtain ⟨N, P, sh, fl, sg, st, pr, kn⟩ := T
  obtain ⟨oc, tk, le, hm, gv, lm, t⟩ := A
  obtain ⟨li, nw, xC, xt, xL⟩ := o
  obtain ⟨tm, yC, yt, yL, ap⟩ := o'
  obtain ⟨⟨a1, a2, a3, a4, a5, a6, a7, a8, a9⟩, hX, hY⟩ := hR
  refine ⟨⟨a1, a2, a3, a4, a5, a6, a7, a8, fun i hi h1 b hb hbit => ?_⟩, hX, hY⟩
  by_cases e : 2 * i + b = 2 * X + j
  · obtain ⟨rfl, rfl⟩ : i = X ∧ b = j := by omega
    rw [pk_us]
    exact hv h1 hbit
  · rw [pk_un e]
    exact a9 i hi h1 b hb hbit
def rd_rc (bit : Nat) (gMa : rt_F) (x : Int32) : Int32 := if bit = 1 then (if x < 0 then x else gMa x.toNatClampNeg) else x
section
variable {K N q m k lm t : Nat} {P sh fl sg st oc tk le hm gv : Nat → Nat} {pr kn : Nat → Option Nat}
variable {li gIt pa ab yN yk tm hIt py bl : Int32} {dO dP dS dF dG dR dA xB xR xK xU xH xF xG xT xc xo xl so ho xC ce xt va la gi gSk gOd gIo gSo gNa gSh gSr gMa gTi gCe yB yR yK yO yA yH yF yG yU yT yb yc yl yp yC yt yL ap ys hLi hOp hNa hSh hSr hTi hCe hRe : Nat → Int32} {nw : Int64} {xL : Nat → Int64}
theorem xq_41 {post : Int32 → SX → Prop} {J} {f j md s : Nat} {mo : Option Nat} (hq : q < 3) (hk : k < 12) (hj : j < 2) (h1 : gSo k = 1) (hmd : md < 12) (eM : gMa k = nI md) (hs : s < 4) (eS : gSh k = nI s) (hmo : s / 2 ^ j % 2 = 1 → gCe (2 * k + j) = rd_o mo) (hb : ∀ v, mo = some v → v < 12)
    (h : wX_read_41 post J (nI q) (nI k) li nw gIt pa ab f (nI (j + 1)) dO dP dS dF dG dR dA xB xR xK xU xH xF xG xT xc xo xl so ho xC (upd ce (2 * (12 * q + md) + j) (rd_rc (s / 2 ^ j % 2) gMa (gCe (2 * k + j)))) xt xL va la gi gSk gOd gIo gSo gNa gSh gSr gMa gTi gCe) : wX_read_41 post J (nI q) (nI k) li nw gIt pa ab (f + 1) (nI j) dO dP dS dF dG dR dA xB xR xK xU xH xF xG xT xc xo xl so ho xC ce xt xL va la gi gSk gOd gIo gSo gNa gSh gSr gMa gTi gCe := by
  have ck : (nI k).toNatClampNeg = k := rd_cl (by omega)
  refine br_f (nI_ge (b := 2) hj (by omega)) ⟨rd_in hk, ?_⟩
  rw [ck, h1, rd_m2, nI_add, rd_cl (show 2 * k + j < 3000 by omega)]
  refine br_t rfl ⟨rd_in (by omega), nm_e ⟨rd_in hk, rd_in hk, ?_⟩⟩
  rw [eM, rd_m12, nI_add, rd_m2, nI_add, rd_cl (show 2 * (12 * q + md) + j < 3000 by omega), eS]
  unfold rd_rc at h
  by_cases bit : s / 2 ^ j % 2 = 1
  · rw [if_pos bit] at h
    refine br_t ((rd_bit1 hs hj).mpr bit) ?_
    have e := hmo bit
    cases mo with
    | none =>
      rw [if_pos (show gCe (2 * k + j) < 0 by rw [e]; exact rd_m1n)] at h
      exact br_t (by rw [e]; exact rd_m1n) ⟨rd_in (by omega), nm_e (nm_r (nI_1 j) h)⟩
    | some v =>
      have hv := hb v rfl
      rw [if_neg (show ¬ gCe (2 * k + j) < 0 by rw [e]; exact nI_pos (by omega))] at h
      exact br_f (by rw [e]; exact nI_pos (by omega)) ⟨by rw [e]; exact rd_in hv, rd_in (by omega), nm_e (nm_r (nI_1 j) h)⟩
  · rw [if_neg bit] at h
    exact br_f (fun z => bit ((rd_bit1 hs hj).mp z)) ⟨rd_in (by omega), nm_e (nm_r (nI_1 j) h)⟩
theorem yq_66 {post : Int32 → SY → Prop} {J} {f j md s : Nat} {mo : Option Nat} (hq : q < 3) (hk : k < 12) (hj : j < 2) (hmd : md < 12) (hs : s < 4) (hoc : oc (12 * q + md) < 180) (eC : yC (12 * q + md) = nI (oc (12 * q + md))) (eH : yH (oc (12 * q + md)) = nI s) (hmo : s / 2 ^ j % 2 = 1 → hCe (2 * k + j) = rd_o mo) (hb : ∀ v, mo = some v → v < 12)
    (h : wY_readAll_66 post J (nI q) (nI k) (nI (12 * q + md)) yN yk tm hIt py bl f (nI (j + 1)) dO dP dS dF dG dR dA yB yR yK yO yA yH yF yG yU yT yb yc yl yp so yC yt ho (upd ce (2 * (12 * q + md) + j) (rd_rc (s / 2 ^ j % 2) hRe (hCe (2 * k + j)))) yL va la gi ap ys hLi hOp hNa hSh hSr hTi hCe hRe) : wY_readAll_66 post J (nI q) (nI k) (nI (12 * q + md)) yN yk tm hIt py bl (f + 1) (nI j) dO dP dS dF dG dR dA yB yR yK yO yA yH yF yG yU yT yb yc yl yp so yC yt ho ce yL va la gi ap ys hLi hOp hNa hSh hSr hTi hCe hRe := by
  have e2 : 2 * nI k + nI j = nI (2 * k + j) := by rw [rd_m2, nI_add]
  have c2 : (nI (2 * k + j)).toNatClampNeg = 2 * k + j := rd_cl (by omega)
  have e3 : 2 * nI (12 * q + md) + nI j = nI (2 * (12 * q + md) + j) := by rw [rd_m2, nI_add]
  have c3 : (nI (2 * (12 * q + md) + j)).toNatClampNeg = 2 * (12 * q + md) + j := rd_cl (by omega)
  have h125 : wY_readAll_66 post J (nI q) (nI k) (nI (12 * q + md)) yN yk tm hIt py bl f (nI (j + 1)) dO dP dS dF dG dR dA yB yR yK yO yA yH yF yG yU yT yb yc yl yp so yC yt ho (upd ce (2 * (12 * q + md) + j) (hCe (2 * k + j))) yL va la gi ap ys hLi hOp hNa hSh hSr hTi hCe hRe → wY_readAll_125 post J (wY_readAll_66 post J (nI q) (nI k) (nI (12 * q + md)) yN yk tm hIt py bl f) (nI q) (nI k) (nI (12 * q + md)) (nI j) (nI (2 * (12 * q + md) + j)) yN yk tm hIt py bl dO dP dS dF dG dR dA yB yR yK yO yA yH yF yG yU yT yb yc yl yp so yC yt ho ce yL va la gi ap ys hLi hOp hNa hSh hSr hTi hCe hRe := by
    intro H
    unfold wY_readAll_125
    rw [e2, c2, c3]
    exact ⟨rd_in (by omega), rd_in (by omega), nm_e (nm_r (nI_1 j) H)⟩
  refine br_f (nI_ge (b := 2) hj (by omega)) ?_
  refine yq_ref (by omega) hj hoc eC eH hs ?_
  rw [e2, e3, c2, c3]
  unfold rd_rc at h
  by_cases bit : s / 2 ^ j % 2 = 1
  · rw [if_pos bit] at h
    rw [bit]
    refine br_f (by decide) ⟨rd_in (by omega), ?_⟩
    have e := hmo bit
    cases mo with
    | none =>
      rw [if_pos (show hCe (2 * k + j) < 0 by rw [e]; exact rd_m1n)] at h
      exact br_t (by rw [e]; exact rd_m1n) (h125 h)
    | some v =>
      have hv := hb v rfl
      rw [if_neg (show ¬ hCe (2 * k + j) < 0 by rw [e]; exact nI_pos (by omega))] at h
      exact br_f (by rw [e]; exact nI_pos (by omega)) ⟨rd_in (by omega), by rw [e]; exact rd_in hv, rd_in (by omega), nm_e (nm_r (nI_1 j) h)⟩
  · rw [if_neg bit] at h
    rw [show s / 2 ^ j % 2 = 0 by omega]
    exact br_t rfl (h125 h)
theorem rd_rd2 (hC : rd_CR (N, P, sh, fl, sg, st, pr, kn) (xB, xR, xK, xU, xH, xF, xG, xT) (yN, yB, yR, yK, yO, yA, yH, yF, yG, yU, yT)) (hq : q < 3) (hm12 : m ≤ 12) (hIR : ∀ i, i < m → rd_IR K m gSo gNa gSh gSr gTi gCe hNa hSh hSr hTi hCe i) (hmd : ∀ i, i < m → rd_md q (N, P, sh, fl, sg, st, pr, kn) (oc, tk, le, hm, gv, lm, t) (so, ho, so, va, la, gi) gSo gSh gMa hRe i) :
    ∀ (e k : Nat) (ce : rt_F), k + e = m → rd_OR K (N, P, sh, fl, sg, st, pr, kn) (oc, tk, le, hm, gv, lm, t) (so, ho, ce, va, la, gi) (li, nw, xC, xt, xL) (tm, yC, yt, yL, ap) →
    ∃ ce' : rt_F, rd_OR K (N, P, sh, fl, sg, st, pr, kn) (oc, tk, le, hm, gv, lm, t) (so, ho, ce', va, la, gi) (li, nw, xC, xt, xL) (tm, yC, yt, yL, ap) ∧
      (∀ post : Int32 → SX → Prop, post 0 (li, nw, nI m, pa, ab, dO, dP, dS, dF, dG, dR, dA, xB, xR, xK, xU, xH, xF, xG, xT, xc, xo, xl, so, ho, xC, ce', xt, xL, va, la, gi, gSk, gOd, gIo, gSo, gNa, gSh, gSr, gMa, gTi, gCe) → ∃ f, wX_read_31 post (nI q) li nw (nI m) pa ab f (nI k) dO dP dS dF dG dR dA xB xR xK xU xH xF xG xT xc xo xl so ho xC ce xt xL va la gi gSk gOd gIo gSo gNa gSh gSr gMa gTi gCe) ∧
      (∀ post : Int32 → SY → Prop, post 0 (yN, yk, tm, nI m, py, bl, dO, dP, dS, dF, dG, dR, dA, yB, yR, yK, yO, yA, yH, yF, yG, yU, yT, yb, yc, yl, yp, so, yC, yt, ho, ce', yL, va, la, gi, ap, ys, hLi, hOp, hNa, hSh, hSr, hTi, hCe, hRe) → ∃ f, wY_readAll_31 post (nI q) yN yk tm (nI m) py bl f (nI k) dO dP dS dF dG dR dA yB yR yK yO yA yH yF yG yU yT yb yc yl yp so yC yt ho ce yL va la gi ap ys hLi hOp hNa hSh hSr hTi hCe hRe) := by
  intro e
  induction e with
  | zero =>
    intro k ce hk hR
    obtain rfl : k = m := by omega
    exact ⟨ce, hR, fun post hp => ⟨1, br_t (Int32.le_refl _) hp⟩, fun post hp => ⟨1, br_t (Int32.le_refl _) hp⟩⟩
  | succ e ih =>
    intro k ce hk hR
    have hkm : k < m := by omega
    have ck : (nI k).toNatClampNeg = k := rd_cl (by omega)
    have gk : ¬ nI m ≤ nI k := nI_ge hkm (by omega)
    obtain ⟨md, d1, d2, d3, d4, d5⟩ := hmd k hkm
    rcases hIR k hkm with ⟨s2, hn, _⟩ | ⟨s1, nm, s, src, a1, a2, a3, a4, a5, a6, a7, a8, a9, a10⟩
    · obtain ⟨ce', r1, X1, Y1⟩ := ih (k + 1) ce (by omega) hR
      refine ⟨ce', r1, fun post hp => ?_, fun post hp => ?_⟩
      · obtain ⟨F, hF⟩ := X1 post hp
        refine ⟨F + 1, br_f gk ⟨1, br_f (by decide) ⟨rd_in (by omega), ?_⟩⟩⟩
        rw [ck, s2]
        exact br_f (by decide) (nm_r (nI_1 k) hF)
      · obtain ⟨F, hF⟩ := Y1 post hp
        refine ⟨F + 1, br_f gk ⟨rd_in (by omega), ?_⟩⟩
        rw [ck, hn]
        exact br_f rd_m1p (nm_r (nI_1 k) hF)
    · obtain ⟨h1, h2⟩ := d5 s1
      have h1' : so (12 * q + md) = 1 := h1
      have es : sh (oc (12 * q + md)) = s := by
        have hlt := (hR.1.2.2.1 (12 * q + md) (by omega) h1').1
        have h4 := (hC.1.1 _ hlt).2.2.1
        have : nI (sh (oc (12 * q + md))) = nI s := h2.symm.trans a6
        exact (nI_eq (by omega) (by omega)).mp this
      obtain ⟨o1, o2, o3, o4, o5, o6, o7, o8, o9, o10, o11, o12⟩ := rd_obj hC hR (i := 12 * q + md) (by omega) h1'
      rw [es] at o8
      -- the values
      have hval : ∀ j, j < 2 → ∃ mo : Option Nat, (s / 2 ^ j % 2 = 1 → gCe (2 * k + j) = rd_o mo) ∧ (∀ v, mo = some v → v < 12) ∧ rd_rc (s / 2 ^ j % 2) hRe (hCe (2 * k + j)) = rd_rc (s / 2 ^ j % 2) gMa (gCe (2 * k + j)) ∧ (s / 2 ^ j % 2 = 1 → rd_vr so q (rd_rc (s / 2 ^ j % 2) gMa (gCe (2 * k + j)))) := by
        intro j hj
        obtain ⟨b1, b2⟩ := a10 j hj
        by_cases bit : s / 2 ^ j % 2 = 1
        · obtain ⟨mo, em, hmo⟩ := b2 bit
          refine ⟨mo, fun _ => em, fun v ev => by have := hmo v ev; omega, ?_, fun _ => ?_⟩
          · unfold rd_rc
            rw [if_pos bit, if_pos bit, b1, em]
            cases mo with
            | none => rw [rd_o0, if_pos rd_m1n, if_pos rd_m1n]
            | some v =>
              have hv := hmo v rfl
              obtain ⟨md', e1, e2, e3, _⟩ := hmd v hv
              rw [rd_o1, if_neg (nI_pos (by omega)), if_neg (nI_pos (by omega)), rd_cl (by omega), e2, e3]
          · unfold rd_rc
            rw [if_pos bit, em]
            cases mo with
            | none => rw [rd_o0, if_pos rd_m1n]; exact ⟨none, rfl, fun _ z => nomatch z⟩
            | some v =>
              have hv := hmo v rfl
              obtain ⟨md', e1, e2, e3, e4, _⟩ := hmd v hv
              rw [rd_o1, if_neg (nI_pos (by omega)), rd_cl (by omega), e2]
              exact ⟨some md', rfl, fun u eu => by cases eu; exact ⟨e1, e4⟩⟩
        · refine ⟨none, fun z => absurd z bit, fun v z => (nomatch z), ?_, fun z => absurd z bit⟩
          unfold rd_rc
          rw [if_neg bit, if_neg bit, b1]
      obtain ⟨mo0, p1, p2, p3, p4⟩ := hval 0 (by omega)
      obtain ⟨mo1, q1, q2, q3, q4⟩ := hval 1 (by omega)
      have hR1 : rd_OR K (N, P, sh, fl, sg, st, pr, kn) (oc, tk, le, hm, gv, lm, t) (so, ho, upd (upd ce (2 * (12 * q + md) + 0) (rd_rc (s / 2 ^ 0 % 2) gMa (gCe (2 * k + 0)))) (2 * (12 * q + md) + 1) (rd_rc (s / 2 ^ 1 % 2) gMa (gCe (2 * k + 1))), va, la, gi) (li, nw, xC, xt, xL) (tm, yC, yt, yL, ap) := by
        refine rd_OR_ce (j := 1) (by omega) (fun _ z => ?_) (rd_OR_ce (j := 0) (by omega) (fun _ z => ?_) hR)
        · rw [show (12 * q + md) / 12 = q by omega]
          have z' : sh (oc (12 * q + md)) / 2 ^ 1 % 2 = 1 := z
          rw [es] at z'
          exact q4 z'
        · rw [show (12 * q + md) / 12 = q by omega]
          have z' : sh (oc (12 * q + md)) / 2 ^ 0 % 2 = 1 := z
          rw [es] at z'
          exact p4 z'
      obtain ⟨ce', r1, X1, Y1⟩ := ih (k + 1) _ (by omega) hR1
      refine ⟨ce', r1, fun post hp => ?_, fun post hp => ?_⟩
      · obtain ⟨F, hF⟩ := X1 post hp
        refine ⟨F + 1, br_f gk ⟨3, ?_⟩⟩
        exact xq_41 (j := 0) hq (by omega) (by omega) s1 d1 d2 a2 a6 p1 p2 (xq_41 (j := 1) hq (by omega) (by omega) s1 d1 d2 a2 a6 q1 q2 (br_t (by decide) (nm_r (nI_1 k) hF)))
      · obtain ⟨F, hF⟩ := Y1 post hp
        refine ⟨F + 1, br_f gk ⟨rd_in (by omega), ?_⟩⟩
        rw [ck, a5]
        refine br_t (nI_pos' (by omega)) ⟨rd_in (by omega), ?_⟩
        rw [d3, rd_m12, nI_add]
        refine nm_e ⟨3, ?_⟩
        rw [← p3, ← q3] at hF
        exact yq_66 (j := 0) (mo := mo0) hq (by omega) (by omega) d1 a2 o1 o7 o8 (fun z => (a10 0 (by omega)).1.trans (p1 z)) p2 (yq_66 (j := 1) (mo := mo1) hq (by omega) (by omega) d1 a2 o1 o7 o8 (fun z => (a10 1 (by omega)).1.trans (q1 z)) q2 (br_t (by decide) (nm_r (nI_1 k) hF)))
end
end
section
/-! read, whole -/
theorem rd_rd1 {K q m : Nat} {pa py : Int32} {d : rt_D} {ys gSk gOd gIo gSo gNa gSh gSr gTi gCe hLi hOp hNa hSh hSr hTi hCe : rt_F} (hD : rd_DI d) (hK : K ≤ 4000) (hq : q < 3) (hm12 : m ≤ 12) (hIR : ∀ i, i < m → rd_IR K m gSo gNa gSh gSr gTi gCe hNa hSh hSr hTi hCe i) :
    ∀ (e k : Nat) (T : rt_T) (A : rt_A) (c : rt_CX) (c' : rt_CY) (t : rt_TX) (t' : rt_TY) (w : rt_W) (o : rt_OX) (o' : rt_OY) (gMa hRe : rt_F) (ab bl : Int32), k + e = m → rd_CR T c c' → rd_OR K T A w o o' → (∀ i, i < k → rd_md q T A w gSo gSh gMa hRe i) →
    ∃ (T' : rt_T) (A' : rt_A) (c1 : rt_CX) (c1' : rt_CY) (t1 : rt_TX) (t1' : rt_TY) (w1 : rt_W) (o1 : rt_OX) (o1' : rt_OY) (gMa' hRe' : rt_F) (ab' bl' : Int32), rd_CR T' c1 c1' ∧ rd_TE T T' ∧ rd_OR K T' A' w1 o1 o1' ∧ rd_EO A w A' w1 ∧
      ((∃ er, 1 ≤ er ∧ er < 10 ∧ bl' = ab' ∧
        (∀ post : Int32 → SX → Prop, post (nI er) (rd_X pa ab' d c1 t1 w1 o1 (nI m, gSk, gOd, gIo, gSo, gNa, gSh, gSr, gMa', gTi, gCe)) → ∃ f, wX_read_2 post (nI q) f (nI k) o.1 o.2.1 (nI m) pa ab d.1 d.2.1 d.2.2.1 d.2.2.2.1 d.2.2.2.2.1 d.2.2.2.2.2.1 d.2.2.2.2.2.2 c.1 c.2.1 c.2.2.1 c.2.2.2.1 c.2.2.2.2.1 c.2.2.2.2.2.1 c.2.2.2.2.2.2.1 c.2.2.2.2.2.2.2 t.1 t.2.1 t.2.2 w.1 w.2.1 o.2.2.1 w.2.2.1 o.2.2.2.1 o.2.2.2.2 w.2.2.2.1 w.2.2.2.2.1 w.2.2.2.2.2 gSk gOd gIo gSo gNa gSh gSr gMa gTi gCe) ∧
        (∀ post : Int32 → SY → Prop, post (nI er) (rd_Y py bl' d c1' t1' w1 o1' ys (nI m, hLi, hOp, hNa, hSh, hSr, hTi, hCe, hRe')) → ∃ f, wY_readAll_2 post (nI q) f (nI k) c'.1 t'.1 o'.1 (nI m) py bl d.1 d.2.1 d.2.2.1 d.2.2.2.1 d.2.2.2.2.1 d.2.2.2.2.2.1 d.2.2.2.2.2.2 c'.2.1 c'.2.2.1 c'.2.2.2.1 c'.2.2.2.2.1 c'.2.2.2.2.2.1 c'.2.2.2.2.2.2.1 c'.2.2.2.2.2.2.2.1 c'.2.2.2.2.2.2.2.2.1 c'.2.2.2.2.2.2.2.2.2.1 c'.2.2.2.2.2.2.2.2.2.2 t'.2.1 t'.2.2.1 t'.2.2.2.1 t'.2.2.2.2 w.1 o'.2.1 o'.2.2.1 w.2.1 w.2.2.1 o'.2.2.2.1 w.2.2.2.1 w.2.2.2.2.1 w.2.2.2.2.2 o'.2.2.2.2 ys hLi hOp hNa hSh hSr hTi hCe hRe)) ∨
       ((∀ i, i < m → rd_md q T' A' w1 gSo gSh gMa' hRe' i) ∧
        (∀ post : Int32 → SX → Prop, (∃ f, wX_read_31 post (nI q) o1.1 o1.2.1 (nI m) pa ab' f 0 d.1 d.2.1 d.2.2.1 d.2.2.2.1 d.2.2.2.2.1 d.2.2.2.2.2.1 d.2.2.2.2.2.2 c1.1 c1.2.1 c1.2.2.1 c1.2.2.2.1 c1.2.2.2.2.1 c1.2.2.2.2.2.1 c1.2.2.2.2.2.2.1 c1.2.2.2.2.2.2.2 t1.1 t1.2.1 t1.2.2 w1.1 w1.2.1 o1.2.2.1 w1.2.2.1 o1.2.2.2.1 o1.2.2.2.2 w1.2.2.2.1 w1.2.2.2.2.1 w1.2.2.2.2.2 gSk gOd gIo gSo gNa gSh gSr gMa' gTi gCe) → ∃ f, wX_read_2 post (nI q) f (nI k) o.1 o.2.1 (nI m) pa ab d.1 d.2.1 d.2.2.1 d.2.2.2.1 d.2.2.2.2.1 d.2.2.2.2.2.1 d.2.2.2.2.2.2 c.1 c.2.1 c.2.2.1 c.2.2.2.1 c.2.2.2.2.1 c.2.2.2.2.2.1 c.2.2.2.2.2.2.1 c.2.2.2.2.2.2.2 t.1 t.2.1 t.2.2 w.1 w.2.1 o.2.2.1 w.2.2.1 o.2.2.2.1 o.2.2.2.2 w.2.2.2.1 w.2.2.2.2.1 w.2.2.2.2.2 gSk gOd gIo gSo gNa gSh gSr gMa gTi gCe) ∧
        (∀ post : Int32 → SY → Prop, (∃ f, wY_readAll_31 post (nI q) c1'.1 t1'.1 o1'.1 (nI m) py bl' f 0 d.1 d.2.1 d.2.2.1 d.2.2.2.1 d.2.2.2.2.1 d.2.2.2.2.2.1 d.2.2.2.2.2.2 c1'.2.1 c1'.2.2.1 c1'.2.2.2.1 c1'.2.2.2.2.1 c1'.2.2.2.2.2.1 c1'.2.2.2.2.2.2.1 c1'.2.2.2.2.2.2.2.1 c1'.2.2.2.2.2.2.2.2.1 c1'.2.2.2.2.2.2.2.2.2.1 c1'.2.2.2.2.2.2.2.2.2.2 t1'.2.1 t1'.2.2.1 t1'.2.2.2.1 t1'.2.2.2.2 w1.1 o1'.2.1 o1'.2.2.1 w1.2.1 w1.2.2.1 o1'.2.2.2.1 w1.2.2.2.1 w1.2.2.2.2.1 w1.2.2.2.2.2 o1'.2.2.2.2 ys hLi hOp hNa hSh hSr hTi hCe hRe') → ∃ f, wY_readAll_2 post (nI q) f (nI k) c'.1 t'.1 o'.1 (nI m) py bl d.1 d.2.1 d.2.2.1 d.2.2.2.1 d.2.2.2.2.1 d.2.2.2.2.2.1 d.2.2.2.2.2.2 c'.2.1 c'.2.2.1 c'.2.2.2.1 c'.2.2.2.2.1 c'.2.2.2.2.2.1 c'.2.2.2.2.2.2.1 c'.2.2.2.2.2.2.2.1 c'.2.2.2.2.2.2.2.2.1 c'.2.2.2.2.2.2.2.2.2.1 c'.2.2.2.2.2.2.2.2.2.2 t'.2.1 t'.2.2.1 t'.2.2.2.1 t'.2.2.2.2 w.1 o'.2.1 o'.2.2.1 w.2.1 w.2.2.1 o'.2.2.2.1 w.2.2.2.1 w.2.2.2.2.1 w.2.2.2.2.2 o'.2.2.2.2 ys hLi hOp hNa hSh hSr hTi hCe hRe))) := by
  intro e
  induction e with
  | zero =>
    intro k T A c c' t t' w o o' gMa hRe ab bl hk hC hR hmd
    obtain rfl : k = m := by omega
    exact ⟨T, A, c, c', t, t', w, o, o', gMa, hRe, ab, bl, hC, rd_TE_rfl _, hR, rd_EO_rfl _ _, Or.inr ⟨hmd, fun post h => ⟨1, br_t (Int32.le_refl _) h⟩, fun post h => ⟨1, br_t (Int32.le_refl _) h⟩⟩⟩
  | succ e ih =>
    intro k T A c c' t t' w o o' gMa hRe ab bl hk hC hR hmd
    have hkm : k < m := by omega
    have gk : ¬ nI m ≤ nI k := nI_ge hkm (by omega)
    obtain ⟨T1, A1, c1, c1', t1, t1', w1, o1, o1', gMa1, hRe1, ab1, er, hC1, hE1, hR1, hO1, he, hne, hm0, X1, Y1⟩ := rd_recv (pa := pa) (ab := ab) (py := py) (bl := bl) (gIt := nI m) (hIt := nI m) (t := t) (t' := t') (ys := ys) (gSk := gSk) (gOd := gOd) (gIo := gIo) (gMa := gMa) (hLi := hLi) (hOp := hOp) (hRe := hRe) hD hC hR hK hq (show k < 12 by omega) (hIR k hkm)
    by_cases h0 : er = 0
    · subst h0
      have hmd1 : ∀ i, i < k + 1 → rd_md q T1 A1 w1 gSo gSh gMa1 hRe1 i := by
        intro i hi
        by_cases ei : i = k
        · subst ei; exact hm0 rfl
        · exact rd_md_e hq hR hE1 hO1 (hne i ei).1 (hne i ei).2 (hmd i (by omega))
      obtain ⟨T', A', c2, c2', t2, t2', w2, o2, o2', gMa', hRe', ab', bl', r1, r2, r3, r4, r5⟩ := ih (k + 1) T1 A1 c1 c1' t1 t1' w1 o1 o1' gMa1 hRe1 ab1 ab1 (by omega) hC1 hR1 hmd1
      have xs : ∀ (post : Int32 → SX → Prop) F, wX_read_2 post (nI q) F (nI (k + 1)) o1.1 o1.2.1 (nI m) pa ab1 d.1 d.2.1 d.2.2.1 d.2.2.2.1 d.2.2.2.2.1 d.2.2.2.2.2.1 d.2.2.2.2.2.2 c1.1 c1.2.1 c1.2.2.1 c1.2.2.2.1 c1.2.2.2.2.1 c1.2.2.2.2.2.1 c1.2.2.2.2.2.2.1 c1.2.2.2.2.2.2.2 t1.1 t1.2.1 t1.2.2 w1.1 w1.2.1 o1.2.2.1 w1.2.2.1 o1.2.2.2.1 o1.2.2.2.2 w1.2.2.2.1 w1.2.2.2.2.1 w1.2.2.2.2.2 gSk gOd gIo gSo gNa gSh gSr gMa1 gTi gCe → wX_read_2 post (nI q) (F + 1) (nI k) o.1 o.2.1 (nI m) pa ab d.1 d.2.1 d.2.2.1 d.2.2.2.1 d.2.2.2.2.1 d.2.2.2.2.2.1 d.2.2.2.2.2.2 c.1 c.2.1 c.2.2.1 c.2.2.2.1 c.2.2.2.2.1 c.2.2.2.2.2.1 c.2.2.2.2.2.2.1 c.2.2.2.2.2.2.2 t.1 t.2.1 t.2.2 w.1 w.2.1 o.2.2.1 w.2.2.1 o.2.2.2.1 o.2.2.2.2 w.2.2.2.1 w.2.2.2.2.1 w.2.2.2.2.2 gSk gOd gIo gSo gNa gSh gSr gMa gTi gCe := by
        intro post F h
        refine br_f gk (X1 _ ?_)
        unfold rd_X
        dsimp only
        exact br_t rfl (nm_r (nI_1 k) h)
      have yss : ∀ (post : Int32 → SY → Prop) F, wY_readAll_2 post (nI q) F (nI (k + 1)) c1'.1 t1'.1 o1'.1 (nI m) py ab1 d.1 d.2.1 d.2.2.1 d.2.2.2.1 d.2.2.2.2.1 d.2.2.2.2.2.1 d.2.2.2.2.2.2 c1'.2.1 c1'.2.2.1 c1'.2.2.2.1 c1'.2.2.2.2.1 c1'.2.2.2.2.2.1 c1'.2.2.2.2.2.2.1 c1'.2.2.2.2.2.2.2.1 c1'.2.2.2.2.2.2.2.2.1 c1'.2.2.2.2.2.2.2.2.2.1 c1'.2.2.2.2.2.2.2.2.2.2 t1'.2.1 t1'.2.2.1 t1'.2.2.2.1 t1'.2.2.2.2 w1.1 o1'.2.1 o1'.2.2.1 w1.2.1 w1.2.2.1 o1'.2.2.2.1 w1.2.2.2.1 w1.2.2.2.2.1 w1.2.2.2.2.2 o1'.2.2.2.2 ys hLi hOp hNa hSh hSr hTi hCe hRe1 → wY_readAll_2 post (nI q) (F + 1) (nI k) c'.1 t'.1 o'.1 (nI m) py bl d.1 d.2.1 d.2.2.1 d.2.2.2.1 d.2.2.2.2.1 d.2.2.2.2.2.1 d.2.2.2.2.2.2 c'.2.1 c'.2.2.1 c'.2.2.2.1 c'.2.2.2.2.1 c'.2.2.2.2.2.1 c'.2.2.2.2.2.2.1 c'.2.2.2.2.2.2.2.1 c'.2.2.2.2.2.2.2.2.1 c'.2.2.2.2.2.2.2.2.2.1 c'.2.2.2.2.2.2.2.2.2.2 t'.2.1 t'.2.2.1 t'.2.2.2.1 t'.2.2.2.2 w.1 o'.2.1 o'.2.2.1 w.2.1 w.2.2.1 o'.2.2.2.1 w.2.2.2.1 w.2.2.2.2.1 w.2.2.2.2.2 o'.2.2.2.2 ys hLi hOp hNa hSh hSr hTi hCe hRe := by
        intro post F h
        refine br_f gk (Y1 _ ?_)
        unfold rd_Y
        dsimp only
        exact br_t (Int32.le_refl _) (nm_r (nI_1 k) h)
      refine ⟨T', A', c2, c2', t2, t2', w2, o2, o2', gMa', hRe', ab', bl', r1, rd_TE_tr hE1 r2, r3, rd_EO_tr hO1 r4, ?_⟩
      rcases r5 with ⟨er, e1, e2, e3, X2, Y2⟩ | ⟨hmd2, X2, Y2⟩
      · refine Or.inl ⟨er, e1, e2, e3, fun post hp => ?_, fun post hp => ?_⟩
        · obtain ⟨F, hF⟩ := X2 post hp
          exact ⟨F + 1, xs post F hF⟩
        · obtain ⟨F, hF⟩ := Y2 post hp
          exact ⟨F + 1, yss post F hF⟩
      · refine Or.inr ⟨hmd2, fun post hp => ?_, fun post hp => ?_⟩
        · obtain ⟨F, hF⟩ := X2 post hp
          exact ⟨F + 1, xs post F hF⟩
        · obtain ⟨F, hF⟩ := Y2 post hp
          exact ⟨F + 1, yss post F hF⟩
    · refine ⟨T1, A1, c1, c1', t1, t1', w1, o1, o1', gMa1, hRe1, ab1, ab1, hC1, hE1, hR1, hO1, Or.inl ⟨er, by omega, he, rfl, fun post hp => ⟨1, br_f gk (X1 _ ?_)⟩, fun post hp => ⟨1, br_f gk (Y1 _ ?_)⟩⟩⟩
      · unfold rd_X
        dsimp only
        exact br_f (nI_ne0 (by omega) (by omega)) hp
      · unfold rd_Y
        dsimp only
        exact br_f (nI_nle (by omega) (by omega)) hp
def rd_gMa (g : rt_GX) : rt_F := g.2.2.2.2.2.2.2.2.1
def rd_hRe (g : rt_GY) : rt_F := g.2.2.2.2.2.2.2.2
/-- read: an error, or all is made -/
theorem rd_read {K q m : Nat} {T : rt_T} {A : rt_A} {w : rt_W} {o : rt_OX} {o' : rt_OY} {pa ab py bl : Int32} {d : rt_D} {c : rt_CX} {c' : rt_CY} {t : rt_TX} {t' : rt_TY} {ys : rt_F} {g : rt_GX} {g' : rt_GY}
    (hD : rd_DI d) (hC : rd_CR T c c') (hR : rd_OR K T A w o o') (hK : K ≤ 4000) (hq : q < 3) (hG : rd_GR K m g g') :
    ∃ (T' : rt_T) (A' : rt_A) (c1 : rt_CX) (c1' : rt_CY) (t1 : rt_TX) (t1' : rt_TY) (w1 : rt_W) (o1 : rt_OX) (o1' : rt_OY) (g1 : rt_GX) (g1' : rt_GY) (ab' bl' : Int32) (er : Nat), rd_CR T' c1 c1' ∧ rd_TE T T' ∧ rd_OR K T' A' w1 o1 o1' ∧ rd_EO A w A' w1 ∧ er < 10 ∧ (er = 0 ∨ bl' = ab') ∧
      g1.1 = nI m ∧ g1'.1 = nI m ∧ (er = 0 → 1 ≤ m → ∃ md, md < 12 ∧ rd_gMa g1 0 = nI md ∧ rd_hRe g1' 0 = nI md ∧ ¬ w1.1 (12 * q + md) = 0) ∧
      (∀ post : Int32 → SX → Prop, post (nI er) (rd_X pa ab' d c1 t1 w1 o1 g1) → wpX_read post (rd_X pa ab d c t w o g) (nI q)) ∧
      (∀ post : Int32 → SY → Prop, post (nI er) (rd_Y py bl' d c1' t1' w1 o1' ys g1') → wpY_readAll post (rd_Y py bl d c' t' w o' ys g') (nI q)) := by
  obtain ⟨gIt, gSk, gOd, gIo, gSo, gNa, gSh, gSr, gMa, gTi, gCe⟩ := g
  obtain ⟨hIt, hLi, hOp, hNa, hSh, hSr, hTi, hCe, hRe⟩ := g'
  obtain ⟨rfl, rfl, hm12, hIR⟩ := hG
  obtain ⟨T1, A1, c1, c1', t1, t1', w1, o1, o1', gMa1, hRe1, ab1, bl1, hC1, hE1, hR1, hO1, res⟩ := rd_rd1 (pa := pa) (py := py) (ys := ys) (gSk := gSk) (gOd := gOd) (gIo := gIo) (hLi := hLi) (hOp := hOp) hD hK hq hm12 hIR m 0 T A c c' t t' w o o' gMa hRe ab bl (by omega) hC hR (fun i hi => by omega)
  rcases res with ⟨er, e1, e2, e3, X1, Y1⟩ | ⟨hmd, X1, Y1⟩
  · exact ⟨T1, A1, c1, c1', t1, t1', w1, o1, o1', (nI m, gSk, gOd, gIo, gSo, gNa, gSh, gSr, gMa1, gTi, gCe), (nI m, hLi, hOp, hNa, hSh, hSr, hTi, hCe, hRe1), ab1, bl1, er, hC1, hE1, hR1, hO1, e2, Or.inr e3, rfl, rfl, fun z => by omega, fun post hp => X1 post hp, fun post hp => Y1 post hp⟩
  · obtain ⟨N, P, sh, fl, sg, st, pr, kn⟩ := T1
    obtain ⟨oc, tk, le, hm, gv, lm, tn⟩ := A1
    obtain ⟨so, ho, ce, va, la, gi⟩ := w1
    obtain ⟨li, nw, xC, xt, xL⟩ := o1
    obtain ⟨tm, yC, yt, yL, ap⟩ := o1'
    obtain ⟨dO, dP, dS, dF, dG, dR, dA⟩ := d
    obtain ⟨xB, xR, xK, xU, xH, xF, xG, xT⟩ := c1
    obtain ⟨yN, yB, yR, yK, yO, yA, yH, yF, yG, yU, yT⟩ := c1'
    obtain ⟨xc, xo, xl⟩ := t1
    obtain ⟨yk, yb, yc, yl, yp⟩ := t1'
    obtain ⟨ce', hR2, X2, Y2⟩ := rd_rd2 (pa := pa) (ab := ab1) (py := py) (bl := bl1) (dO := dO) (dP := dP) (dS := dS) (dF := dF) (dG := dG) (dR := dR) (dA := dA) (xc := xc) (xo := xo) (xl := xl) (yk := yk) (yb := yb) (yc := yc) (yl := yl) (yp := yp) (ys := ys) (gSk := gSk) (gOd := gOd) (gIo := gIo) (hLi := hLi) (hOp := hOp) (gMa := gMa1) (hRe := hRe1) hC1 hq hm12 hIR hmd m 0 ce (by omega) hR1
    refine ⟨_, _, _, _, (xc, xo, xl), (yk, yb, yc, yl, yp), (so, ho, ce', va, la, gi), _, _, (nI m, gSk, gOd, gIo, gSo, gNa, gSh, gSr, gMa1, gTi, gCe), (nI m, hLi, hOp, hNa, hSh, hSr, hTi, hCe, hRe1), ab1, bl1, 0, hC1, hE1, hR2, ?_, by omega, Or.inl rfl, rfl, rfl, fun _ hm1 => ?_, fun post hp => X1 post (X2 post hp), fun post hp => Y1 post (Y2 post hp)⟩
    · obtain ⟨oc0, tk0, le0, hm0, gv0, lm0, tn0⟩ := A
      obtain ⟨so0, ho0, ce0, va0, la0, gi0⟩ := w
      exact hO1
    · obtain ⟨md, d1, d2, d3, d4, _⟩ := hmd 0 (by omega)
      exact ⟨md, d1, d2, d3, d4⟩
end
section
/-! exported; a method is done; small steps of the relation -/
def rd_Out (k : Nat) (WX : (Int32 → SX → Prop) → Prop) (WY : (Int32 → SY → Prop) → Prop) : Prop := ∃ (r : Int32) (u' : SX) (v' : SY), i_Rel k u' v' ∧ (∀ post : Int32 → SX → Prop, post r u' → WX post) ∧ (∀ post : Int32 → SY → Prop, post r v' → WY post)
theorem rd_fin {k : Nat} {WX : (Int32 → SX → Prop) → Prop} {WY : (Int32 → SY → Prop) → Prop} (h : rd_Out k WX WY) : WX (fun r u' => WY (fun r' v' => r' = r ∧ i_Rel k u' v')) := by
  obtain ⟨r, u', v', hR, hX, hY⟩ := h
  exact hX _ (hY _ ⟨rfl, hR⟩)
theorem rd_OR_mono {K K' : Nat} {T : rt_T} {A : rt_A} {w : rt_W} {o : rt_OX} {o' : rt_OY} (h : K ≤ K') (hR : rd_OR K T A w o o') : rd_OR K' T A w o o' := by
  obtain ⟨N, P, sh, fl, sg, st, pr, kn⟩ := T
  obtain ⟨oc, tk, le, hm, gv, lm, t⟩ := A
  obtain ⟨so, ho, ce, va, la, gi⟩ := w
  obtain ⟨⟨a1, a2, a3, a4, a5, a6, a7, a8, a9⟩, hX, hY⟩ := hR
  exact ⟨⟨⟨a1.1, by omega⟩, fun i hi => ⟨(a2 i hi).1, (a2 i hi).2.1, (a2 i hi).2.2.1, Nat.le_trans (a2 i hi).2.2.2 h⟩, a3, a4, a5, a6, fun p hp => ⟨(a7 p hp).1, Nat.le_trans (a7 p hp).2 h⟩, a8, a9⟩, hX, hY⟩
theorem rd_OR_va {K p v : Nat} {x : Int32} {T : rt_T} {A : rt_A} {so ho ce va la gi : rt_F} {o : rt_OX} {o' : rt_OY} (hp3 : p < 3) (hv4 : v < 4) (hv : rd_vr so p x) (hR : rd_OR K T A (so, ho, ce, va, la, gi) o o') : rd_OR K T A (so, ho, ce, upd va (4 * p + v) x, la, gi) o o' := by
  obtain ⟨N, P, sh, fl, sg, st, pr, kn⟩ := T
  obtain ⟨oc, tk, le, hm, gv, lm, t⟩ := A
  obtain ⟨li, nw, xC, xt, xL⟩ := o
  obtain ⟨tm, yC, yt, yL, ap⟩ := o'
  obtain ⟨⟨a1, a2, a3, a4, a5, a6, a7, a8, a9⟩, hX, hY⟩ := hR
  refine ⟨⟨a1, a2, a3, a4, a5, a6, a7, fun p' hp' v' hv' => ⟨?_, (a8 p' hp' v' hv').2⟩, a9⟩, hX, hY⟩
  by_cases e : 4 * p' + v' = 4 * p + v
  · obtain ⟨rfl, rfl⟩ : p' = p ∧ v' = v := by omega
    rw [pk_us]; exact hv
  · rw [pk_un e]; exact (a8 p' hp' v' hv').1
section
variable {K N q tt lm t : Nat} {P sh fl sg st oc tk le hm gv : Nat → Nat} {pr kn : Nat → Option Nat}
variable {li gIt pa ab yN yk tm hIt py bl : Int32} {dO dP dS dF dG dR dA xB xR xK xU xH xF xG xT xc xo xl so ho xC ce xt va la gi gSk gOd gIo gSo gNa gSh gSr gMa gTi gCe yB yR yK yO yA yH yF yG yU yT yb yc yl yp yC yt yL ap ys hLi hOp hNa hSh hSr hTi hCe hRe : Nat → Int32} {nw : Int64} {xL : Nat → Int64}
theorem rd_expo (hR : rd_OR K (N, P, sh, fl, sg, st, pr, kn) (oc, tk, le, hm, gv, lm, t) (so, ho, ce, va, la, gi) (li, nw, xC, xt, xL) (tm, yC, yt, yL, ap)) (hK : K ≤ 4000) (hq : q < 3) (ht1 : 1 ≤ tt) (htb : tt < 2 ^ 31) :
    ∃ e : Option Nat, (∀ k, e = some k → k < 12 ∧ so (12 * q + k) = 1 ∧ tk (12 * q + k) = tt) ∧ (e = none → ∀ k, k < 12 → ¬ (so (12 * q + k) = 1 ∧ tk (12 * q + k) = tt)) ∧
      (∀ post : Int32 → Prop, post (rd_o e) → wpX_exported post (li, nw, gIt, pa, ab, dO, dP, dS, dF, dG, dR, dA, xB, xR, xK, xU, xH, xF, xG, xT, xc, xo, xl, so, ho, xC, ce, xt, xL, va, la, gi, gSk, gOd, gIo, gSo, gNa, gSh, gSr, gMa, gTi, gCe) (nI q) (nI tt)) ∧ (∀ post : Int32 → Prop, post (rd_o (e.map (fun k => 12 * q + k))) → wpY_exported post (yN, yk, tm, hIt, py, bl, dO, dP, dS, dF, dG, dR, dA, yB, yR, yK, yO, yA, yH, yF, yG, yU, yT, yb, yc, yl, yp, so, yC, yt, ho, ce, yL, va, la, gi, ap, ys, hLi, hOp, hNa, hSh, hSr, hTi, hCe, hRe) (nI q) (nI tt)) := by
  obtain ⟨⟨a1, a2, a3, a4, a5, a6, a7, a8, a9⟩, ⟨b1, b2, b3, b4, b5⟩, ⟨d1, d2, d3, d4, d5⟩⟩ := hR
  obtain ⟨e, _, e2, e3, e4⟩ := rd_first (fun x => so (12 * q + x) = 1 ∧ tk (12 * q + x) = tt) 0 12 (by omega)
  have hX : ∀ x, x < 12 → ((so (12 * q + x) = 1 ∧ xt (12 * q + x) = nI tt) ↔ (so (12 * q + x) = 1 ∧ tk (12 * q + x) = tt)) := fun x hx => by
    constructor
    · rintro ⟨h1, h2⟩
      rw [b4 _ (by omega) (by rw [h1]; decide)] at h2
      exact ⟨h1, (nI_eq (by have := (a2 (12 * q + x) (by omega)).2.2.2; omega) (by omega)).mp h2⟩
    · rintro ⟨h1, h2⟩
      exact ⟨h1, by rw [b4 _ (by omega) (by rw [h1]; decide), h2]⟩
  have hY : ∀ x, x < 12 → ((so (12 * q + x) = 1 ∧ yt (12 * q + x) = nI tt) ↔ (so (12 * q + x) = 1 ∧ tk (12 * q + x) = tt)) := fun x hx => by
    constructor
    · rintro ⟨h1, h2⟩
      rw [d3 _ (by omega) (by rw [h1]; decide)] at h2
      exact ⟨h1, (nI_eq (by have := (a2 (12 * q + x) (by omega)).2.2.2; omega) (by omega)).mp h2⟩
    · rintro ⟨h1, h2⟩
      exact ⟨h1, by rw [d3 _ (by omega) (by rw [h1]; decide), h2]⟩
  have xE : ∀ post : Int32 → Prop, post (if e = 12 then -1 else nI e) → wpX_exported post (li, nw, gIt, pa, ab, dO, dP, dS, dF, dG, dR, dA, xB, xR, xK, xU, xH, xF, xG, xT, xc, xo, xl, so, ho, xC, ce, xt, xL, va, la, gi, gSk, gOd, gIo, gSo, gNa, gSh, gSr, gMa, gTi, gCe) (nI q) (nI tt) := fun post hp =>
    xq_exp hq e2 (fun x hx z => e3 x (Nat.zero_le _) hx ((hX x (by omega)).mp z)) (by
      by_cases c : e = 12
      · exact Or.inl c
      · exact Or.inr ((hX e (by omega)).mpr (e4.resolve_left c))) hp
  have yE : ∀ post : Int32 → Prop, post (if e = 12 then -1 else nI (12 * q + e)) → wpY_exported post (yN, yk, tm, hIt, py, bl, dO, dP, dS, dF, dG, dR, dA, yB, yR, yK, yO, yA, yH, yF, yG, yU, yT, yb, yc, yl, yp, so, yC, yt, ho, ce, yL, va, la, gi, ap, ys, hLi, hOp, hNa, hSh, hSr, hTi, hCe, hRe) (nI q) (nI tt) := fun post hp =>
    yq_exp hq ht1 htb e2 (fun x hx z => e3 x (Nat.zero_le _) hx ((hY x (by omega)).mp z)) (by
      by_cases c : e = 12
      · exact Or.inl c
      · exact Or.inr ((hY e (by omega)).mpr (e4.resolve_left c))) hp
  by_cases c : e = 12
  · rw [if_pos c] at xE yE
    exact ⟨none, fun k z => (nomatch z), fun _ k hk => e3 k (Nat.zero_le _) (by omega), xE, yE⟩
  · rw [if_neg c] at xE yE
    obtain ⟨f1, f2⟩ := e4.resolve_left c
    exact ⟨some e, fun k z => by cases z; exact ⟨by omega, f1, f2⟩, fun z => (nomatch z), xE, yE⟩
/-- what X's invoke does, what Y's fits and act do -/
theorem rd_inv01 {ob mt : Nat} {x : Option Nat} (hC : rd_CR (N, P, sh, fl, sg, st, pr, kn) (xB, xR, xK, xU, xH, xF, xG, xT) (yN, yB, yR, yK, yO, yA, yH, yF, yG, yU, yT)) (hR : rd_OR K (N, P, sh, fl, sg, st, pr, kn) (oc, tk, le, hm, gv, lm, t) (so, ho, ce, va, la, gi) (li, nw, xC, xt, xL) (tm, yC, yt, yL, ap)) (hq : q < 3) (hob : ob < 12) (hs : so (12 * q + ob) = 1) (hmt : mt < 2) (hx : ∀ v, x = some v → v < 12 ∧ ¬ so (12 * q + v) = 0) :
    ((∀ post : Int32 → SX → Prop, post 1000 (li, nw, gIt, pa, ab, dO, dP, dS, dF, dG, dR, dA, xB, xR, xK, xU, xH, xF, xG, xT, xc, xo, xl, so, ho, xC, ce, xt, xL, va, la, gi, gSk, gOd, gIo, gSo, gNa, gSh, gSr, gMa, gTi, gCe) → wpX_invoke post (li, nw, gIt, pa, ab, dO, dP, dS, dF, dG, dR, dA, xB, xR, xK, xU, xH, xF, xG, xT, xc, xo, xl, so, ho, xC, ce, xt, xL, va, la, gi, gSk, gOd, gIo, gSo, gNa, gSh, gSr, gMa, gTi, gCe) (nI q) (nI mt) (nI ob) (rd_o x)) ∧ (∀ post : Int32 → Prop, post 0 → wpY_fits post (yN, yk, tm, hIt, py, bl, dO, dP, dS, dF, dG, dR, dA, yB, yR, yK, yO, yA, yH, yF, yG, yU, yT, yb, yc, yl, yp, so, yC, yt, ho, ce, yL, va, la, gi, ap, ys, hLi, hOp, hNa, hSh, hSr, hTi, hCe, hRe) (nI q) (nI (12 * q + ob)) (nI mt) (rd_o x))) ∨
    (∃ (ce' : rt_F) (gvs : Option Nat), rd_OR K (N, P, sh, fl, sg, st, pr, kn) (oc, tk, le, hm, gv, lm, t) (so, ho, ce', va, la, gi) (li, nw, xC, xt, xL) (tm, yC, yt, yL, ap) ∧ (∀ v, gvs = some v → v < 12 ∧ ¬ so (12 * q + v) = 0) ∧
      (∀ post : Int32 → SX → Prop, post (rd_o gvs) (li, nw, gIt, pa, ab, dO, dP, dS, dF, dG, dR, dA, xB, xR, xK, xU, xH, xF, xG, xT, xc, xo, xl, so, ho, xC, ce', xt, xL, va, la, gi, gSk, gOd, gIo, gSo, gNa, gSh, gSr, gMa, gTi, gCe) → wpX_invoke post (li, nw, gIt, pa, ab, dO, dP, dS, dF, dG, dR, dA, xB, xR, xK, xU, xH, xF, xG, xT, xc, xo, xl, so, ho, xC, ce, xt, xL, va, la, gi, gSk, gOd, gIo, gSo, gNa, gSh, gSr, gMa, gTi, gCe) (nI q) (nI mt) (nI ob) (rd_o x)) ∧ (∀ post : Int32 → Prop, post 1 → wpY_fits post (yN, yk, tm, hIt, py, bl, dO, dP, dS, dF, dG, dR, dA, yB, yR, yK, yO, yA, yH, yF, yG, yU, yT, yb, yc, yl, yp, so, yC, yt, ho, ce, yL, va, la, gi, ap, ys, hLi, hOp, hNa, hSh, hSr, hTi, hCe, hRe) (nI q) (nI (12 * q + ob)) (nI mt) (rd_o x)) ∧
      (∀ post : Int32 → SY → Prop, post (rd_o gvs) (yN, yk, tm, hIt, py, bl, dO, dP, dS, dF, dG, dR, dA, yB, yR, yK, yO, yA, yH, yF, yG, yU, yT, yb, yc, yl, yp, so, yC, yt, ho, ce', yL, va, la, gi, ap, ys, hLi, hOp, hNa, hSh, hSr, hTi, hCe, hRe) → wpY_act post (yN, yk, tm, hIt, py, bl, dO, dP, dS, dF, dG, dR, dA, yB, yR, yK, yO, yA, yH, yF, yG, yU, yT, yb, yc, yl, yp, so, yC, yt, ho, ce, yL, va, la, gi, ap, ys, hLi, hOp, hNa, hSh, hSr, hTi, hCe, hRe) (nI q) (nI (12 * q + ob)) (nI mt) (rd_o x))) := by
  obtain ⟨o1, o2, o3, o4, o5, o6, o7, o8, o9, o10, o11, o12⟩ := rd_obj hC hR (i := 12 * q + ob) (by omega) hs
  have e12 : 12 * nI q + nI ob = nI (12 * q + ob) := by rw [rd_m12, nI_add]
  have e2 : 2 * nI (12 * q + ob) + nI mt = nI (2 * (12 * q + ob) + mt) := by rw [rd_m2, nI_add]
  have c2 : (nI (2 * (12 * q + ob) + mt)).toNatClampNeg = 2 * (12 * q + ob) + mt := rd_cl (by omega)
  have hvr := hR.1.2.2.2.2.2.2.2.2 (12 * q + ob) (by omega) hs mt hmt
  rw [show (12 * q + ob) / 12 = q by omega] at hvr
  have n0 : ¬ nI mt < 0 := nI_pos (by omega)
  have n4 : ¬ 4 < nI mt := nI_nlt (b := mt) (a := 4) (by omega) (by omega)
  have xj : ∀ post : Int32 → SX → Prop, wX_invoke_44 post (nI mt) (rd_o x) (nI (12 * q + ob)) li nw gIt pa ab dO dP dS dF dG dR dA xB xR xK xU xH xF xG xT xc xo xl so ho xC ce xt xL va la gi gSk gOd gIo gSo gNa gSh gSr gMa gTi gCe → wpX_invoke post (li, nw, gIt, pa, ab, dO, dP, dS, dF, dG, dR, dA, xB, xR, xK, xU, xH, xF, xG, xT, xc, xo, xl, so, ho, xC, ce, xt, xL, va, la, gi, gSk, gOd, gIo, gSo, gNa, gSh, gSr, gMa, gTi, gCe) (nI q) (nI mt) (nI ob) (rd_o x) := by
    intro post h
    unfold wpX_invoke
    dsimp only
    rw [e12]
    refine nm_e (br_f n0 (br_f n4 ?_))
    by_cases z : mt = 0
    · exact br_t (by rw [z]; rfl) h
    · exact br_f (nI_ne0 (by omega) (by omega)) (br_t (by rw [show mt = 1 by omega]; rfl) h)
  by_cases bit : sh (oc (12 * q + ob)) / 2 ^ mt % 2 = 1
  · obtain ⟨mo, em, hmo⟩ := hvr bit
    refine Or.inr ⟨upd ce (2 * (12 * q + ob) + mt) (rd_o x), mo, rd_OR_ce hmt (fun _ _ => ?_) hR, hmo, fun post hp => xj post ?_, fun post hp => ?_, fun post hp => ?_⟩
    · rw [show (12 * q + ob) / 12 = q by omega]
      exact ⟨x, rfl, hx⟩
    · unfold wX_invoke_44
      refine xq_ref (by omega) hmt hs o3 o4 o5 o2 ?_
      rw [bit, e2, c2]
      exact br_f (by decide) ⟨rd_in (by omega), nm_r em ⟨rd_in (by omega), nm_e hp⟩⟩
    · unfold wpY_fits
      dsimp only
      refine br_f (nI_ge (b := 2) hmt (by omega)) (yq_ref (by omega) hmt o1 o7 o8 o2 ?_)
      rw [bit]
      exact ⟨rfl, hp⟩
    · unfold wpY_act
      dsimp only
      refine br_f (fun z => absurd ((nI_eq (b := 2) (by omega) (by omega)).mp z) (by omega)) (br_f (fun z => absurd ((nI_eq (b := 4) (by omega) (by omega)).mp z) (by omega)) (br_t (nI_le (b := 1) (by omega) (by omega)) ?_))
      rw [e2, c2]
      exact ⟨rd_in (by omega), nm_r em ⟨rd_in (by omega), nm_e hp⟩⟩
  · refine Or.inl ⟨fun post hp => xj post ?_, fun post hp => ?_⟩
    · unfold wX_invoke_44
      refine xq_ref (by omega) hmt hs o3 o4 o5 o2 ?_
      rw [show sh (oc (12 * q + ob)) / 2 ^ mt % 2 = 0 by omega]
      exact br_t rfl hp
    · unfold wpY_fits
      dsimp only
      refine br_f (nI_ge (b := 2) hmt (by omega)) (yq_ref (by omega) hmt o1 o7 o8 o2 ?_)
      rw [show sh (oc (12 * q + ob)) / 2 ^ mt % 2 = 0 by omega]
      exact ⟨rfl, hp⟩
theorem xq_num {post : Int32 → Prop} {i : Nat} (hC : rd_CR (N, P, sh, fl, sg, st, pr, kn) (xB, xR, xK, xU, xH, xF, xG, xT) (yN, yB, yR, yK, yO, yA, yH, yF, yG, yU, yT)) (hR : rd_OR K (N, P, sh, fl, sg, st, pr, kn) (oc, tk, le, hm, gv, lm, t) (so, ho, ce, va, la, gi) (li, nw, xC, xt, xL) (tm, yC, yt, yL, ap)) (hi : i < 36) (hp : post (if so i = 1 ∧ sh (oc i) / 2 ^ 0 % 2 = 0 then 1 else 0)) : wpX_isNumber post (li, nw, gIt, pa, ab, dO, dP, dS, dF, dG, dR, dA, xB, xR, xK, xU, xH, xF, xG, xT, xc, xo, xl, so, ho, xC, ce, xt, xL, va, la, gi, gSk, gOd, gIo, gSo, gNa, gSh, gSr, gMa, gTi, gCe) (nI i) := by
  unfold wpX_isNumber
  dsimp only
  refine ⟨rd_in hi, ?_⟩
  rw [rd_cl (by omega)]
  by_cases c1 : so i = 1
  · obtain ⟨u1, u2, u3, u4, u5, u6, u7, u8, u9, u10, u11, u12⟩ := rd_obj hC hR hi c1
    refine br_t c1 (xq_ref (j := 0) hi (by omega) c1 u3 u4 u5 u2 ?_)
    by_cases b : sh (oc i) / 2 ^ 0 % 2 = 0
    · rw [if_pos ⟨c1, b⟩] at hp; rw [b]; exact br_t rfl hp
    · rw [if_neg (fun z => b z.2)] at hp; rw [show sh (oc i) / 2 ^ 0 % 2 = 1 by omega]; exact br_f (by decide) hp
  · rw [if_neg (fun z => c1 z.1)] at hp; exact br_f c1 hp
theorem rd_inv2 {ob : Nat} {x : Option Nat} (hC : rd_CR (N, P, sh, fl, sg, st, pr, kn) (xB, xR, xK, xU, xH, xF, xG, xT) (yN, yB, yR, yK, yO, yA, yH, yF, yG, yU, yT)) (hR : rd_OR K (N, P, sh, fl, sg, st, pr, kn) (oc, tk, le, hm, gv, lm, t) (so, ho, ce, va, la, gi) (li, nw, xC, xt, xL) (tm, yC, yt, yL, ap)) (hq : q < 3) (hob : ob < 12) (hs : so (12 * q + ob) = 1) (hx : ∀ v, x = some v → v < 12 ∧ ¬ so (12 * q + v) = 0) :
    ((∀ post : Int32 → SX → Prop, post 1000 (li, nw, gIt, pa, ab, dO, dP, dS, dF, dG, dR, dA, xB, xR, xK, xU, xH, xF, xG, xT, xc, xo, xl, so, ho, xC, ce, xt, xL, va, la, gi, gSk, gOd, gIo, gSo, gNa, gSh, gSr, gMa, gTi, gCe) → wpX_invoke post (li, nw, gIt, pa, ab, dO, dP, dS, dF, dG, dR, dA, xB, xR, xK, xU, xH, xF, xG, xT, xc, xo, xl, so, ho, xC, ce, xt, xL, va, la, gi, gSk, gOd, gIo, gSo, gNa, gSh, gSr, gMa, gTi, gCe) (nI q) (nI 2) (nI ob) (rd_o x)) ∧ (∀ post : Int32 → Prop, post 0 → wpY_fits post (yN, yk, tm, hIt, py, bl, dO, dP, dS, dF, dG, dR, dA, yB, yR, yK, yO, yA, yH, yF, yG, yU, yT, yb, yc, yl, yp, so, yC, yt, ho, ce, yL, va, la, gi, ap, ys, hLi, hOp, hNa, hSh, hSr, hTi, hCe, hRe) (nI q) (nI (12 * q + ob)) (nI 2) (rd_o x))) ∨
    (∃ (ce' : rt_F) (gvs : Option Nat), rd_OR K (N, P, sh, fl, sg, st, pr, kn) (oc, tk, le, hm, gv, lm, t) (so, ho, ce', va, la, gi) (li, nw, xC, xt, xL) (tm, yC, yt, yL, ap) ∧ (∀ v, gvs = some v → v < 12 ∧ ¬ so (12 * q + v) = 0) ∧
      (∀ post : Int32 → SX → Prop, post (rd_o gvs) (li, nw, gIt, pa, ab, dO, dP, dS, dF, dG, dR, dA, xB, xR, xK, xU, xH, xF, xG, xT, xc, xo, xl, so, ho, xC, ce', xt, xL, va, la, gi, gSk, gOd, gIo, gSo, gNa, gSh, gSr, gMa, gTi, gCe) → wpX_invoke post (li, nw, gIt, pa, ab, dO, dP, dS, dF, dG, dR, dA, xB, xR, xK, xU, xH, xF, xG, xT, xc, xo, xl, so, ho, xC, ce, xt, xL, va, la, gi, gSk, gOd, gIo, gSo, gNa, gSh, gSr, gMa, gTi, gCe) (nI q) (nI 2) (nI ob) (rd_o x)) ∧ (∀ post : Int32 → Prop, post 1 → wpY_fits post (yN, yk, tm, hIt, py, bl, dO, dP, dS, dF, dG, dR, dA, yB, yR, yK, yO, yA, yH, yF, yG, yU, yT, yb, yc, yl, yp, so, yC, yt, ho, ce, yL, va, la, gi, ap, ys, hLi, hOp, hNa, hSh, hSr, hTi, hCe, hRe) (nI q) (nI (12 * q + ob)) (nI 2) (rd_o x)) ∧
      (∀ post : Int32 → SY → Prop, post (rd_o gvs) (yN, yk, tm, hIt, py, bl, dO, dP, dS, dF, dG, dR, dA, yB, yR, yK, yO, yA, yH, yF, yG, yU, yT, yb, yc, yl, yp, so, yC, yt, ho, ce', yL, va, la, gi, ap, ys, hLi, hOp, hNa, hSh, hSr, hTi, hCe, hRe) → wpY_act post (yN, yk, tm, hIt, py, bl, dO, dP, dS, dF, dG, dR, dA, yB, yR, yK, yO, yA, yH, yF, yG, yU, yT, yb, yc, yl, yp, so, yC, yt, ho, ce, yL, va, la, gi, ap, ys, hLi, hOp, hNa, hSh, hSr, hTi, hCe, hRe) (nI q) (nI (12 * q + ob)) (nI 2) (rd_o x))) := by
  obtain ⟨o1, o2, o3, o4, o5, o6, o7, o8, o9, o10, o11, o12⟩ := rd_obj hC hR (i := 12 * q + ob) (by omega) hs
  have e12 : 12 * nI q + nI ob = nI (12 * q + ob) := by rw [rd_m12, nI_add]
  have xj : ∀ post : Int32 → SX → Prop, ((rd_o x < 0 → (post 1000 (li, nw, gIt, pa, ab, dO, dP, dS, dF, dG, dR, dA, xB, xR, xK, xU, xH, xF, xG, xT, xc, xo, xl, so, ho, xC, ce, xt, xL, va, la, gi, gSk, gOd, gIo, gSo, gNa, gSh, gSr, gMa, gTi, gCe))) ∧ (¬ rd_o x < 0 → (wpX_isNumber (fun r_56 => (((r_56 = 0 → (post 1000 (li, nw, gIt, pa, ab, dO, dP, dS, dF, dG, dR, dA, xB, xR, xK, xU, xH, xF, xG, xT, xc, xo, xl, so, ho, xC, ce, xt, xL, va, la, gi, gSk, gOd, gIo, gSo, gNa, gSh, gSr, gMa, gTi, gCe))) ∧ (¬ r_56 = 0 → (wpX_isNumber (fun r_100 => (((r_100 = 0 → (post 1000 (li, nw, gIt, pa, ab, dO, dP, dS, dF, dG, dR, dA, xB, xR, xK, xU, xH, xF, xG, xT, xc, xo, xl, so, ho, xC, ce, xt, xL, va, la, gi, gSk, gOd, gIo, gSo, gNa, gSh, gSr, gMa, gTi, gCe))) ∧ (¬ r_100 = 0 → (vp_in (2 * nI (12 * q + ob)) 72 ∧ (vp_in (2 * ((12 * nI q) + rd_o x)) 72 ∧ (vp_in (2 * nI (12 * q + ob)) 72 ∧ ∀ a_cells_147 : Nat → Int32, a_cells_147 = upd ce (2 * nI (12 * q + ob)).toNatClampNeg ((ce (2 * nI (12 * q + ob)).toNatClampNeg) + (ce (2 * ((12 * nI q) + rd_o x)).toNatClampNeg)) → (post (rd_o x) (li, nw, gIt, pa, ab, dO, dP, dS, dF, dG, dR, dA, xB, xR, xK, xU, xH, xF, xG, xT, xc, xo, xl, so, ho, xC, a_cells_147, xt, xL, va, la, gi, gSk, gOd, gIo, gSo, gNa, gSh, gSr, gMa, gTi, gCe))))))))) (li, nw, gIt, pa, ab, dO, dP, dS, dF, dG, dR, dA, xB, xR, xK, xU, xH, xF, xG, xT, xc, xo, xl, so, ho, xC, ce, xt, xL, va, la, gi, gSk, gOd, gIo, gSo, gNa, gSh, gSr, gMa, gTi, gCe) ((12 * nI q) + rd_o x)))))) (li, nw, gIt, pa, ab, dO, dP, dS, dF, dG, dR, dA, xB, xR, xK, xU, xH, xF, xG, xT, xc, xo, xl, so, ho, xC, ce, xt, xL, va, la, gi, gSk, gOd, gIo, gSo, gNa, gSh, gSr, gMa, gTi, gCe) (nI (12 * q + ob))))) → wpX_invoke post (li, nw, gIt, pa, ab, dO, dP, dS, dF, dG, dR, dA, xB, xR, xK, xU, xH, xF, xG, xT, xc, xo, xl, so, ho, xC, ce, xt, xL, va, la, gi, gSk, gOd, gIo, gSo, gNa, gSh, gSr, gMa, gTi, gCe) (nI q) (nI 2) (nI ob) (rd_o x) := by
    intro post h
    unfold wpX_invoke
    dsimp only
    rw [e12]
    exact nm_e (br_f (by decide) (br_f (by decide) (br_f (by decide) (br_f (by decide) (br_t rfl h)))))
  have yj : ∀ post : Int32 → Prop, (((rd_o x < 0 → (post 0)) ∧ (¬ rd_o x < 0 → (vp_in ((12 * nI q) + rd_o x) 36 ∧ ((((so ((12 * nI q) + rd_o x).toNatClampNeg) = 1 → (wpY_isRef (fun r_6 => (((r_6 = 0 → (wpY_isRef (fun r_54 => (((r_54 = 0 → (post 1)) ∧ (¬ r_54 = 0 → (post 0))))) (yN, yk, tm, hIt, py, bl, dO, dP, dS, dF, dG, dR, dA, yB, yR, yK, yO, yA, yH, yF, yG, yU, yT, yb, yc, yl, yp, so, yC, yt, ho, ce, yL, va, la, gi, ap, ys, hLi, hOp, hNa, hSh, hSr, hTi, hCe, hRe) ((12 * nI q) + rd_o x) 0)) ∧ (¬ r_6 = 0 → (post 0))))) (yN, yk, tm, hIt, py, bl, dO, dP, dS, dF, dG, dR, dA, yB, yR, yK, yO, yA, yH, yF, yG, yU, yT, yb, yc, yl, yp, so, yC, yt, ho, ce, yL, va, la, gi, ap, ys, hLi, hOp, hNa, hSh, hSr, hTi, hCe, hRe) (nI (12 * q + ob)) 0)) ∧ (¬ (so ((12 * nI q) + rd_o x).toNatClampNeg) = 1 → (post 0)))))))) → wpY_fits post (yN, yk, tm, hIt, py, bl, dO, dP, dS, dF, dG, dR, dA, yB, yR, yK, yO, yA, yH, yF, yG, yU, yT, yb, yc, yl, yp, so, yC, yt, ho, ce, yL, va, la, gi, ap, ys, hLi, hOp, hNa, hSh, hSr, hTi, hCe, hRe) (nI q) (nI (12 * q + ob)) (nI 2) (rd_o x) := by
    intro post h
    unfold wpY_fits
    dsimp only
    exact br_t (by decide) (br_f (by decide) h)
  cases x with
  | none => exact Or.inl ⟨fun post hp => xj post (br_t rd_m1n hp), fun post hp => yj post (br_t rd_m1n hp)⟩
  | some v =>
    obtain ⟨hv, hvn⟩ := hx v rfl
    have n0 : ¬ rd_o (some v) < 0 := nI_pos (by omega)
    have ev : 12 * nI q + rd_o (some v) = nI (12 * q + v) := by rw [rd_o1, rd_m12, nI_add]
    have cv : (nI (12 * q + v)).toNatClampNeg = 12 * q + v := rd_cl (by omega)
    rw [ev, cv] at yj
    rw [ev] at xj
    by_cases b1 : sh (oc (12 * q + ob)) / 2 ^ 0 % 2 = 0
    case neg =>
      refine Or.inl ⟨fun post hp => xj post (br_f n0 (xq_num hC hR (by omega) ?_)), fun post hp => yj post (br_f n0 ⟨rd_in (by omega), ?_⟩)⟩
      · rw [if_neg (fun z => b1 z.2)]; exact br_t rfl hp
      · by_cases c1 : so (12 * q + v) = 1
        · refine br_t c1 (yq_ref (j := 0) (by omega) (by omega) o1 o7 o8 o2 ?_)
          rw [show sh (oc (12 * q + ob)) / 2 ^ 0 % 2 = 1 by omega]
          exact br_f (by decide) hp
        · exact br_f c1 hp
    by_cases c1 : so (12 * q + v) = 1
    case neg =>
      refine Or.inl ⟨fun post hp => xj post (br_f n0 (xq_num hC hR (by omega) ?_)), fun post hp => yj post (br_f n0 ⟨rd_in (by omega), br_f c1 hp⟩)⟩
      rw [if_pos ⟨hs, b1⟩]
      refine br_f (by decide) (xq_num hC hR (by omega) ?_)
      rw [if_neg (fun z => c1 z.1)]
      exact br_t rfl hp
    obtain ⟨u1, u2, u3, u4, u5, u6, u7, u8, u9, u10, u11, u12⟩ := rd_obj hC hR (i := 12 * q + v) (by omega) c1
    by_cases b2 : sh (oc (12 * q + v)) / 2 ^ 0 % 2 = 0
    case neg =>
      refine Or.inl ⟨fun post hp => xj post (br_f n0 (xq_num hC hR (by omega) ?_)), fun post hp => yj post (br_f n0 ⟨rd_in (by omega), br_t c1 (yq_ref (j := 0) (by omega) (by omega) o1 o7 o8 o2 ?_)⟩)⟩
      · rw [if_pos ⟨hs, b1⟩]
        refine br_f (by decide) (xq_num hC hR (by omega) ?_)
        rw [if_neg (fun z => b2 z.2)]
        exact br_t rfl hp
      · rw [b1]
        refine br_t rfl (yq_ref (j := 0) (by omega) (by omega) u1 u7 u8 u2 ?_)
        rw [show sh (oc (12 * q + v)) / 2 ^ 0 % 2 = 1 by omega]
        exact br_f (by decide) hp
    have d1 : 2 * nI (12 * q + ob) = nI (2 * (12 * q + ob) + 0) := by rw [rd_m2]; rfl
    have d2 : 2 * nI (12 * q + v) = nI (2 * (12 * q + v)) := by rw [rd_m2]
    have f1 : (nI (2 * (12 * q + ob) + 0)).toNatClampNeg = 2 * (12 * q + ob) + 0 := rd_cl (by omega)
    have f2 : (nI (2 * (12 * q + v))).toNatClampNeg = 2 * (12 * q + v) := rd_cl (by omega)
    refine Or.inr ⟨upd ce (2 * (12 * q + ob) + 0) (ce (2 * (12 * q + ob) + 0) + ce (2 * (12 * q + v))), some v, rd_OR_ce (by omega) (fun _ z => ?_) hR, hx, fun post hp => xj post (br_f n0 (xq_num hC hR (by omega) ?_)), fun post hp => yj post (br_f n0 ⟨rd_in (by omega), br_t c1 (yq_ref (j := 0) (by omega) (by omega) o1 o7 o8 o2 ?_)⟩), fun post hp => ?_⟩
    · have z' : sh (oc (12 * q + ob)) / 2 ^ 0 % 2 = 1 := z
      omega
    · rw [if_pos ⟨hs, b1⟩]
      refine br_f (by decide) (xq_num hC hR (by omega) ?_)
      rw [if_pos ⟨c1, b2⟩, d1, d2, f1, f2]
      exact br_f (by decide) ⟨rd_in (by omega), rd_in (by omega), rd_in (by omega), nm_e hp⟩
    · rw [b1]
      refine br_t rfl (yq_ref (j := 0) (by omega) (by omega) u1 u7 u8 u2 ?_)
      rw [b2]
      exact br_t rfl hp
    · unfold wpY_act
      dsimp only
      rw [ev, d1, d2, f1, f2]
      exact br_t rfl ⟨rd_in (by omega), rd_in (by omega), rd_in (by omega), nm_e (br_f (by decide) (br_f (by decide) hp))⟩
theorem rd_inv {ob mt : Nat} {x : Option Nat} (hC : rd_CR (N, P, sh, fl, sg, st, pr, kn) (xB, xR, xK, xU, xH, xF, xG, xT) (yN, yB, yR, yK, yO, yA, yH, yF, yG, yU, yT)) (hR : rd_OR K (N, P, sh, fl, sg, st, pr, kn) (oc, tk, le, hm, gv, lm, t) (so, ho, ce, va, la, gi) (li, nw, xC, xt, xL) (tm, yC, yt, yL, ap)) (hq : q < 3) (hob : ob < 12) (hs : so (12 * q + ob) = 1) (hmt : mt < 6) (hx : ∀ v, x = some v → v < 12 ∧ ¬ so (12 * q + v) = 0) :
    ((∀ post : Int32 → SX → Prop, post 1000 (li, nw, gIt, pa, ab, dO, dP, dS, dF, dG, dR, dA, xB, xR, xK, xU, xH, xF, xG, xT, xc, xo, xl, so, ho, xC, ce, xt, xL, va, la, gi, gSk, gOd, gIo, gSo, gNa, gSh, gSr, gMa, gTi, gCe) → wpX_invoke post (li, nw, gIt, pa, ab, dO, dP, dS, dF, dG, dR, dA, xB, xR, xK, xU, xH, xF, xG, xT, xc, xo, xl, so, ho, xC, ce, xt, xL, va, la, gi, gSk, gOd, gIo, gSo, gNa, gSh, gSr, gMa, gTi, gCe) (nI q) (nI mt) (nI ob) (rd_o x)) ∧ (∀ post : Int32 → Prop, post 0 → wpY_fits post (yN, yk, tm, hIt, py, bl, dO, dP, dS, dF, dG, dR, dA, yB, yR, yK, yO, yA, yH, yF, yG, yU, yT, yb, yc, yl, yp, so, yC, yt, ho, ce, yL, va, la, gi, ap, ys, hLi, hOp, hNa, hSh, hSr, hTi, hCe, hRe) (nI q) (nI (12 * q + ob)) (nI mt) (rd_o x))) ∨
    (∃ (ce' : rt_F) (gvs : Option Nat), rd_OR K (N, P, sh, fl, sg, st, pr, kn) (oc, tk, le, hm, gv, lm, t) (so, ho, ce', va, la, gi) (li, nw, xC, xt, xL) (tm, yC, yt, yL, ap) ∧ (∀ v, gvs = some v → v < 12 ∧ ¬ so (12 * q + v) = 0) ∧
      (∀ post : Int32 → SX → Prop, post (rd_o gvs) (li, nw, gIt, pa, ab, dO, dP, dS, dF, dG, dR, dA, xB, xR, xK, xU, xH, xF, xG, xT, xc, xo, xl, so, ho, xC, ce', xt, xL, va, la, gi, gSk, gOd, gIo, gSo, gNa, gSh, gSr, gMa, gTi, gCe) → wpX_invoke post (li, nw, gIt, pa, ab, dO, dP, dS, dF, dG, dR, dA, xB, xR, xK, xU, xH, xF, xG, xT, xc, xo, xl, so, ho, xC, ce, xt, xL, va, la, gi, gSk, gOd, gIo, gSo, gNa, gSh, gSr, gMa, gTi, gCe) (nI q) (nI mt) (nI ob) (rd_o x)) ∧ (∀ post : Int32 → Prop, post 1 → wpY_fits post (yN, yk, tm, hIt, py, bl, dO, dP, dS, dF, dG, dR, dA, yB, yR, yK, yO, yA, yH, yF, yG, yU, yT, yb, yc, yl, yp, so, yC, yt, ho, ce, yL, va, la, gi, ap, ys, hLi, hOp, hNa, hSh, hSr, hTi, hCe, hRe) (nI q) (nI (12 * q + ob)) (nI mt) (rd_o x)) ∧
      (∀ post : Int32 → SY → Prop, post (rd_o gvs) (yN, yk, tm, hIt, py, bl, dO, dP, dS, dF, dG, dR, dA, yB, yR, yK, yO, yA, yH, yF, yG, yU, yT, yb, yc, yl, yp, so, yC, yt, ho, ce', yL, va, la, gi, ap, ys, hLi, hOp, hNa, hSh, hSr, hTi, hCe, hRe) → wpY_act post (yN, yk, tm, hIt, py, bl, dO, dP, dS, dF, dG, dR, dA, yB, yR, yK, yO, yA, yH, yF, yG, yU, yT, yb, yc, yl, yp, so, yC, yt, ho, ce, yL, va, la, gi, ap, ys, hLi, hOp, hNa, hSh, hSr, hTi, hCe, hRe) (nI q) (nI (12 * q + ob)) (nI mt) (rd_o x))) := by
  have cm : mt < 2 ∨ mt = 2 ∨ mt = 3 ∨ mt = 4 ∨ mt = 5 := by omega
  have e12 : 12 * nI q + nI ob = nI (12 * q + ob) := by rw [rd_m12, nI_add]
  rcases cm with h | rfl | rfl | rfl | rfl
  · exact rd_inv01 hC hR hq hob hs h hx
  · exact rd_inv2 hC hR hq hob hs hx
  · refine Or.inr ⟨ce, x, hR, hx, fun post hp => ?_, fun post hp => ?_, fun post hp => ?_⟩
    · unfold wpX_invoke
      dsimp only
      exact nm_e (br_f (by decide) (br_f (by decide) (br_f (by decide) (br_f (by decide) (br_f (by decide) (br_t rfl hp))))))
    · unfold wpY_fits
      dsimp only
      exact br_t (by decide) (br_t (by decide) hp)
    · unfold wpY_act
      dsimp only
      exact br_f (by decide) (br_f (by decide) (br_f (by decide) hp))
  · refine Or.inr ⟨ce, some ob, hR, fun v e => by cases e; exact ⟨hob, by rw [hs]; decide⟩, fun post hp => ?_, fun post hp => ?_, fun post hp => ?_⟩
    · unfold wpX_invoke
      dsimp only
      exact nm_e (br_f (by decide) (br_f (by decide) (br_f (by decide) (br_f (by decide) (br_f (by decide) (br_f (by decide) (br_t rfl hp)))))))
    · unfold wpY_fits
      dsimp only
      exact br_t (by decide) (br_t (by decide) hp)
    · unfold wpY_act
      dsimp only
      refine br_f (by decide) (br_t rfl ?_)
      rw [rd_m12, pk_sub (by omega), show 12 * q + ob - 12 * q = ob by omega]
      exact hp
  · refine Or.inr ⟨ce, x, hR, hx, fun post hp => ?_, fun post hp => ?_, fun post hp => ?_⟩
    · unfold wpX_invoke
      dsimp only
      exact nm_e (br_f (by decide) (br_t (by decide) hp))
    · unfold wpY_fits
      dsimp only
      exact br_t (by decide) (br_t (by decide) hp)
    · unfold wpY_act
      dsimp only
      exact br_f (by decide) (br_f (by decide) (br_f (by decide) hp))
end
end
section
/-! over groups: exported, a method done; the relation made -/
theorem rd_mkrel {k : Nat} {T : rt_T} {A : rt_A} {pa ab bl : Int32} {d : rt_D} {c : rt_CX} {c' : rt_CY} {t : rt_TX} {t' : rt_TY} {w : rt_W} {o : rt_OX} {o' : rt_OY} {ys : rt_F} {g : rt_GX} {g' : rt_GY} (h : pa < 0 ∨ bl = ab) (hD : rd_DI d) (hC : rd_CR T c c') (hR : rd_OR k T A w o o') : i_Rel k (rd_X pa ab d c t w o g) (rd_Y pa bl d c' t' w o' ys g') :=
  ⟨T, A, pa, ab, bl, d, c, c', t, t', w, o, o', ys, g, g', rfl, rfl, h, hD, hC, hR⟩
theorem rd_expoG {K q tt : Nat} {T : rt_T} {A : rt_A} {w : rt_W} {o : rt_OX} {o' : rt_OY} (hR : rd_OR K T A w o o') (hK : K ≤ 4000) (hq : q < 3) (ht1 : 1 ≤ tt) (htb : tt < 2 ^ 31) :
    ∃ e : Option Nat, (∀ k, e = some k → k < 12 ∧ w.1 (12 * q + k) = 1 ∧ A.2.1 (12 * q + k) = tt) ∧ (e = none → ∀ k, k < 12 → ¬ (w.1 (12 * q + k) = 1 ∧ A.2.1 (12 * q + k) = tt)) ∧
      (∀ (pa ab : Int32) (d : rt_D) (c : rt_CX) (t : rt_TX) (g : rt_GX) (post : Int32 → Prop), post (rd_o e) → wpX_exported post (rd_X pa ab d c t w o g) (nI q) (nI tt)) ∧
      (∀ (py bl : Int32) (d : rt_D) (c' : rt_CY) (t' : rt_TY) (ys : rt_F) (g' : rt_GY) (post : Int32 → Prop), post (rd_o (e.map (fun k => 12 * q + k))) → wpY_exported post (rd_Y py bl d c' t' w o' ys g') (nI q) (nI tt)) := by
  obtain ⟨N, P, sh, fl, sg, st, pr, kn⟩ := T
  obtain ⟨oc, tk, le, hm, gv, lm, tn⟩ := A
  obtain ⟨so, ho, ce, va, la, gi⟩ := w
  obtain ⟨li, nw, xC, xt, xL⟩ := o
  obtain ⟨tm, yC, yt, yL, ap⟩ := o'
  obtain ⟨⟨a1, a2, a3, a4, a5, a6, a7, a8, a9⟩, ⟨b1, b2, b3, b4, b5⟩, ⟨d1, d2, d3, d4, d5⟩⟩ := hR
  obtain ⟨e, _, e2, e3, e4⟩ := rd_first (fun x => so (12 * q + x) = 1 ∧ tk (12 * q + x) = tt) 0 12 (by omega)
  have hX : ∀ x, x < 12 → ((so (12 * q + x) = 1 ∧ xt (12 * q + x) = nI tt) ↔ (so (12 * q + x) = 1 ∧ tk (12 * q + x) = tt)) := fun x hx => by
    constructor
    · rintro ⟨h1, h2⟩
      rw [b4 _ (by omega) (by rw [h1]; decide)] at h2
      exact ⟨h1, (nI_eq (by have := (a2 (12 * q + x) (by omega)).2.2.2; omega) (by omega)).mp h2⟩
    · rintro ⟨h1, h2⟩
      exact ⟨h1, by rw [b4 _ (by omega) (by rw [h1]; decide), h2]⟩
  have hY : ∀ x, x < 12 → ((so (12 * q + x) = 1 ∧ yt (12 * q + x) = nI tt) ↔ (so (12 * q + x) = 1 ∧ tk (12 * q + x) = tt)) := fun x hx => by
    constructor
    · rintro ⟨h1, h2⟩
      rw [d3 _ (by omega) (by rw [h1]; decide)] at h2
      exact ⟨h1, (nI_eq (by have := (a2 (12 * q + x) (by omega)).2.2.2; omega) (by omega)).mp h2⟩
    · rintro ⟨h1, h2⟩
      exact ⟨h1, by rw [d3 _ (by omega) (by rw [h1]; decide), h2]⟩
  have xE : ∀ (pa ab : Int32) (d : rt_D) (c : rt_CX) (t : rt_TX) (g : rt_GX) (post : Int32 → Prop), post (if e = 12 then -1 else nI e) → wpX_exported post (rd_X pa ab d c t (so, ho, ce, va, la, gi) (li, nw, xC, xt, xL) g) (nI q) (nI tt) := fun pa ab d c t g post hp =>
    xq_exp hq e2 (fun x hx z => e3 x (Nat.zero_le _) hx ((hX x (by omega)).mp z)) (by
      by_cases c : e = 12
      · exact Or.inl c
      · exact Or.inr ((hX e (by omega)).mpr (e4.resolve_left c))) hp
  have yE : ∀ (py bl : Int32) (d : rt_D) (c' : rt_CY) (t' : rt_TY) (ys : rt_F) (g' : rt_GY) (post : Int32 → Prop), post (if e = 12 then -1 else nI (12 * q + e)) → wpY_exported post (rd_Y py bl d c' t' (so, ho, ce, va, la, gi) (tm, yC, yt, yL, ap) ys g') (nI q) (nI tt) := fun py bl d c' t' ys g' post hp =>
    yq_exp hq ht1 htb e2 (fun x hx z => e3 x (Nat.zero_le _) hx ((hY x (by omega)).mp z)) (by
      by_cases c : e = 12
      · exact Or.inl c
      · exact Or.inr ((hY e (by omega)).mpr (e4.resolve_left c))) hp
  by_cases c : e = 12
  · rw [if_pos c] at xE yE
    exact ⟨none, fun k z => (nomatch z), fun _ k hk => e3 k (Nat.zero_le _) (by omega), xE, yE⟩
  · rw [if_neg c] at xE yE
    obtain ⟨f1, f2⟩ := e4.resolve_left c
    exact ⟨some e, fun k z => by cases z; exact ⟨by omega, f1, f2⟩, fun z => (nomatch z), xE, yE⟩
theorem rd_invG {K q ob mt : Nat} {x : Option Nat} {T : rt_T} {A : rt_A} {w : rt_W} {o : rt_OX} {o' : rt_OY} {pa ab py bl : Int32} {d : rt_D} {c : rt_CX} {c' : rt_CY} {t : rt_TX} {t' : rt_TY} {ys : rt_F} {g : rt_GX} {g' : rt_GY}
    (hC : rd_CR T c c') (hR : rd_OR K T A w o o') (hq : q < 3) (hob : ob < 12) (hs : w.1 (12 * q + ob) = 1) (hmt : mt < 6) (hx : ∀ v, x = some v → v < 12 ∧ ¬ w.1 (12 * q + v) = 0) :
    ((∀ post : Int32 → SX → Prop, post 1000 (rd_X pa ab d c t w o g) → wpX_invoke post (rd_X pa ab d c t w o g) (nI q) (nI mt) (nI ob) (rd_o x)) ∧ (∀ post : Int32 → Prop, post 0 → wpY_fits post (rd_Y py bl d c' t' w o' ys g') (nI q) (nI (12 * q + ob)) (nI mt) (rd_o x))) ∨
    (∃ (ce' : rt_F) (gvs : Option Nat), rd_OR K T A (w.1, w.2.1, ce', w.2.2.2) o o' ∧ (∀ v, gvs = some v → v < 12 ∧ ¬ w.1 (12 * q + v) = 0) ∧
      (∀ post : Int32 → SX → Prop, post (rd_o gvs) (rd_X pa ab d c t (w.1, w.2.1, ce', w.2.2.2) o g) → wpX_invoke post (rd_X pa ab d c t w o g) (nI q) (nI mt) (nI ob) (rd_o x)) ∧ (∀ post : Int32 → Prop, post 1 → wpY_fits post (rd_Y py bl d c' t' w o' ys g') (nI q) (nI (12 * q + ob)) (nI mt) (rd_o x)) ∧
      (∀ post : Int32 → SY → Prop, post (rd_o gvs) (rd_Y py bl d c' t' (w.1, w.2.1, ce', w.2.2.2) o' ys g') → wpY_act post (rd_Y py bl d c' t' w o' ys g') (nI q) (nI (12 * q + ob)) (nI mt) (rd_o x))) := by
  obtain ⟨N, P, sh, fl, sg, st, pr, kn⟩ := T
  obtain ⟨oc, tk, le, hm, gv, lm, tn⟩ := A
  obtain ⟨so, ho, ce, va, la, gi⟩ := w
  obtain ⟨li, nw, xC, xt, xL⟩ := o
  obtain ⟨tm, yC, yt, yL, ap⟩ := o'
  obtain ⟨dO, dP, dS, dF, dG, dR, dA⟩ := d
  obtain ⟨xB, xR, xK, xU, xH, xF, xG, xT⟩ := c
  obtain ⟨yN, yB, yR, yK, yO, yA, yH, yF, yG, yU, yT⟩ := c'
  obtain ⟨xc, xo, xl⟩ := t
  obtain ⟨yk, yb, yc, yl, yp⟩ := t'
  obtain ⟨gIt, gSk, gOd, gIo, gSo, gNa, gSh, gSr, gMa, gTi, gCe⟩ := g
  obtain ⟨hIt, hLi, hOp, hNa, hSh, hSr, hTi, hCe, hRe⟩ := g'
  exact rd_inv hC hR hq hob hs hmt hx
end
section
/-! call, with all that it asks within range -/
theorem rd_EO_so {A A' : rt_A} {w w' : rt_W} {x : Nat} (h : rd_EO A w A' w') (hx : x < 36) (hs : ¬ w.1 x = 0) : w'.1 x = w.1 x := by
  obtain ⟨oc, tk, le, hm, gv, lm, t⟩ := A
  obtain ⟨oc', tk', le', hm', gv', lm', t'⟩ := A'
  obtain ⟨so, ho, ce, va, la, gi⟩ := w
  obtain ⟨so', ho', ce', va', la', gi'⟩ := w'
  exact (h.2.2.2.2.2.2 x hx hs).1
theorem yq_ended {post : Int32 → SY → Prop} {py bl a b r : Int32} {d : rt_D} {c' : rt_CY} {t' : rt_TY} {w : rt_W} {o' : rt_OY} {ys : rt_F} {g' : rt_GY} (h : post r (rd_Y a b d c' t' w o' ys g')) : wpY_ended post (rd_Y py bl d c' t' w o' ys g') a b r := h
theorem rd_n1000 {gvs : Option Nat} (h : ∀ v, gvs = some v → v < 12) : ¬ rd_o gvs = 1000 := by
  cases gvs with
  | none => decide
  | some v => exact fun z => absurd ((nI_eq (b := 1000) (by have := h v rfl; omega) (by omega)).mp z) (by have := h v rfl; omega)
theorem rd_callM {k p v mt a r ks : Nat} {T : rt_T} {A : rt_A} {w : rt_W} {o : rt_OX} {o' : rt_OY} {pa ab bl : Int32} {d : rt_D} {c : rt_CX} {c' : rt_CY} {t : rt_TX} {t' : rt_TY} {ys : rt_F} {g : rt_GX} {g' : rt_GY}
    (hD : rd_DI d) (hC : rd_CR T c c') (hR : rd_OR k T A w o o') (hk : k ≤ 3577) (hp3 : p < 3) (hv : v < 4) (hmt : mt < 6) (ha : a < 4) (hr : r < 4) (hks : ks < 12) (em : w.2.2.2.1 (4 * p + v) = nI ks) (hs : w.1 (12 * p + ks) = 2) :
    rd_Out (k + 7) (fun post => wpX_call post (rd_X pa ab d c t w o g) (nI p) (nI v) (nI mt) (nI a) (nI r)) (fun post => wpY_call post (rd_Y pa bl d c' t' w o' ys g') (nI p) (nI v) (nI mt) (nI a) (nI r)) := by
  obtain ⟨N, P, sh, fl, sg, st, pr, kn⟩ := T
  obtain ⟨oc, tk, le, hm, gv, lm, tn⟩ := A
  obtain ⟨so, ho, ce, va, la, gi⟩ := w
  obtain ⟨li, nw, xC, xt, xL⟩ := o
  obtain ⟨tm, yC, yt, yL, ap⟩ := o'
  have hK : k ≤ 4000 := by omega
  have hR0 := hR
  obtain ⟨⟨a1, a2, a3, a4, a5, a6, a7, a8, a9⟩, ⟨b1, b2, b3, b4, b5⟩, ⟨d1, d2, d3, d4, d5⟩⟩ := hR0
  have em : va (4 * p + v) = nI ks := em
  have hs : so (12 * p + ks) = 2 := hs
  obtain ⟨_, eho, hq, htK⟩ := a2 (12 * p + ks) (by omega)
  have ht1 := a4 (12 * p + ks) (by omega) hs
  have ext := b4 (12 * p + ks) (by omega) (by rw [hs]; decide)
  have eyt := d3 (12 * p + ks) (by omega) (by rw [hs]; decide)
  generalize hm (12 * p + ks) = q at eho hq
  generalize tk (12 * p + ks) = tt at htK ht1 ext eyt
  obtain ⟨fr, eva, hfr⟩ := (a8 p hp3 a ha).1
  have ci : (nI (12 * p + ks)).toNatClampNeg = 12 * p + ks := rd_cl (by omega)
  have e4a : 4 * nI p + nI a = nI (4 * p + a) := by rw [rd_m4, nI_add]
  have e4v : 4 * nI p + nI v = nI (4 * p + v) := by rw [rd_m4, nI_add]
  have e4r : 4 * nI p + nI r = nI (4 * p + r) := by rw [rd_m4, nI_add]
  have c4a : (nI (4 * p + a)).toNatClampNeg = 4 * p + a := rd_cl (by omega)
  have c4v : (nI (4 * p + v)).toNatClampNeg = 4 * p + v := rd_cl (by omega)
  have c4r : (nI (4 * p + r)).toNatClampNeg = 4 * p + r := rd_cl (by omega)
  have e12 : 12 * nI p + nI ks = nI (12 * p + ks) := by rw [rd_m12, nI_add]
  have e3q : 3 * nI p + nI q = nI (3 * p + q) := by rw [rd_m3, nI_add]
  have c3q : (nI (3 * p + q)).toNatClampNeg = 3 * p + q := rd_cl (by omega)
  have hap := d5 p hp3 q hq
  have hap1 : rd_ap lm p q = 0 ∨ rd_ap lm p q = 1 := by
    unfold rd_ap
    split <;> omega
  have mono : k ≤ k + 7 := by omega
  -- part 1: write
  rcases rd_write (fr := fr) (pa := 1) (ab := ab) (py := pa) (bl := bl) (t := t) (t' := t') (ys := ys) (g := g) (g' := g') hD hC hR hK hp3 hfr with ⟨m1, g1, g1', bl1, hG1, X1, Y1⟩ | ⟨nm, g1, g1', hnm, X1, Y1⟩
  case inr =>
    refine ⟨10, rd_X 1 (nI nm) d c t _ _ g1, rd_Y 1 (nI nm) d c' t' _ _ ys g1', rd_mkrel (Or.inr rfl) hD hC (rd_OR_mono mono hR), fun post hp => ?_, fun post hp => ?_⟩
    · unfold wpX_call rd_X
      dsimp only
      refine xq_heldS hp3 hv hks em (br_f (nI_pos (by omega)) ⟨rd_in (by omega), ?_⟩)
      rw [ci]
      refine br_t hs (xq_n1 (n := 5) (by omega) (by omega) (br_f (by decide) (xq_n1 (n := 3) (by omega) (by omega) (br_f (by decide) (xq_n1 (n := 3) (by omega) (by omega) (br_f (by decide) ⟨rd_in (by omega), rd_in (by omega), ?_⟩))))))
      rw [e4a, c4a, eva, eho, ext]
      refine ⟨rd_in (by omega), ?_⟩
      unfold wpX_dispatch
      dsimp only
      refine X1 _ ?_
      unfold rd_X
      dsimp only
      exact br_f (by decide) (br_f (by decide) hp)
    · unfold wpY_call rd_Y
      dsimp only
      refine yq_var1 hp3 hv (br_f (by decide) (yq_n1 (n := 6) hmt (by omega) (br_f (by decide) (yq_n1 (n := 4) ha (by omega) (br_f (by decide) (yq_n1 (n := 4) hr (by omega) (br_f (by decide) ?_)))))))
      rw [e4v, c4v, em, e12, ci]
      refine ⟨rd_in (by omega), br_f (nI_pos (by omega)) ⟨rd_in (by omega), rd_in (by omega), br_t hs (yq_heldS hp3 hv hks em ⟨rd_in (by omega), ?_⟩)⟩⟩
      rw [ci, eho, e4a, c4a, eva]
      refine nm_e ⟨rd_in (by omega), ?_⟩
      refine Y1 _ ?_
      unfold rd_Y
      dsimp only
      exact br_f (by decide) (yq_ended hp)
  -- part 2: linked
  by_cases lk : rd_ap lm p q = 0
  case neg =>
    have lk1 := hap1.resolve_left lk
    refine ⟨11, rd_X 2 (-1) d c t _ _ g1, rd_Y 2 (-1) d c' t' _ _ ys g1', rd_mkrel (Or.inr rfl) hD hC (rd_OR_mono mono hR), fun post hp => ?_, fun post hp => ?_⟩
    · unfold wpX_call rd_X
      dsimp only
      refine xq_heldS hp3 hv hks em (br_f (nI_pos (by omega)) ⟨rd_in (by omega), ?_⟩)
      rw [ci]
      refine br_t hs (xq_n1 (n := 5) (by omega) (by omega) (br_f (by decide) (xq_n1 (n := 3) (by omega) (by omega) (br_f (by decide) (xq_n1 (n := 3) (by omega) (by omega) (br_f (by decide) ⟨rd_in (by omega), rd_in (by omega), ?_⟩))))))
      rw [e4a, c4a, eva, eho, ext]
      refine ⟨rd_in (by omega), ?_⟩
      unfold wpX_dispatch
      dsimp only
      refine X1 _ ?_
      unfold rd_X
      dsimp only
      refine br_t rfl (xq_linked hp3 hq a1.1 b1 ?_)
      rw [lk1]
      exact br_t rfl (br_f (by decide) hp)
    · unfold wpY_call rd_Y
      dsimp only
      refine yq_var1 hp3 hv (br_f (by decide) (yq_n1 (n := 6) hmt (by omega) (br_f (by decide) (yq_n1 (n := 4) ha (by omega) (br_f (by decide) (yq_n1 (n := 4) hr (by omega) (br_f (by decide) ?_)))))))
      rw [e4v, c4v, em, e12, ci]
      refine ⟨rd_in (by omega), br_f (nI_pos (by omega)) ⟨rd_in (by omega), rd_in (by omega), br_t hs (yq_heldS hp3 hv hks em ⟨rd_in (by omega), ?_⟩)⟩⟩
      rw [ci, eho, e4a, c4a, eva]
      refine nm_e ⟨rd_in (by omega), ?_⟩
      refine Y1 _ ?_
      unfold rd_Y
      dsimp only
      refine br_t (Int32.le_refl _) ?_
      rw [e3q, c3q, hap]
      exact ⟨rd_in (by omega), br_f (by rw [lk1]; decide) (yq_ended hp)⟩
  -- part 3: the object
  obtain ⟨eo, he1, he2, xE, yE⟩ := rd_expoG hR hK hq ht1 (by omega)
  cases eo with
  | none =>
    refine ⟨12, rd_X 3 (-1) d c t _ _ g1, rd_Y 3 (-1) d c' t' _ _ ys g1', rd_mkrel (Or.inr rfl) hD hC (rd_OR_mono mono hR), fun post hp => ?_, fun post hp => ?_⟩
    · unfold wpX_call rd_X
      dsimp only
      refine xq_heldS hp3 hv hks em (br_f (nI_pos (by omega)) ⟨rd_in (by omega), ?_⟩)
      rw [ci]
      refine br_t hs (xq_n1 (n := 5) (by omega) (by omega) (br_f (by decide) (xq_n1 (n := 3) (by omega) (by omega) (br_f (by decide) (xq_n1 (n := 3) (by omega) (by omega) (br_f (by decide) ⟨rd_in (by omega), rd_in (by omega), ?_⟩))))))
      rw [e4a, c4a, eva, eho, ext]
      refine ⟨rd_in (by omega), ?_⟩
      unfold wpX_dispatch
      dsimp only
      refine X1 _ ?_
      unfold rd_X
      dsimp only
      refine br_t rfl (xq_linked hp3 hq a1.1 b1 ?_)
      rw [lk]
      refine br_f (by decide) (xE _ _ _ _ _ _ _ ?_)
      exact br_f rd_m1p (br_f (by decide) hp)
    · unfold wpY_call rd_Y
      dsimp only
      refine yq_var1 hp3 hv (br_f (by decide) (yq_n1 (n := 6) hmt (by omega) (br_f (by decide) (yq_n1 (n := 4) ha (by omega) (br_f (by decide) (yq_n1 (n := 4) hr (by omega) (br_f (by decide) ?_)))))))
      rw [e4v, c4v, em, e12, ci]
      refine ⟨rd_in (by omega), br_f (nI_pos (by omega)) ⟨rd_in (by omega), rd_in (by omega), br_t hs (yq_heldS hp3 hv hks em ⟨rd_in (by omega), ?_⟩)⟩⟩
      rw [ci, eho, e4a, c4a, eva]
      refine nm_e ⟨rd_in (by omega), ?_⟩
      refine Y1 _ ?_
      unfold rd_Y
      dsimp only
      refine br_t (Int32.le_refl _) ?_
      rw [e3q, c3q, hap]
      refine ⟨rd_in (by omega), br_t (by rw [lk]; rfl) ⟨rd_in (by omega), ?_⟩⟩
      rw [eyt]
      refine yE _ _ _ _ _ _ _ _ ?_
      exact br_f rd_m1p (yq_ended hp)
  | some ob =>
    obtain ⟨hob, hobs, _⟩ := he1 ob rfl
    -- part 4: read
    obtain ⟨T1, A1, c1, c1', t1, t1', w1, o1, o1', g2, g2', ab2, bl2, er, hC1, hE1, hR1, hO1, her, hab, hg2, hg2', hmd, X2, Y2⟩ := rd_read (pa := 4) (ab := -1) (py := pa) (bl := bl1) (t := t) (t' := t') (ys := ys) hD hC hR hK hq hG1
    by_cases h0 : er = 0
    case neg =>
      refine ⟨nI er, rd_X 4 ab2 d c1 t1 w1 o1 g2, rd_Y 4 bl2 d c1' t1' w1 o1' ys g2', rd_mkrel (Or.inr (hab.resolve_left h0)) hD hC1 (rd_OR_mono mono hR1), fun post hp => ?_, fun post hp => ?_⟩
      · unfold wpX_call rd_X
        dsimp only
        refine xq_heldS hp3 hv hks em (br_f (nI_pos (by omega)) ⟨rd_in (by omega), ?_⟩)
        rw [ci]
        refine br_t hs (xq_n1 (n := 5) (by omega) (by omega) (br_f (by decide) (xq_n1 (n := 3) (by omega) (by omega) (br_f (by decide) (xq_n1 (n := 3) (by omega) (by omega) (br_f (by decide) ⟨rd_in (by omega), rd_in (by omega), ?_⟩))))))
        rw [e4a, c4a, eva, eho, ext]
        refine ⟨rd_in (by omega), ?_⟩
        unfold wpX_dispatch
        dsimp only
        refine X1 _ ?_
        unfold rd_X
        dsimp only
        refine br_t rfl (xq_linked hp3 hq a1.1 b1 ?_)
        rw [lk]
        refine br_f (by decide) (xE _ _ _ _ _ _ _ ?_)
        refine br_t (nI_pos' (by omega)) (X2 _ ?_)
        unfold rd_X
        dsimp only
        exact br_f (nI_ne0 (by omega) (by omega)) (br_f (nI_ne0 (by omega) (by omega)) hp)
      · unfold wpY_call rd_Y
        dsimp only
        refine yq_var1 hp3 hv (br_f (by decide) (yq_n1 (n := 6) hmt (by omega) (br_f (by decide) (yq_n1 (n := 4) ha (by omega) (br_f (by decide) (yq_n1 (n := 4) hr (by omega) (br_f (by decide) ?_)))))))
        rw [e4v, c4v, em, e12, ci]
        refine ⟨rd_in (by omega), br_f (nI_pos (by omega)) ⟨rd_in (by omega), rd_in (by omega), br_t hs (yq_heldS hp3 hv hks em ⟨rd_in (by omega), ?_⟩)⟩⟩
        rw [ci, eho, e4a, c4a, eva]
        refine nm_e ⟨rd_in (by omega), ?_⟩
        refine Y1 _ ?_
        unfold rd_Y
        dsimp only
        refine br_t (Int32.le_refl _) ?_
        rw [e3q, c3q, hap]
        refine ⟨rd_in (by omega), br_t (by rw [lk]; rfl) ⟨rd_in (by omega), ?_⟩⟩
        rw [eyt]
        refine yE _ _ _ _ _ _ _ _ ?_
        refine br_t (nI_pos' (show 12 * q + ob < 2 ^ 31 by omega)) (Y2 _ ?_)
        unfold rd_Y
        dsimp only
        exact br_f (nI_nle (by omega) (by omega)) (yq_ended hp)
    subst h0
    have hob1 : w1.1 (12 * q + ob) = 1 := (rd_EO_so hO1 (by omega) (by rw [hobs]; decide)).trans hobs
    -- the argument
    have hm1 : m1 ≤ 12 := by
      obtain ⟨gIt, gSk, gOd, gIo, gSo, gNa, gSh, gSr, gMa, gTi, gCe⟩ := g1
      obtain ⟨hIt, hLi, hOp, hNa, hSh, hSr, hTi, hCe, hRe⟩ := g1'
      exact hG1.2.2.1
    obtain ⟨x, hx, sX, sY⟩ : ∃ x : Option Nat, (∀ v, x = some v → v < 12 ∧ ¬ w1.1 (12 * q + v) = 0) ∧ (∀ W : Int32 → Prop, W (rd_o x) → ((g2.1 ≤ 0 → W (-1)) ∧ (¬ g2.1 ≤ 0 → W (rd_gMa g2 0)))) ∧ (∀ W : Int32 → Prop, W (rd_o x) → ((g2'.1 ≤ 0 → W (-1)) ∧ (¬ g2'.1 ≤ 0 → W (rd_hRe g2' 0)))) := by
      by_cases z : m1 = 0
      · exact ⟨none, fun v e => (nomatch e), fun W h => br_t (by rw [hg2, z]; exact Int32.le_refl _) h, fun W h => br_t (by rw [hg2', z]; exact Int32.le_refl _) h⟩
      · obtain ⟨md, q1, q2, q3, q4⟩ := hmd rfl (by omega)
        refine ⟨some md, fun v e => by cases e; exact ⟨q1, q4⟩, fun W h => br_f (by rw [hg2]; exact nI_nle (by omega) (by omega)) ?_, fun W h => br_f (by rw [hg2']; exact nI_nle (by omega) (by omega)) ?_⟩
        · rw [q2]; exact h
        · rw [q3]; exact h
    -- part 5: the method
    rcases rd_invG (x := x) (pa := 5) (ab := -1) (py := pa) (bl := bl2) (d := d) (t := t1) (t' := t1') (ys := ys) (g := g2) (g' := g2') hC1 hR1 hq hob hob1 hmt hx with ⟨X3, F3⟩ | ⟨ce3, gvs, hR3, hgv, X3, F3, Y3⟩
    case inl =>
      refine ⟨13, rd_X 5 (-1) d c1 t1 w1 o1 g2, rd_Y 5 (-1) d c1' t1' w1 o1' ys g2', rd_mkrel (Or.inr rfl) hD hC1 (rd_OR_mono mono hR1), fun post hp => ?_, fun post hp => ?_⟩
      · unfold wpX_call rd_X
        dsimp only
        refine xq_heldS hp3 hv hks em (br_f (nI_pos (by omega)) ⟨rd_in (by omega), ?_⟩)
        rw [ci]
        refine br_t hs (xq_n1 (n := 5) (by omega) (by omega) (br_f (by decide) (xq_n1 (n := 3) (by omega) (by omega) (br_f (by decide) (xq_n1 (n := 3) (by omega) (by omega) (br_f (by decide) ⟨rd_in (by omega), rd_in (by omega), ?_⟩))))))
        rw [e4a, c4a, eva, eho, ext]
        refine ⟨rd_in (by omega), ?_⟩
        unfold wpX_dispatch
        dsimp only
        refine X1 _ ?_
        unfold rd_X
        dsimp only
        refine br_t rfl (xq_linked hp3 hq a1.1 b1 ?_)
        rw [lk]
        refine br_f (by decide) (xE _ _ _ _ _ _ _ ?_)
        refine br_t (nI_pos' (by omega)) (X2 _ ?_)
        unfold rd_X
        dsimp only
        refine br_t rfl (sX (fun z => wX_dispatch_113 _ (nI p) (nI q) z (nI ob) (nI mt) (nI q) _ _ _ _ _ _ _ _ _ _ _ _ _ _ _ _ _ _ _ _ _ _ _ _ _ _ _ _ _ _ _ _ _ _ _ _ _ _ _ _ _ _) ?_)
        unfold wX_dispatch_113
        refine X3 _ ?_
        unfold rd_X
        dsimp only
        exact br_t rfl (br_f (by decide) hp)
      · unfold wpY_call rd_Y
        dsimp only
        refine yq_var1 hp3 hv (br_f (by decide) (yq_n1 (n := 6) hmt (by omega) (br_f (by decide) (yq_n1 (n := 4) ha (by omega) (br_f (by decide) (yq_n1 (n := 4) hr (by omega) (br_f (by decide) ?_)))))))
        rw [e4v, c4v, em, e12, ci]
        refine ⟨rd_in (by omega), br_f (nI_pos (by omega)) ⟨rd_in (by omega), rd_in (by omega), br_t hs (yq_heldS hp3 hv hks em ⟨rd_in (by omega), ?_⟩)⟩⟩
        rw [ci, eho, e4a, c4a, eva]
        refine nm_e ⟨rd_in (by omega), ?_⟩
        refine Y1 _ ?_
        unfold rd_Y
        dsimp only
        refine br_t (Int32.le_refl _) ?_
        rw [e3q, c3q, hap]
        refine ⟨rd_in (by omega), br_t (by rw [lk]; rfl) ⟨rd_in (by omega), ?_⟩⟩
        rw [eyt]
        refine yE _ _ _ _ _ _ _ _ ?_
        refine br_t (nI_pos' (show 12 * q + ob < 2 ^ 31 by omega)) (Y2 _ ?_)
        unfold rd_Y
        dsimp only
        refine br_t (Int32.le_refl _) (sY (fun z => wY_call_221 _ (nI p) (nI mt) (nI r) (nI q) _ z _ _ _ _ _ _ _ _ _ _ _ _ _ _ _ _ _ _ _ _ _ _ _ _ _ _ _ _ _ _ _ _ _ _ _ _ _ _ _ _ _ _ _ _ _ _) ?_)
        unfold wY_call_221
        exact F3 _ (br_t rfl (yq_ended hp))
    have n1000 := rd_n1000 (fun v e => (hgv v e).1)
    -- part 6: what it gives is written
    rcases rd_write (fr := gvs) (pa := 6) (ab := -1) (py := pa) (bl := bl2) (t := t1) (t' := t1') (ys := ys) (g := g2) (g' := g2') hD hC1 hR3 hK hq hgv with ⟨m4, g4, g4', bl4, hG4, X4, Y4⟩ | ⟨nm, g4, g4', hnm, X4, Y4⟩
    case inr =>
      refine ⟨10, rd_X 6 (nI nm) d c1 t1 _ o1 g4, rd_Y 6 (nI nm) d c1' t1' _ o1' ys g4', rd_mkrel (Or.inr rfl) hD hC1 (rd_OR_mono mono hR3), fun post hp => ?_, fun post hp => ?_⟩
      · unfold wpX_call rd_X
        dsimp only
        refine xq_heldS hp3 hv hks em (br_f (nI_pos (by omega)) ⟨rd_in (by omega), ?_⟩)
        rw [ci]
        refine br_t hs (xq_n1 (n := 5) (by omega) (by omega) (br_f (by decide) (xq_n1 (n := 3) (by omega) (by omega) (br_f (by decide) (xq_n1 (n := 3) (by omega) (by omega) (br_f (by decide) ⟨rd_in (by omega), rd_in (by omega), ?_⟩))))))
        rw [e4a, c4a, eva, eho, ext]
        refine ⟨rd_in (by omega), ?_⟩
        unfold wpX_dispatch
        dsimp only
        refine X1 _ ?_
        unfold rd_X
        dsimp only
        refine br_t rfl (xq_linked hp3 hq a1.1 b1 ?_)
        rw [lk]
        refine br_f (by decide) (xE _ _ _ _ _ _ _ ?_)
        refine br_t (nI_pos' (by omega)) (X2 _ ?_)
        unfold rd_X
        dsimp only
        refine br_t rfl (sX (fun z => wX_dispatch_113 _ (nI p) (nI q) z (nI ob) (nI mt) (nI q) _ _ _ _ _ _ _ _ _ _ _ _ _ _ _ _ _ _ _ _ _ _ _ _ _ _ _ _ _ _ _ _ _ _ _ _ _ _ _ _ _ _) ?_)
        unfold wX_dispatch_113
        refine X3 _ ?_
        unfold rd_X
        dsimp only
        refine br_f n1000 (X4 _ ?_)
        unfold rd_X
        dsimp only
        exact br_f (by decide) (br_f (by decide) hp)
      · unfold wpY_call rd_Y
        dsimp only
        refine yq_var1 hp3 hv (br_f (by decide) (yq_n1 (n := 6) hmt (by omega) (br_f (by decide) (yq_n1 (n := 4) ha (by omega) (br_f (by decide) (yq_n1 (n := 4) hr (by omega) (br_f (by decide) ?_)))))))
        rw [e4v, c4v, em, e12, ci]
        refine ⟨rd_in (by omega), br_f (nI_pos (by omega)) ⟨rd_in (by omega), rd_in (by omega), br_t hs (yq_heldS hp3 hv hks em ⟨rd_in (by omega), ?_⟩)⟩⟩
        rw [ci, eho, e4a, c4a, eva]
        refine nm_e ⟨rd_in (by omega), ?_⟩
        refine Y1 _ ?_
        unfold rd_Y
        dsimp only
        refine br_t (Int32.le_refl _) ?_
        rw [e3q, c3q, hap]
        refine ⟨rd_in (by omega), br_t (by rw [lk]; rfl) ⟨rd_in (by omega), ?_⟩⟩
        rw [eyt]
        refine yE _ _ _ _ _ _ _ _ ?_
        refine br_t (nI_pos' (show 12 * q + ob < 2 ^ 31 by omega)) (Y2 _ ?_)
        unfold rd_Y
        dsimp only
        refine br_t (Int32.le_refl _) (sY (fun z => wY_call_221 _ (nI p) (nI mt) (nI r) (nI q) _ z _ _ _ _ _ _ _ _ _ _ _ _ _ _ _ _ _ _ _ _ _ _ _ _ _ _ _ _ _ _ _ _ _ _ _ _ _ _ _ _ _ _ _ _ _ _) ?_)
        unfold wY_call_221
        refine F3 _ (br_f (by decide) (Y3 _ ?_))
        unfold rd_Y
        dsimp only
        refine Y4 _ ?_
        unfold rd_Y
        dsimp only
        exact br_f (by decide) (yq_ended hp)
    -- part 7: and read
    obtain ⟨T5, A5, c5, c5', t5, t5', w5, o5, o5', g5, g5', ab5, bl5, er5, hC5, hE5, hR5, hO5, her5, hab5, hg5, hg5', hmd5, X5, Y5⟩ := rd_read (pa := 7) (ab := -1) (py := pa) (bl := bl4) (t := t1) (t' := t1') (ys := ys) hD hC1 hR3 hK hp3 hG4
    by_cases h5 : er5 = 0
    case neg =>
      refine ⟨nI er5, rd_X 7 ab5 d c5 t5 w5 o5 g5, rd_Y 7 bl5 d c5' t5' w5 o5' ys g5', rd_mkrel (Or.inr (hab5.resolve_left h5)) hD hC5 (rd_OR_mono mono hR5), fun post hp => ?_, fun post hp => ?_⟩
      · unfold wpX_call rd_X
        dsimp only
        refine xq_heldS hp3 hv hks em (br_f (nI_pos (by omega)) ⟨rd_in (by omega), ?_⟩)
        rw [ci]
        refine br_t hs (xq_n1 (n := 5) (by omega) (by omega) (br_f (by decide) (xq_n1 (n := 3) (by omega) (by omega) (br_f (by decide) (xq_n1 (n := 3) (by omega) (by omega) (br_f (by decide) ⟨rd_in (by omega), rd_in (by omega), ?_⟩))))))
        rw [e4a, c4a, eva, eho, ext]
        refine ⟨rd_in (by omega), ?_⟩
        unfold wpX_dispatch
        dsimp only
        refine X1 _ ?_
        unfold rd_X
        dsimp only
        refine br_t rfl (xq_linked hp3 hq a1.1 b1 ?_)
        rw [lk]
        refine br_f (by decide) (xE _ _ _ _ _ _ _ ?_)
        refine br_t (nI_pos' (by omega)) (X2 _ ?_)
        unfold rd_X
        dsimp only
        refine br_t rfl (sX (fun z => wX_dispatch_113 _ (nI p) (nI q) z (nI ob) (nI mt) (nI q) _ _ _ _ _ _ _ _ _ _ _ _ _ _ _ _ _ _ _ _ _ _ _ _ _ _ _ _ _ _ _ _ _ _ _ _ _ _ _ _ _ _) ?_)
        unfold wX_dispatch_113
        refine X3 _ ?_
        unfold rd_X
        dsimp only
        refine br_f n1000 (X4 _ ?_)
        unfold rd_X
        dsimp only
        refine br_t rfl (X5 _ ?_)
        unfold rd_X
        dsimp only
        exact br_f (nI_ne0 (by omega) (by omega)) hp
      · unfold wpY_call rd_Y
        dsimp only
        refine yq_var1 hp3 hv (br_f (by decide) (yq_n1 (n := 6) hmt (by omega) (br_f (by decide) (yq_n1 (n := 4) ha (by omega) (br_f (by decide) (yq_n1 (n := 4) hr (by omega) (br_f (by decide) ?_)))))))
        rw [e4v, c4v, em, e12, ci]
        refine ⟨rd_in (by omega), br_f (nI_pos (by omega)) ⟨rd_in (by omega), rd_in (by omega), br_t hs (yq_heldS hp3 hv hks em ⟨rd_in (by omega), ?_⟩)⟩⟩
        rw [ci, eho, e4a, c4a, eva]
        refine nm_e ⟨rd_in (by omega), ?_⟩
        refine Y1 _ ?_
        unfold rd_Y
        dsimp only
        refine br_t (Int32.le_refl _) ?_
        rw [e3q, c3q, hap]
        refine ⟨rd_in (by omega), br_t (by rw [lk]; rfl) ⟨rd_in (by omega), ?_⟩⟩
        rw [eyt]
        refine yE _ _ _ _ _ _ _ _ ?_
        refine br_t (nI_pos' (show 12 * q + ob < 2 ^ 31 by omega)) (Y2 _ ?_)
        unfold rd_Y
        dsimp only
        refine br_t (Int32.le_refl _) (sY (fun z => wY_call_221 _ (nI p) (nI mt) (nI r) (nI q) _ z _ _ _ _ _ _ _ _ _ _ _ _ _ _ _ _ _ _ _ _ _ _ _ _ _ _ _ _ _ _ _ _ _ _ _ _ _ _ _ _ _ _ _ _ _ _) ?_)
        unfold wY_call_221
        refine F3 _ (br_f (by decide) (Y3 _ ?_))
        unfold rd_Y
        dsimp only
        refine Y4 _ ?_
        unfold rd_Y
        dsimp only
        refine br_t (Int32.le_refl _) (Y5 _ ?_)
        unfold rd_Y
        dsimp only
        exact br_f (nI_nle (by omega) (by omega)) (yq_ended hp)
    subst h5
    have hm4 : m4 ≤ 12 := by
      obtain ⟨gIt, gSk, gOd, gIo, gSo, gNa, gSh, gSr, gMa, gTi, gCe⟩ := g4
      obtain ⟨hIt, hLi, hOp, hNa, hSh, hSr, hTi, hCe, hRe⟩ := g4'
      exact hG4.2.2.1
    obtain ⟨x5, hx5, sX5, sY5⟩ : ∃ x : Option Nat, (∀ v, x = some v → v < 12 ∧ ¬ w5.1 (12 * p + v) = 0) ∧ (∀ W : Int32 → Prop, W (rd_o x) → ((g5.1 ≤ 0 → W (-1)) ∧ (¬ g5.1 ≤ 0 → W (rd_gMa g5 0)))) ∧ (∀ W : Int32 → Prop, W (rd_o x) → ((g5'.1 ≤ 0 → W (-1)) ∧ (¬ g5'.1 ≤ 0 → W (rd_hRe g5' 0)))) := by
      by_cases z : m4 = 0
      · exact ⟨none, fun v e => (nomatch e), fun W h => br_t (by rw [hg5, z]; exact Int32.le_refl _) h, fun W h => br_t (by rw [hg5', z]; exact Int32.le_refl _) h⟩
      · obtain ⟨md, q1, q2, q3, q4⟩ := hmd5 rfl (by omega)
        refine ⟨some md, fun v e => by cases e; exact ⟨q1, q4⟩, fun W h => br_f (by rw [hg5]; exact nI_nle (by omega) (by omega)) ?_, fun W h => br_f (by rw [hg5']; exact nI_nle (by omega) (by omega)) ?_⟩
        · rw [q2]; exact h
        · rw [q3]; exact h
    have hn5 : vp_nar .byte (rd_o x5) = rd_o x5 := rd_nbo (fun j e => by have := (hx5 j e).1; omega)
    obtain ⟨so5, ho5, ce5, va5, la5, gi5⟩ := w5
    have hRf := rd_OR_va (v := r) hp3 hr ⟨x5, rfl, hx5⟩ hR5
    have hm5 : nI mt = 5 ↔ mt = 5 := nI_eq (b := 5) (by omega) (by omega)
    refine ⟨if mt = 5 then 14 else 0, rd_X 0 (-1) d c5 t5 (so5, ho5, ce5, upd va5 (4 * p + r) (rd_o x5), la5, gi5) o5 g5, rd_Y 0 (-1) d c5' t5' (so5, ho5, ce5, upd va5 (4 * p + r) (rd_o x5), la5, gi5) o5' ys g5', rd_mkrel (Or.inr rfl) hD hC5 (rd_OR_mono mono hRf), fun post hp => ?_, fun post hp => ?_⟩
    · unfold wpX_call rd_X
      dsimp only
      refine xq_heldS hp3 hv hks em (br_f (nI_pos (by omega)) ⟨rd_in (by omega), ?_⟩)
      rw [ci]
      refine br_t hs (xq_n1 (n := 5) (by omega) (by omega) (br_f (by decide) (xq_n1 (n := 3) (by omega) (by omega) (br_f (by decide) (xq_n1 (n := 3) (by omega) (by omega) (br_f (by decide) ⟨rd_in (by omega), rd_in (by omega), ?_⟩))))))
      rw [e4a, c4a, eva, eho, ext]
      refine ⟨rd_in (by omega), ?_⟩
      unfold wpX_dispatch
      dsimp only
      refine X1 _ ?_
      unfold rd_X
      dsimp only
      refine br_t rfl (xq_linked hp3 hq a1.1 b1 ?_)
      rw [lk]
      refine br_f (by decide) (xE _ _ _ _ _ _ _ ?_)
      refine br_t (nI_pos' (by omega)) (X2 _ ?_)
      unfold rd_X
      dsimp only
      refine br_t rfl (sX (fun z => wX_dispatch_113 _ (nI p) (nI q) z (nI ob) (nI mt) (nI q) _ _ _ _ _ _ _ _ _ _ _ _ _ _ _ _ _ _ _ _ _ _ _ _ _ _ _ _ _ _ _ _ _ _ _ _ _ _ _ _ _ _) ?_)
      unfold wX_dispatch_113
      refine X3 _ ?_
      unfold rd_X
      dsimp only
      refine br_f n1000 (X4 _ ?_)
      unfold rd_X
      dsimp only
      refine br_t rfl (X5 _ ?_)
      unfold rd_X
      dsimp only
      refine br_t rfl (sX5 (fun z => wX_call_133 post (nI mt) z (4 * nI p + nI r) _ _ _ _ _ _ _ _ _ _ _ _ _ _ _ _ _ _ _ _ _ _ _ _ _ _ _ _ _ _ _ _ _ _ _ _ _ _ _ _ _ _) ?_)
      unfold wX_call_133
      rw [e4r, c4r, hn5]
      refine ⟨rd_in (by omega), nm_e ?_⟩
      by_cases z : mt = 5
      · rw [if_pos z] at hp; exact br_t (hm5.mpr z) hp
      · rw [if_neg z] at hp; exact br_f (fun q => z (hm5.mp q)) hp
    · unfold wpY_call rd_Y
      dsimp only
      refine yq_var1 hp3 hv (br_f (by decide) (yq_n1 (n := 6) hmt (by omega) (br_f (by decide) (yq_n1 (n := 4) ha (by omega) (br_f (by decide) (yq_n1 (n := 4) hr (by omega) (br_f (by decide) ?_)))))))
      rw [e4v, c4v, em, e12, ci]
      refine ⟨rd_in (by omega), br_f (nI_pos (by omega)) ⟨rd_in (by omega), rd_in (by omega), br_t hs (yq_heldS hp3 hv hks em ⟨rd_in (by omega), ?_⟩)⟩⟩
      rw [ci, eho, e4a, c4a, eva]
      refine nm_e ⟨rd_in (by omega), ?_⟩
      refine Y1 _ ?_
      unfold rd_Y
      dsimp only
      refine br_t (Int32.le_refl _) ?_
      rw [e3q, c3q, hap]
      refine ⟨rd_in (by omega), br_t (by rw [lk]; rfl) ⟨rd_in (by omega), ?_⟩⟩
      rw [eyt]
      refine yE _ _ _ _ _ _ _ _ ?_
      refine br_t (nI_pos' (show 12 * q + ob < 2 ^ 31 by omega)) (Y2 _ ?_)
      unfold rd_Y
      dsimp only
      refine br_t (Int32.le_refl _) (sY (fun z => wY_call_221 _ (nI p) (nI mt) (nI r) (nI q) _ z _ _ _ _ _ _ _ _ _ _ _ _ _ _ _ _ _ _ _ _ _ _ _ _ _ _ _ _ _ _ _ _ _ _ _ _ _ _ _ _ _ _ _ _ _ _) ?_)
      unfold wY_call_221
      refine F3 _ (br_f (by decide) (Y3 _ ?_))
      unfold rd_Y
      dsimp only
      refine Y4 _ ?_
      unfold rd_Y
      dsimp only
      refine br_t (Int32.le_refl _) (Y5 _ ?_)
      unfold rd_Y
      dsimp only
      refine br_t (Int32.le_refl _) (sY5 (fun z => wY_call_343 post (nI mt) z (4 * nI p + nI r) _ _ _ _ _ _ _ _ _ _ _ _ _ _ _ _ _ _ _ _ _ _ _ _ _ _ _ _ _ _ _ _ _ _ _ _ _ _ _ _ _ _ _ _ _ _) ?_)
      unfold wY_call_343
      rw [e4r, c4r]
      refine ⟨rd_in (by omega), nm_e ?_⟩
      by_cases z : mt = 5
      · rw [if_pos z] at hp; exact br_t (hm5.mpr z) hp
      · rw [if_neg z] at hp; exact br_f (fun q => z (hm5.mp q)) hp
end
section
/-! owed: i_up, call -/
theorem i_up {k : Nat} {u : SX} {v : SY} (h : i_Rel k u v) : i_Rel (k + 7) u v := by
  obtain ⟨T, A, pa, ab, bl, d, c, c', t, t', w, o, o', ys, g, g', e1, e2, h1, h2, h3, h4⟩ := h
  exact ⟨T, A, pa, ab, bl, d, c, c', t, t', w, o, o', ys, g, g', e1, e2, h1, h2, h3, rd_OR_mono (by omega) h4⟩
theorem rd_va {K : Nat} {T : rt_T} {A : rt_A} {w : rt_W} {o : rt_OX} {o' : rt_OY} {p v : Nat} (hR : rd_OR K T A w o o') (hp3 : p < 3) (hv : v < 4) : rd_vr w.1 p (w.2.2.2.1 (4 * p + v)) ∧ rd_lr w.1 p (w.2.2.2.2.1 (4 * p + v)) := by
  obtain ⟨N, P, sh, fl, sg, st, pr, kn⟩ := T
  obtain ⟨oc, tk, le, hm, gv, lm, tn⟩ := A
  obtain ⟨so, ho, ce, va, la, gi⟩ := w
  exact hR.1.2.2.2.2.2.2.2.1 p hp3 v hv
theorem rd_so {K : Nat} {T : rt_T} {A : rt_A} {w : rt_W} {o : rt_OX} {o' : rt_OY} {i : Nat} (hR : rd_OR K T A w o o') (hi : i < 36) : w.1 i = 0 ∨ w.1 i = 1 ∨ w.1 i = 2 := by
  obtain ⟨N, P, sh, fl, sg, st, pr, kn⟩ := T
  obtain ⟨oc, tk, le, hm, gv, lm, tn⟩ := A
  obtain ⟨so, ho, ce, va, la, gi⟩ := w
  exact (hR.1.2.1 i hi).1
theorem i_vc_call {k : Nat} {u : SX} {v : SY} (I : i_Rel k u v) (hk : k + 7 ≤ 3584) (v1 : Int32) (v2 : Int32) (v3 : Int32) (v4 : Int32) (v5 : Int32) : wpX_call (fun r u' => wpY_call (fun r' v' => r' = r ∧ i_Rel (k + 7) u' v') v v1 v2 v3 v4 v5) u v1 v2 v3 v4 v5 := by
  refine rd_fin (WX := fun post => wpX_call post u v1 v2 v3 v4 v5) (WY := fun post => wpY_call post v v1 v2 v3 v4 v5) ?_
  obtain ⟨T, A, pa, ab, bl, d, c, c', t, t', w, o, o', ys, g, g', rfl, rfl, hpa, hD, hC, hR⟩ := I
  have rel : i_Rel (k + 7) (rd_X pa ab d c t w o g) (rd_Y pa bl d c' t' w o' ys g') := rd_mkrel hpa hD hC (rd_OR_mono (by omega) hR)
  rcases rd_slot v1 v2 with ⟨p, hp3, v, hv, rfl, rfl⟩ | ⟨hXs, hYs⟩
  case inr =>
    refine ⟨-1, _, _, rel, fun post hp => ?_, fun post hp => ?_⟩
    · unfold wpX_call rd_X
      dsimp only
      exact xq_held0 hXs (br_t rd_m1n hp)
    · unfold wpY_call rd_Y
      dsimp only
      exact hYs _ _ (br_t rfl hp)
  obtain ⟨mo, em, hmo⟩ := (rd_va hR hp3 hv).1
  have hR0 := hR
  obtain ⟨so, ho, ce, va, la, gi⟩ := w
  have em : va (4 * p + v) = rd_o mo := em
  have hmo : ∀ k, mo = some k → k < 12 ∧ ¬ so (12 * p + k) = 0 := hmo
  rcases rd_rng 5 (by decide) v3 with ⟨mt, hmt, rfl⟩ | ⟨hX3, hY3⟩
  case inr =>
    refine ⟨-1, _, _, rel, fun post hp => ?_, fun post hp => ?_⟩
    · unfold wpX_call rd_X
      dsimp only
      cases mo with
      | none => exact xq_heldN hp3 hv em (br_t rd_m1n hp)
      | some ks =>
        have hks := (hmo ks rfl).1
        refine xq_heldS hp3 hv hks em (br_f (nI_pos (by omega)) ⟨rd_in (by omega), ?_⟩)
        rw [rd_cl (by omega)]
        by_cases hs : so (12 * p + ks) = 2
        · refine br_t hs ?_
          exact hX3 _ (br_t rfl hp)
        · exact br_f hs hp
    · unfold wpY_call rd_Y
      dsimp only
      exact yq_var1 hp3 hv (br_f (by decide) (hY3 _ (br_t rfl hp)))
  rcases rd_rng 3 (by decide) v4 with ⟨a, ha, rfl⟩ | ⟨hX4, hY4⟩
  case inr =>
    refine ⟨-1, _, _, rel, fun post hp => ?_, fun post hp => ?_⟩
    · unfold wpX_call rd_X
      dsimp only
      cases mo with
      | none => exact xq_heldN hp3 hv em (br_t rd_m1n hp)
      | some ks =>
        have hks := (hmo ks rfl).1
        refine xq_heldS hp3 hv hks em (br_f (nI_pos (by omega)) ⟨rd_in (by omega), ?_⟩)
        rw [rd_cl (by omega)]
        by_cases hs : so (12 * p + ks) = 2
        · refine br_t hs ?_
          exact xq_n1 (n := 5) (by omega) (by omega) (br_f (by decide) (hX4 _ (br_t rfl hp)))
        · exact br_f hs hp
    · unfold wpY_call rd_Y
      dsimp only
      exact yq_var1 hp3 hv (br_f (by decide) (yq_n1 (n := 6) (by omega) (by omega) (br_f (by decide) (hY4 _ (br_t rfl hp)))))
  rcases rd_rng 3 (by decide) v5 with ⟨r, hr, rfl⟩ | ⟨hX5, hY5⟩
  case inr =>
    refine ⟨-1, _, _, rel, fun post hp => ?_, fun post hp => ?_⟩
    · unfold wpX_call rd_X
      dsimp only
      cases mo with
      | none => exact xq_heldN hp3 hv em (br_t rd_m1n hp)
      | some ks =>
        have hks := (hmo ks rfl).1
        refine xq_heldS hp3 hv hks em (br_f (nI_pos (by omega)) ⟨rd_in (by omega), ?_⟩)
        rw [rd_cl (by omega)]
        by_cases hs : so (12 * p + ks) = 2
        · refine br_t hs ?_
          exact xq_n1 (n := 5) (by omega) (by omega) (br_f (by decide) (xq_n1 (n := 3) (by omega) (by omega) (br_f (by decide) (hX5 _ (br_t rfl hp)))))
        · exact br_f hs hp
    · unfold wpY_call rd_Y
      dsimp only
      exact yq_var1 hp3 hv (br_f (by decide) (yq_n1 (n := 6) (by omega) (by omega) (br_f (by decide) (yq_n1 (n := 4) (by omega) (by omega) (br_f (by decide) (hY5 _ (br_t rfl hp)))))))
  have e4v : 4 * nI p + nI v = nI (4 * p + v) := by rw [rd_m4, nI_add]
  have c4v : (nI (4 * p + v)).toNatClampNeg = 4 * p + v := rd_cl (by omega)
  cases mo with
  | none =>
    refine ⟨-1, _, _, rel, fun post hp => ?_, fun post hp => ?_⟩
    · unfold wpX_call rd_X
      dsimp only
      exact xq_heldN hp3 hv em (br_t rd_m1n hp)
    · unfold wpY_call rd_Y
      dsimp only
      refine yq_var1 hp3 hv (br_f (by decide) (yq_n1 (n := 6) (by omega) (by omega) (br_f (by decide) (yq_n1 (n := 4) (by omega) (by omega) (br_f (by decide) (yq_n1 (n := 4) (by omega) (by omega) (br_f (by decide) ?_)))))))
      rw [e4v, c4v, em]
      exact ⟨rd_in (by omega), br_t rd_m1n hp⟩
  | some ks =>
    have hks := (hmo ks rfl).1
    by_cases hs : so (12 * p + ks) = 2
    · exact rd_callM hD hC hR (by omega) hp3 hv (by omega) (by omega) (by omega) hks em hs
    · refine ⟨-1, _, _, rel, fun post hp => ?_, fun post hp => ?_⟩
      · unfold wpX_call rd_X
        dsimp only
        refine xq_heldS hp3 hv hks em (br_f (nI_pos (by omega)) ⟨rd_in (by omega), ?_⟩)
        rw [rd_cl (by omega)]
        exact br_f hs hp
      · unfold wpY_call rd_Y
        dsimp only
        refine yq_var1 hp3 hv (br_f (by decide) (yq_n1 (n := 6) (by omega) (by omega) (br_f (by decide) (yq_n1 (n := 4) (by omega) (by omega) (br_f (by decide) (yq_n1 (n := 4) (by omega) (by omega) (br_f (by decide) ?_)))))))
        rw [e4v, c4v, em, rd_o1, rd_m12, nI_add, rd_cl (show 12 * p + ks < 3000 by omega)]
        exact ⟨rd_in (by omega), br_f (nI_pos (by omega)) ⟨rd_in (by omega), rd_in (by omega), br_f hs hp⟩⟩
end
section
/-! owed: offer, withdraw, prefer, annotate -/
theorem rd_DI_offer {i s f g : Nat} {m : Option Nat} {dO dP dS dF dG dR dA : rt_F} {x : Int32} (hm : ∀ j, m = some j → j < 12) (hs : s < 4) (hf : f < 8) (hg : g < 4) (h : rd_DI (dO, dP, dS, dF, dG, dR, dA)) : rd_DI (upd dO i x, upd dP i (rd_o m), upd dS i (nI s), upd dF i (nI f), upd dG i (nI g), dR, dA) := by
  refine ⟨fun j hj => ?_, h.2⟩
  by_cases e : j = i
  · subst e
    rw [pk_us, pk_us, pk_us, pk_us]
    exact ⟨⟨m, rfl, hm⟩, ⟨s, hs, rfl⟩, ⟨f, hf, rfl⟩, ⟨g, hg, rfl⟩⟩
  · rw [pk_un e, pk_un e, pk_un e, pk_un e]
    exact h.1 j hj
theorem i_vc_offer {k : Nat} {u : SX} {v : SY} (I : i_Rel k u v) (hk : k + 7 ≤ 3584) (v1 : Int32) (v2 : Int32) (v3 : Int32) (v4 : Int32) (v5 : Int32) (v6 : Int32) : wpX_offer (fun r u' => wpY_offer (fun r' v' => r' = r ∧ i_Rel (k + 7) u' v') v v1 v2 v3 v4 v5 v6) u v1 v2 v3 v4 v5 v6 := by
  refine rd_fin (WX := fun post => wpX_offer post u v1 v2 v3 v4 v5 v6) (WY := fun post => wpY_offer post v v1 v2 v3 v4 v5 v6) ?_
  obtain ⟨T, A, pa, ab, bl, d, c, c', t, t', w, o, o', ys, g, g', rfl, rfl, hpa, hD, hC, hR⟩ := I
  have hR7 := rd_OR_mono (show k ≤ k + 7 by omega) hR
  have rel : i_Rel (k + 7) (rd_X pa ab d c t w o g) (rd_Y pa bl d c' t' w o' ys g') := rd_mkrel hpa hD hC hR7
  rcases rd_rng 6 (by decide) v1 with ⟨at_, h1, rfl⟩ | ⟨hX, hY⟩
  case inr =>
    refine ⟨0, _, _, rel, fun post hp => ?_, fun post hp => ?_⟩
    · unfold wpX_offer rd_X
      dsimp only
      exact hX _ (br_t rfl hp)
    · unfold wpY_offer rd_Y
      dsimp only
      exact hY _ (br_t rfl hp)
  rcases rd_rng 11 (by decide) v2 with ⟨nm, h2, rfl⟩ | ⟨hX, hY⟩
  case inr =>
    refine ⟨0, _, _, rel, fun post hp => ?_, fun post hp => ?_⟩
    · unfold wpX_offer rd_X
      dsimp only
      exact xq_n1 (n := 6) (by omega) (by omega) (br_f (by decide) (hX _ (br_t rfl hp)))
    · unfold wpY_offer rd_Y
      dsimp only
      exact yq_n1 (n := 7) (by omega) (by omega) (br_f (by decide) (hY _ (br_t rfl hp)))
  rcases rd_rngm 11 (by decide) v3 with ⟨m, rfl, hm⟩ | ⟨hX, hY⟩
  case inr =>
    refine ⟨0, _, _, rel, fun post hp => ?_, fun post hp => ?_⟩
    · unfold wpX_offer rd_X
      dsimp only
      exact xq_n1 (n := 6) (by omega) (by omega) (br_f (by decide) (xq_n1 (n := 11) (by omega) (by omega) (br_f (by decide) (hX _ (br_t rfl hp)))))
    · unfold wpY_offer rd_Y
      dsimp only
      exact yq_n1 (n := 7) (by omega) (by omega) (br_f (by decide) (yq_n1 (n := 12) (by omega) (by omega) (br_f (by decide) (hY _ (br_t rfl hp)))))
  rcases rd_rng 3 (by decide) v4 with ⟨s, h4, rfl⟩ | ⟨hX, hY⟩
  case inr =>
    refine ⟨0, _, _, rel, fun post hp => ?_, fun post hp => ?_⟩
    · unfold wpX_offer rd_X
      dsimp only
      exact xq_n1 (n := 6) (by omega) (by omega) (br_f (by decide) (xq_n1 (n := 11) (by omega) (by omega) (br_f (by decide) (xq_o1 (n := 11) hm (by omega) (br_f (by decide) (hX _ (br_t rfl hp)))))))
    · unfold wpY_offer rd_Y
      dsimp only
      exact yq_n1 (n := 7) (by omega) (by omega) (br_f (by decide) (yq_n1 (n := 12) (by omega) (by omega) (br_f (by decide) (yq_o1 (n := 11) hm (by omega) (br_f (by decide) (hY _ (br_t rfl hp)))))))
  rcases rd_rng 7 (by decide) v5 with ⟨f, h5, rfl⟩ | ⟨hX, hY⟩
  case inr =>
    refine ⟨0, _, _, rel, fun post hp => ?_, fun post hp => ?_⟩
    · unfold wpX_offer rd_X
      dsimp only
      exact xq_n1 (n := 6) (by omega) (by omega) (br_f (by decide) (xq_n1 (n := 11) (by omega) (by omega) (br_f (by decide) (xq_o1 (n := 11) hm (by omega) (br_f (by decide) (xq_n1 (n := 3) (by omega) (by omega) (br_f (by decide) (hX _ (br_t rfl hp)))))))))
    · unfold wpY_offer rd_Y
      dsimp only
      exact yq_n1 (n := 7) (by omega) (by omega) (br_f (by decide) (yq_n1 (n := 12) (by omega) (by omega) (br_f (by decide) (yq_o1 (n := 11) hm (by omega) (br_f (by decide) (yq_n1 (n := 4) (by omega) (by omega) (br_f (by decide) (hY _ (br_t rfl hp)))))))))
  rcases rd_rng 3 (by decide) v6 with ⟨sg, h6, rfl⟩ | ⟨hX, hY⟩
  case inr =>
    refine ⟨0, _, _, rel, fun post hp => ?_, fun post hp => ?_⟩
    · unfold wpX_offer rd_X
      dsimp only
      exact xq_n1 (n := 6) (by omega) (by omega) (br_f (by decide) (xq_n1 (n := 11) (by omega) (by omega) (br_f (by decide) (xq_o1 (n := 11) hm (by omega) (br_f (by decide) (xq_n1 (n := 3) (by omega) (by omega) (br_f (by decide) (xq_n1 (n := 7) (by omega) (by omega) (br_f (by decide) (hX _ (br_t rfl hp)))))))))))
    · unfold wpY_offer rd_Y
      dsimp only
      exact yq_n1 (n := 7) (by omega) (by omega) (br_f (by decide) (yq_n1 (n := 12) (by omega) (by omega) (br_f (by decide) (yq_o1 (n := 11) hm (by omega) (br_f (by decide) (yq_n1 (n := 4) (by omega) (by omega) (br_f (by decide) (yq_n1 (n := 8) (by omega) (by omega) (br_f (by decide) (hY _ (br_t rfl hp)))))))))))
  obtain ⟨dO, dP, dS, dF, dG, dR, dA⟩ := d
  have e12 : 12 * nI at_ + nI nm = nI (12 * at_ + nm) := by rw [rd_m12, nI_add]
  have ci : (nI (12 * at_ + nm)).toNatClampNeg = 12 * at_ + nm := rd_cl (by omega)
  have hD' := rd_DI_offer (i := 12 * at_ + nm) (x := 1) (m := m) (s := s) (f := f) (g := sg) (fun j e => by have := hm j e; omega) (by omega) (by omega) (by omega) hD
  refine ⟨1, _, _, rd_mkrel (t := t) (t' := t') (ys := ys) (g := g) (g' := g') hpa hD' hC hR7, fun post hp => ?_, fun post hp => ?_⟩
  · unfold wpX_offer rd_X
    dsimp only
    refine xq_n1 (n := 6) (by omega) (by omega) (br_f (by decide) (xq_n1 (n := 11) (by omega) (by omega) (br_f (by decide) (xq_o1 (n := 11) hm (by omega) (br_f (by decide) (xq_n1 (n := 3) (by omega) (by omega) (br_f (by decide) (xq_n1 (n := 7) (by omega) (by omega) (br_f (by decide) (xq_n1 (n := 3) (by omega) (by omega) (br_f (by decide) (?_))))))))))))
    rw [e12]
    refine nm_e ?_
    rw [ci, rd_nz1, rd_nb8o (fun j e => by have := hm j e; omega), rd_nb8 (by omega), rd_nb8 (by omega), rd_nb8 (by omega)]
    exact ⟨rd_in (by omega), nm_e ⟨rd_in (by omega), nm_e ⟨rd_in (by omega), nm_e ⟨rd_in (by omega), nm_e ⟨rd_in (by omega), nm_e hp⟩⟩⟩⟩⟩
  · unfold wpY_offer rd_Y
    dsimp only
    refine yq_n1 (n := 7) (by omega) (by omega) (br_f (by decide) (yq_n1 (n := 12) (by omega) (by omega) (br_f (by decide) (yq_o1 (n := 11) hm (by omega) (br_f (by decide) (yq_n1 (n := 4) (by omega) (by omega) (br_f (by decide) (yq_n1 (n := 8) (by omega) (by omega) (br_f (by decide) (yq_n1 (n := 4) (by omega) (by omega) (br_f (by decide) (?_))))))))))))
    rw [e12]
    refine nm_e ?_
    rw [ci, rd_nz1]
    exact ⟨rd_in (by omega), nm_e ⟨rd_in (by omega), nm_e ⟨rd_in (by omega), nm_e ⟨rd_in (by omega), nm_e ⟨rd_in (by omega), nm_e hp⟩⟩⟩⟩⟩
theorem i_vc_withdraw {k : Nat} {u : SX} {v : SY} (I : i_Rel k u v) (hk : k + 7 ≤ 3584) (v1 : Int32) (v2 : Int32) : wpX_withdraw (fun r u' => wpY_withdraw (fun r' v' => r' = r ∧ i_Rel (k + 7) u' v') v v1 v2) u v1 v2 := by
  refine rd_fin (WX := fun post => wpX_withdraw post u v1 v2) (WY := fun post => wpY_withdraw post v v1 v2) ?_
  obtain ⟨T, A, pa, ab, bl, d, c, c', t, t', w, o, o', ys, g, g', rfl, rfl, hpa, hD, hC, hR⟩ := I
  have hR7 := rd_OR_mono (show k ≤ k + 7 by omega) hR
  have rel : i_Rel (k + 7) (rd_X pa ab d c t w o g) (rd_Y pa bl d c' t' w o' ys g') := rd_mkrel hpa hD hC hR7
  rcases rd_rng 6 (by decide) v1 with ⟨at_, h1, rfl⟩ | ⟨hX, hY⟩
  case inr =>
    refine ⟨0, _, _, rel, fun post hp => ?_, fun post hp => ?_⟩
    · unfold wpX_withdraw rd_X
      dsimp only
      exact hX _ (br_t rfl hp)
    · unfold wpY_withdraw rd_Y
      dsimp only
      exact hY _ (br_t rfl hp)
  rcases rd_rng 11 (by decide) v2 with ⟨nm, h2, rfl⟩ | ⟨hX, hY⟩
  case inr =>
    refine ⟨0, _, _, rel, fun post hp => ?_, fun post hp => ?_⟩
    · unfold wpX_withdraw rd_X
      dsimp only
      exact xq_n1 (n := 6) (by omega) (by omega) (br_f (by decide) (hX _ (br_t rfl hp)))
    · unfold wpY_withdraw rd_Y
      dsimp only
      exact yq_n1 (n := 7) (by omega) (by omega) (br_f (by decide) (hY _ (br_t rfl hp)))
  obtain ⟨dO, dP, dS, dF, dG, dR, dA⟩ := d
  have e12 : 12 * nI at_ + nI nm = nI (12 * at_ + nm) := by rw [rd_m12, nI_add]
  have ci : (nI (12 * at_ + nm)).toNatClampNeg = 12 * at_ + nm := rd_cl (by omega)
  by_cases z : dO (12 * at_ + nm) = 0
  · refine ⟨0, _, _, rel, fun post hp => ?_, fun post hp => ?_⟩
    · unfold wpX_withdraw rd_X
      dsimp only
      refine xq_n1 (n := 6) (by omega) (by omega) (br_f (by decide) (xq_n1 (n := 11) (by omega) (by omega) (br_f (by decide) (?_))))
      rw [e12, ci]
      exact ⟨rd_in (by omega), br_t z hp⟩
    · unfold wpY_withdraw rd_Y
      dsimp only
      refine yq_n1 (n := 7) (by omega) (by omega) (br_f (by decide) (yq_n1 (n := 12) (by omega) (by omega) (br_f (by decide) (?_))))
      rw [e12, ci]
      exact ⟨rd_in (by omega), br_t z hp⟩
  · have hD' : rd_DI (upd dO (12 * at_ + nm) 0, dP, dS, dF, dG, dR, dA) := hD
    refine ⟨1, _, _, rd_mkrel (t := t) (t' := t') (ys := ys) (g := g) (g' := g') hpa hD' hC hR7, fun post hp => ?_, fun post hp => ?_⟩
    · unfold wpX_withdraw rd_X
      dsimp only
      refine xq_n1 (n := 6) (by omega) (by omega) (br_f (by decide) (xq_n1 (n := 11) (by omega) (by omega) (br_f (by decide) (?_))))
      rw [e12, ci, rd_nz0]
      exact ⟨rd_in (by omega), br_f z ⟨rd_in (by omega), nm_e hp⟩⟩
    · unfold wpY_withdraw rd_Y
      dsimp only
      refine yq_n1 (n := 7) (by omega) (by omega) (br_f (by decide) (yq_n1 (n := 12) (by omega) (by omega) (br_f (by decide) (?_))))
      rw [e12, ci, rd_nz0]
      exact ⟨rd_in (by omega), br_f z ⟨rd_in (by omega), nm_e hp⟩⟩
theorem i_vc_prefer {k : Nat} {u : SX} {v : SY} (I : i_Rel k u v) (hk : k + 7 ≤ 3584) (v1 : Int32) (v2 : Int32) : wpX_prefer (fun r u' => wpY_prefer (fun r' v' => r' = r ∧ i_Rel (k + 7) u' v') v v1 v2) u v1 v2 := by
  refine rd_fin (WX := fun post => wpX_prefer post u v1 v2) (WY := fun post => wpY_prefer post v v1 v2) ?_
  obtain ⟨T, A, pa, ab, bl, d, c, c', t, t', w, o, o', ys, g, g', rfl, rfl, hpa, hD, hC, hR⟩ := I
  have hR7 := rd_OR_mono (show k ≤ k + 7 by omega) hR
  have rel : i_Rel (k + 7) (rd_X pa ab d c t w o g) (rd_Y pa bl d c' t' w o' ys g') := rd_mkrel hpa hD hC hR7
  rcases rd_rng 3 (by decide) v1 with ⟨cb, h1, rfl⟩ | ⟨hX, hY⟩
  case inr =>
    refine ⟨0, _, _, rel, fun post hp => ?_, fun post hp => ?_⟩
    · unfold wpX_prefer rd_X
      dsimp only
      exact hX _ (br_t rfl hp)
    · unfold wpY_prefer rd_Y
      dsimp only
      exact hY _ (br_t rfl hp)
  rcases rd_rng 4095 (by decide) v2 with ⟨st, h2, rfl⟩ | ⟨hX, hY⟩
  case inr =>
    refine ⟨0, _, _, rel, fun post hp => ?_, fun post hp => ?_⟩
    · unfold wpX_prefer rd_X
      dsimp only
      exact xq_n1 (n := 3) (by omega) (by omega) (br_f (by decide) (hX _ (br_t rfl hp)))
    · unfold wpY_prefer rd_Y
      dsimp only
      exact yq_n1 (n := 4) (by omega) (by omega) (br_f (by decide) (hY _ (br_t rfl hp)))
  obtain ⟨dO, dP, dS, dF, dG, dR, dA⟩ := d
  have ci : (nI cb).toNatClampNeg = cb := rd_cl (by omega)
  have hD' : rd_DI (dO, dP, dS, dF, dG, upd dR cb (nI st), dA) := by
    refine ⟨hD.1, fun i hi => ?_, hD.2.2⟩
    by_cases e : i = cb
    · subst e; rw [pk_us]; exact ⟨st, by omega, rfl⟩
    · rw [pk_un e]; exact hD.2.1 i hi
  refine ⟨1, _, _, rd_mkrel (t := t) (t' := t') (ys := ys) (g := g) (g' := g') hpa hD' hC hR7, fun post hp => ?_, fun post hp => ?_⟩
  · unfold wpX_prefer rd_X
    dsimp only
    refine xq_n1 (n := 3) (by omega) (by omega) (br_f (by decide) (xq_n1 (n := 4095) (by omega) (by omega) (br_f (by decide) (?_))))
    rw [ci, rd_ns16 (by omega)]
    exact ⟨rd_in (by omega), nm_e hp⟩
  · unfold wpY_prefer rd_Y
    dsimp only
    refine yq_n1 (n := 4) (by omega) (by omega) (br_f (by decide) (yq_n1 (n := 4096) (by omega) (by omega) (br_f (by decide) (?_))))
    rw [ci]
    exact ⟨rd_in (by omega), nm_e hp⟩
theorem i_vc_annotate {k : Nat} {u : SX} {v : SY} (I : i_Rel k u v) (hk : k + 7 ≤ 3584) (v1 : Int32) (v2 : Int32) : wpX_annotate (fun r u' => wpY_annotate (fun r' v' => r' = r ∧ i_Rel (k + 7) u' v') v v1 v2) u v1 v2 := by
  refine rd_fin (WX := fun post => wpX_annotate post u v1 v2) (WY := fun post => wpY_annotate post v v1 v2) ?_
  obtain ⟨T, A, pa, ab, bl, d, c, c', t, t', w, o, o', ys, g, g', rfl, rfl, hpa, hD, hC, hR⟩ := I
  have hR7 := rd_OR_mono (show k ≤ k + 7 by omega) hR
  have rel : i_Rel (k + 7) (rd_X pa ab d c t w o g) (rd_Y pa bl d c' t' w o' ys g') := rd_mkrel hpa hD hC hR7
  rcases rd_place v1 with ⟨p, hp3, rfl⟩ | ⟨hX, hY⟩
  case inr =>
    refine ⟨0, _, _, rel, fun post hp => ?_, fun post hp => ?_⟩
    · unfold wpX_annotate rd_X
      dsimp only
      exact hX _ (br_t rfl hp)
    · unfold wpY_annotate rd_Y
      dsimp only
      exact hY _ (br_t rfl hp)
  rcases rd_rngm 3 (by decide) v2 with ⟨m, rfl, hm⟩ | ⟨hX, hY⟩
  case inr =>
    refine ⟨0, _, _, rel, fun post hp => ?_, fun post hp => ?_⟩
    · unfold wpX_annotate rd_X
      dsimp only
      exact xq_place1 hp3 (br_f (by decide) (hX _ (br_t rfl hp)))
    · unfold wpY_annotate rd_Y
      dsimp only
      exact yq_n1 (n := 3) hp3 (by omega) (br_f (by decide) (hY _ (br_t rfl hp)))
  obtain ⟨dO, dP, dS, dF, dG, dR, dA⟩ := d
  have ci : (nI p).toNatClampNeg = p := rd_cl (by omega)
  have hD' : rd_DI (dO, dP, dS, dF, dG, dR, upd dA p (rd_o m)) := by
    refine ⟨hD.1, hD.2.1, fun i hi => ?_⟩
    by_cases e : i = p
    · subst e; rw [pk_us]; exact ⟨m, rfl, fun j ej => by have := hm j ej; omega⟩
    · rw [pk_un e]; exact hD.2.2 i hi
  refine ⟨1, _, _, rd_mkrel (t := t) (t' := t') (ys := ys) (g := g) (g' := g') hpa hD' hC hR7, fun post hp => ?_, fun post hp => ?_⟩
  · unfold wpX_annotate rd_X
    dsimp only
    refine xq_place1 hp3 (br_f (by decide) (xq_o1 (n := 3) hm (by omega) (br_f (by decide) ?_)))
    rw [ci, rd_nb8o (fun j e => by have := hm j e; omega)]
    exact ⟨rd_in (by omega), nm_e hp⟩
  · unfold wpY_annotate rd_Y
    dsimp only
    refine yq_n1 (n := 3) hp3 (by omega) (br_f (by decide) (yq_o1 (n := 3) hm (by omega) (br_f (by decide) ?_)))
    rw [ci]
    exact ⟨rd_in (by omega), nm_e hp⟩
end
section
/-! owed: make, put, let, walk, unbind -/
theorem i_vc_make {k : Nat} {u : SX} {v : SY} (I : i_Rel k u v) (hk : k + 7 ≤ 3584) (v1 : Int32) (v2 : Int32) (v3 : Int32) (v4 : Int32) : wpX_make (fun r u' => wpY_make (fun r' v' => r' = r ∧ i_Rel (k + 7) u' v') v v1 v2 v3 v4) u v1 v2 v3 v4 := by
  refine rd_fin (WX := fun post => wpX_make post u v1 v2 v3 v4) (WY := fun post => wpY_make post v v1 v2 v3 v4) ?_
  obtain ⟨T, A, pa, ab, bl, d, c, c', t, t', w, o, o', ys, g, g', rfl, rfl, hpa, hD, hC, hR⟩ := I
  have hR7 := rd_OR_mono (show k ≤ k + 7 by omega) hR
  have rel : i_Rel (k + 7) (rd_X pa ab d c t w o g) (rd_Y pa bl d c' t' w o' ys g') := rd_mkrel hpa hD hC hR7
  rcases rd_slot v1 v4 with ⟨p, hp3, v, hv, rfl, rfl⟩ | ⟨hXs, hYs⟩
  case inr =>
    refine ⟨-1, _, _, rel, fun post hp => ?_, fun post hp => ?_⟩
    · unfold wpX_make rd_X
      dsimp only
      exact hXs _ (br_t rfl hp)
    · unfold wpY_make rd_Y
      dsimp only
      exact hYs _ _ (br_t rfl hp)
  rcases rd_rng 4 (by decide) v2 with ⟨l, hl, rfl⟩ | ⟨hX, hY⟩
  case inr =>
    refine ⟨-1, _, _, rel, fun post hp => ?_, fun post hp => ?_⟩
    · unfold wpX_make rd_X
      dsimp only
      exact xq_slot1 hp3 hv (br_f (by decide) (hX _ (br_t rfl hp)))
    · unfold wpY_make rd_Y
      dsimp only
      exact yq_var1 hp3 hv (br_f (by decide) (hY _ (br_t rfl hp)))
  rcases rd_rng 11 (by decide) v3 with ⟨nm, hnm, rfl⟩ | ⟨hX, hY⟩
  case inr =>
    refine ⟨-1, _, _, rel, fun post hp => ?_, fun post hp => ?_⟩
    · unfold wpX_make rd_X
      dsimp only
      exact xq_slot1 hp3 hv (br_f (by decide) (xq_n1 (n := 4) hl (by omega) (br_f (by decide) (hX _ (br_t rfl hp)))))
    · unfold wpY_make rd_Y
      dsimp only
      exact yq_var1 hp3 hv (br_f (by decide) (yq_n1 (n := 5) (by omega) (by omega) (br_f (by decide) (hY _ (br_t rfl hp)))))
  obtain ⟨T1, c1, c1', t1, t1', rx, ry, hC1, hE1, hRR, X1, Y1⟩ := rd_load (T := T) (d := d) (c := c) (c' := c') (t := t) (t' := t') (pa := pa) (ab := ab) (py := pa) (bl := bl) (w := w) (o := o) (o' := o') (ys := ys) (g := g) (g' := g') hD hC hp3 (show l < 5 by omega) (show nm < 12 by omega)
  rcases hRR with ⟨e, h1, h2, rfl, rfl⟩ | ⟨j, hj, rfl, rfl⟩
  · obtain ⟨k1, k2, k3, k4⟩ := rd_neg e h1 h2
    refine ⟨nI e, rd_X pa ab d c1 t1 w o g, rd_Y pa bl d c1' t1' w o' ys g', rd_mkrel hpa hD hC1 (rd_OR_te hE1 hR7), fun post hp => ?_, fun post hp => ?_⟩
    · unfold wpX_make rd_X
      dsimp only
      refine xq_slot1 hp3 hv (br_f (by decide) (xq_n1 (n := 4) hl (by omega) (br_f (by decide) (xq_n1 (n := 11) hnm (by omega) (br_f (by decide) (X1 _ ?_))))))
      unfold rd_X
      dsimp only
      refine br_f k3 ?_
      rw [Int32.neg_neg]
      exact hp
    · unfold wpY_make rd_Y
      dsimp only
      refine yq_var1 hp3 hv (br_f (by decide) (yq_n1 (n := 5) (by omega) (by omega) (br_f (by decide) (yq_n1 (n := 12) (by omega) (by omega) (br_f (by decide) (Y1 _ ?_))))))
      unfold rd_Y
      dsimp only
      refine br_f k3 ?_
      rw [Int32.neg_neg]
      exact hp
  · obtain ⟨T2, c2, c2', t2, t2', e2, hC2, hE2, he2, X2, Y2⟩ := rd_ready (T := T1) (d := d) (c := c1) (c' := c1') (t := t1) (t' := t1') (pa := pa) (ab := ab) (py := pa) (bl := bl) (w := w) (o := o) (o' := o') (ys := ys) (g := g) (g' := g') hC1 hj
    obtain ⟨f1, f2, f3, f4, f5⟩ := rd_shXY hC1 hj
    obtain ⟨p1, p2, p3⟩ := rd_TE_P hE2 hj
    have hE12 := rd_TE_tr hE1 hE2
    by_cases he0 : e2 = 0
    case neg =>
      refine ⟨nI e2, rd_X pa ab d c2 t2 w o g, rd_Y pa bl d c2' t2' w o' ys g', rd_mkrel hpa hD hC2 (rd_OR_te hE12 hR7), fun post hp => ?_, fun post hp => ?_⟩
      · unfold wpX_make rd_X
        dsimp only
        refine xq_slot1 hp3 hv (br_f (by decide) (xq_n1 (n := 4) hl (by omega) (br_f (by decide) (xq_n1 (n := 11) hnm (by omega) (br_f (by decide) (X1 _ ?_))))))
        unfold rd_X
        dsimp only
        refine br_t (nI_pos' (by omega)) (X2 _ ?_)
        unfold rd_X
        dsimp only
        exact br_f (nI_ne0 (by omega) (by omega)) hp
      · unfold wpY_make rd_Y
        dsimp only
        refine yq_var1 hp3 hv (br_f (by decide) (yq_n1 (n := 5) (by omega) (by omega) (br_f (by decide) (yq_n1 (n := 12) (by omega) (by omega) (br_f (by decide) (Y1 _ ?_))))))
        unfold rd_Y
        dsimp only
        refine br_t (nI_pos' (by omega)) (Y2 _ ?_)
        unfold rd_Y
        dsimp only
        exact br_f (nI_nle (by omega) (by omega)) hp
    subst he0
    obtain ⟨A3, w3, o3, o3', r, hR3, hE3, hr, X3, Y3⟩ := rd_plain (p := p) (j := j) (pa := pa) (ab := ab) (py := pa) (bl := bl) (d := d) (t := t2) (t' := t2') (ys := ys) (g := g) (g' := g') hC2 (rd_OR_te hE12 hR7) hp3 p2
    rw [p1] at X3
    have e4v : 4 * nI p + nI v = nI (4 * p + v) := by rw [rd_m4, nI_add]
    have c4v : (nI (4 * p + v)).toNatClampNeg = 4 * p + v := rd_cl (by omega)
    obtain ⟨so3, ho3, ce3, va3, la3, gi3⟩ := w3
    cases r with
    | none =>
      refine ⟨9, rd_X pa ab d c2 t2 (so3, ho3, ce3, va3, la3, gi3) o3 g, rd_Y pa bl d c2' t2' (so3, ho3, ce3, va3, la3, gi3) o3' ys g', rd_mkrel hpa hD hC2 hR3, fun post hp => ?_, fun post hp => ?_⟩
      · unfold wpX_make rd_X
        dsimp only
        refine xq_slot1 hp3 hv (br_f (by decide) (xq_n1 (n := 4) hl (by omega) (br_f (by decide) (xq_n1 (n := 11) hnm (by omega) (br_f (by decide) (X1 _ ?_))))))
        unfold rd_X
        dsimp only
        refine br_t (nI_pos' (by omega)) (X2 _ ?_)
        unfold rd_X
        dsimp only
        refine br_t rfl (X3 _ ?_)
        unfold rd_X
        dsimp only
        exact br_f rd_m1p hp
      · unfold wpY_make rd_Y
        dsimp only
        refine yq_var1 hp3 hv (br_f (by decide) (yq_n1 (n := 5) (by omega) (by omega) (br_f (by decide) (yq_n1 (n := 12) (by omega) (by omega) (br_f (by decide) (Y1 _ ?_))))))
        unfold rd_Y
        dsimp only
        refine br_t (nI_pos' (by omega)) (Y2 _ ?_)
        unfold rd_Y
        dsimp only
        refine br_t (Int32.le_refl _) (Y3 _ ?_)
        unfold rd_Y
        dsimp only
        exact br_f rd_m1p hp
    | some vv =>
      obtain ⟨r1, r2, r3⟩ := hr vv rfl
      have hRf := rd_OR_va (v := v) (x := nI vv) hp3 hv ⟨some vv, rfl, fun x ex => by cases ex; exact ⟨r1, by rw [show so3 (12 * p + vv) = 1 from r2]; decide⟩⟩ hR3
      refine ⟨0, rd_X pa ab d c2 t2 (so3, ho3, ce3, upd va3 (4 * p + v) (nI vv), la3, gi3) o3 g, rd_Y pa bl d c2' t2' (so3, ho3, ce3, upd va3 (4 * p + v) (nI vv), la3, gi3) o3' ys g', rd_mkrel hpa hD hC2 hRf, fun post hp => ?_, fun post hp => ?_⟩
      · unfold wpX_make rd_X
        dsimp only
        refine xq_slot1 hp3 hv (br_f (by decide) (xq_n1 (n := 4) hl (by omega) (br_f (by decide) (xq_n1 (n := 11) hnm (by omega) (br_f (by decide) (X1 _ ?_))))))
        unfold rd_X
        dsimp only
        refine br_t (nI_pos' (by omega)) (X2 _ ?_)
        unfold rd_X
        dsimp only
        refine br_t rfl (X3 _ ?_)
        unfold rd_X
        dsimp only
        rw [rd_o1, e4v, c4v, rd_nb8 (by omega)]
        exact br_t (nI_pos' (by omega)) ⟨rd_in (by omega), nm_e hp⟩
      · unfold wpY_make rd_Y
        dsimp only
        refine yq_var1 hp3 hv (br_f (by decide) (yq_n1 (n := 5) (by omega) (by omega) (br_f (by decide) (yq_n1 (n := 12) (by omega) (by omega) (br_f (by decide) (Y1 _ ?_))))))
        unfold rd_Y
        dsimp only
        refine br_t (nI_pos' (by omega)) (Y2 _ ?_)
        unfold rd_Y
        dsimp only
        refine br_t (Int32.le_refl _) (Y3 _ ?_)
        unfold rd_Y
        dsimp only
        rw [rd_o1, e4v, c4v]
        exact br_t (nI_pos' (by omega)) ⟨rd_in (by omega), nm_e hp⟩
theorem i_vc_let {k : Nat} {u : SX} {v : SY} (I : i_Rel k u v) (hk : k + 7 ≤ 3584) (v1 : Int32) (v2 : Int32) (v3 : Int32) : wpX_let (fun r u' => wpY_let (fun r' v' => r' = r ∧ i_Rel (k + 7) u' v') v v1 v2 v3) u v1 v2 v3 := by
  refine rd_fin (WX := fun post => wpX_let post u v1 v2 v3) (WY := fun post => wpY_let post v v1 v2 v3) ?_
  obtain ⟨T, A, pa, ab, bl, d, c, c', t, t', w, o, o', ys, g, g', rfl, rfl, hpa, hD, hC, hR⟩ := I
  have hR7 := rd_OR_mono (show k ≤ k + 7 by omega) hR
  have rel : i_Rel (k + 7) (rd_X pa ab d c t w o g) (rd_Y pa bl d c' t' w o' ys g') := rd_mkrel hpa hD hC hR7
  rcases rd_slot v1 v2 with ⟨p, hp3, v, hv, rfl, rfl⟩ | ⟨hXs, hYs⟩
  case inr =>
    refine ⟨0, _, _, rel, fun post hp => ?_, fun post hp => ?_⟩
    · unfold wpX_let rd_X
      dsimp only
      exact hXs _ (br_t rfl hp)
    · unfold wpY_let rd_Y
      dsimp only
      exact hYs _ _ (br_t rfl hp)
  rcases rd_rngm 3 (by decide) v3 with ⟨m, rfl, hm⟩ | ⟨hX, hY⟩
  case inr =>
    refine ⟨0, _, _, rel, fun post hp => ?_, fun post hp => ?_⟩
    · unfold wpX_let rd_X
      dsimp only
      exact xq_slot1 hp3 hv (br_f (by decide) (hX _ (br_t rfl hp)))
    · unfold wpY_let rd_Y
      dsimp only
      exact yq_var1 hp3 hv (br_f (by decide) (hY _ (br_t rfl hp)))
  have e4v : 4 * nI p + nI v = nI (4 * p + v) := by rw [rd_m4, nI_add]
  have c4v : (nI (4 * p + v)).toNatClampNeg = 4 * p + v := rd_cl (by omega)
  have hva := fun v' hv' => (rd_va (v := v') hR hp3 hv').1
  obtain ⟨so, ho, ce, va, la, gi⟩ := w
  cases m with
  | none =>
    have hRf := rd_OR_va (v := v) (x := -1) hp3 hv ⟨none, rfl, fun x ex => nomatch ex⟩ hR7
    refine ⟨1, rd_X pa ab d c t (so, ho, ce, upd va (4 * p + v) (-1), la, gi) o g, rd_Y pa bl d c' t' (so, ho, ce, upd va (4 * p + v) (-1), la, gi) o' ys g', rd_mkrel hpa hD hC hRf, fun post hp => ?_, fun post hp => ?_⟩
    · unfold wpX_let rd_X
      dsimp only
      refine xq_slot1 hp3 hv (br_f (by decide) (xq_o1 (n := 3) hm (by omega) (br_f (by decide) ?_)))
      rw [e4v, c4v, rd_nbm]
      exact br_f rd_m1p ⟨rd_in (by omega), nm_e hp⟩
    · unfold wpY_let rd_Y
      dsimp only
      refine yq_var1 hp3 hv (br_f (by decide) (yq_o1 (n := 3) hm (by omega) (br_f (by decide) ?_)))
      rw [e4v, c4v]
      exact br_f rd_m1p ⟨rd_in (by omega), nm_e hp⟩
  | some x =>
    have hx := hm x rfl
    have e4x : 4 * nI p + nI x = nI (4 * p + x) := by rw [rd_m4, nI_add]
    have c4x : (nI (4 * p + x)).toNatClampNeg = 4 * p + x := rd_cl (by omega)
    obtain ⟨mo, em, hmo⟩ := hva x (by omega)
    have em : va (4 * p + x) = rd_o mo := em
    have hRf := rd_OR_va (v := v) (x := rd_o mo) hp3 hv ⟨mo, rfl, hmo⟩ hR7
    have hmb : ∀ j, mo = some j → j < 128 := fun j e => by have := (hmo j e).1; omega
    refine ⟨1, rd_X pa ab d c t (so, ho, ce, upd va (4 * p + v) (rd_o mo), la, gi) o g, rd_Y pa bl d c' t' (so, ho, ce, upd va (4 * p + v) (rd_o mo), la, gi) o' ys g', rd_mkrel hpa hD hC hRf, fun post hp => ?_, fun post hp => ?_⟩
    · unfold wpX_let rd_X
      dsimp only
      refine xq_slot1 hp3 hv (br_f (by decide) (xq_o1 (n := 3) hm (by omega) (br_f (by decide) ?_)))
      rw [rd_o1, e4v, c4v, e4x, c4x, em, rd_nbo hmb]
      exact br_t (nI_pos' (by omega)) ⟨rd_in (by omega), rd_in (by omega), nm_e hp⟩
    · unfold wpY_let rd_Y
      dsimp only
      refine yq_var1 hp3 hv (br_f (by decide) (yq_o1 (n := 3) hm (by omega) (br_f (by decide) ?_)))
      rw [rd_o1, e4v, c4v, e4x, c4x, em]
      exact br_t (nI_pos' (by omega)) ⟨rd_in (by omega), rd_in (by omega), nm_e hp⟩
theorem rd_OR_la {K p v : Nat} {x : Int32} {T : rt_T} {A : rt_A} {so ho ce va la gi : rt_F} {o : rt_OX} {o' : rt_OY} (hp3 : p < 3) (hv4 : v < 4) (hv : rd_lr so p x) (hR : rd_OR K T A (so, ho, ce, va, la, gi) o o') : rd_OR K T A (so, ho, ce, va, upd la (4 * p + v) x, gi) o o' := by
  obtain ⟨N, P, sh, fl, sg, st, pr, kn⟩ := T
  obtain ⟨oc, tk, le, hm, gv, lm, t⟩ := A
  obtain ⟨li, nw, xC, xt, xL⟩ := o
  obtain ⟨tm, yC, yt, yL, ap⟩ := o'
  obtain ⟨⟨a1, a2, a3, a4, a5, a6, a7, a8, a9⟩, hX, hY⟩ := hR
  refine ⟨⟨a1, a2, a3, a4, a5, a6, a7, fun p' hp' v' hv' => ⟨(a8 p' hp' v' hv').1, ?_⟩, a9⟩, hX, hY⟩
  by_cases e : 4 * p' + v' = 4 * p + v
  · obtain ⟨rfl, rfl⟩ : p' = p ∧ v' = v := by omega
    rw [pk_us]; exact hv
  · rw [pk_un e]; exact (a8 p' hp' v' hv').2
theorem i_vc_unbind {k : Nat} {u : SX} {v : SY} (I : i_Rel k u v) (hk : k + 7 ≤ 3584) (v1 : Int32) (v2 : Int32) : wpX_unbind (fun r u' => wpY_unbind (fun r' v' => r' = r ∧ i_Rel (k + 7) u' v') v v1 v2) u v1 v2 := by
  refine rd_fin (WX := fun post => wpX_unbind post u v1 v2) (WY := fun post => wpY_unbind post v v1 v2) ?_
  obtain ⟨T, A, pa, ab, bl, d, c, c', t, t', w, o, o', ys, g, g', rfl, rfl, hpa, hD, hC, hR⟩ := I
  have hR7 := rd_OR_mono (show k ≤ k + 7 by omega) hR
  have rel : i_Rel (k + 7) (rd_X pa ab d c t w o g) (rd_Y pa bl d c' t' w o' ys g') := rd_mkrel hpa hD hC hR7
  rcases rd_slot v1 v2 with ⟨p, hp3, v, hv, rfl, rfl⟩ | ⟨hXs, hYs⟩
  case inr =>
    refine ⟨0, _, _, rel, fun post hp => ?_, fun post hp => ?_⟩
    · unfold wpX_unbind rd_X
      dsimp only
      exact hXs _ (br_t rfl hp)
    · unfold wpY_unbind rd_Y
      dsimp only
      exact hYs _ _ (br_t rfl hp)
  have e4v : 4 * nI p + nI v = nI (4 * p + v) := by rw [rd_m4, nI_add]
  have c4v : (nI (4 * p + v)).toNatClampNeg = 4 * p + v := rd_cl (by omega)
  obtain ⟨mo, em, hmo⟩ := (rd_va hR hp3 hv).2
  obtain ⟨so, ho, ce, va, la, gi⟩ := w
  have em : la (4 * p + v) = rd_o mo := em
  cases mo with
  | none =>
    refine ⟨0, _, _, rel, fun post hp => ?_, fun post hp => ?_⟩
    · unfold wpX_unbind rd_X
      dsimp only
      refine xq_slot1 hp3 hv (br_f (by decide) ?_)
      rw [e4v, c4v, em]
      exact ⟨rd_in (by omega), br_f rd_m1p hp⟩
    · unfold wpY_unbind rd_Y
      dsimp only
      refine yq_var1 hp3 hv (br_f (by decide) ?_)
      rw [e4v, c4v, em]
      exact ⟨rd_in (by omega), br_f rd_m1p hp⟩
  | some x =>
    have hx := (hmo x rfl).1
    have hRf := rd_OR_la (v := v) (x := -1) hp3 hv ⟨none, rfl, fun x ex => nomatch ex⟩ hR7
    refine ⟨1, rd_X pa ab d c t (so, ho, ce, va, upd la (4 * p + v) (-1), gi) o g, rd_Y pa bl d c' t' (so, ho, ce, va, upd la (4 * p + v) (-1), gi) o' ys g', rd_mkrel hpa hD hC hRf, fun post hp => ?_, fun post hp => ?_⟩
    · unfold wpX_unbind rd_X
      dsimp only
      refine xq_slot1 hp3 hv (br_f (by decide) ?_)
      rw [e4v, c4v, em, rd_nbm]
      exact ⟨rd_in (by omega), br_t (nI_pos' (by omega)) ⟨rd_in (by omega), nm_e hp⟩⟩
    · unfold wpY_unbind rd_Y
      dsimp only
      refine yq_var1 hp3 hv (br_f (by decide) ?_)
      rw [e4v, c4v, em]
      exact ⟨rd_in (by omega), br_t (nI_pos' (by omega)) ⟨rd_in (by omega), nm_e hp⟩⟩
end
section
/-! owed: put, walk -/
theorem i_vc_put {k : Nat} {u : SX} {v : SY} (I : i_Rel k u v) (hk : k + 7 ≤ 3584) (v1 : Int32) (v2 : Int32) (v3 : Int32) (v4 : Int32) : wpX_put (fun r u' => wpY_put (fun r' v' => r' = r ∧ i_Rel (k + 7) u' v') v v1 v2 v3 v4) u v1 v2 v3 v4 := by
  refine rd_fin (WX := fun post => wpX_put post u v1 v2 v3 v4) (WY := fun post => wpY_put post v v1 v2 v3 v4) ?_
  obtain ⟨T, A, pa, ab, bl, d, c, c', t, t', w, o, o', ys, g, g', rfl, rfl, hpa, hD, hC, hR⟩ := I
  have hR7 := rd_OR_mono (show k ≤ k + 7 by omega) hR
  have rel : i_Rel (k + 7) (rd_X pa ab d c t w o g) (rd_Y pa bl d c' t' w o' ys g') := rd_mkrel hpa hD hC hR7
  rcases rd_slot v1 v2 with ⟨p, hp3, v, hv, rfl, rfl⟩ | ⟨hXs, hYs⟩
  case inr =>
    refine ⟨0, _, _, rel, fun post hp => ?_, fun post hp => ?_⟩
    · unfold wpX_put rd_X
      dsimp only
      exact xq_held0 hXs (br_t rd_m1n hp)
    · unfold wpY_put rd_Y
      dsimp only
      exact yq_plain0 hYs (br_t rfl hp)
  obtain ⟨mo, em, hmo⟩ := (rd_va hR hp3 hv).1
  obtain ⟨N, P, sh, fl, sg, st, pr, kn⟩ := T
  obtain ⟨oc, tk, le, hm, gv, lm, tn⟩ := A
  obtain ⟨so, ho, ce, va, la, gi⟩ := w
  obtain ⟨li, nw, xC, xt, xL⟩ := o
  obtain ⟨tm, yC, yt, yL, ap⟩ := o'
  obtain ⟨xB, xR, xK, xU, xH, xF, xG, xT⟩ := c
  obtain ⟨yN, yB, yR, yK, yO, yA, yH, yF, yG, yU, yT⟩ := c'
  have em : va (4 * p + v) = rd_o mo := em
  have hmo : ∀ k, mo = some k → k < 12 ∧ ¬ so (12 * p + k) = 0 := hmo
  cases mo with
  | none =>
    refine ⟨0, _, _, rel, fun post hp => ?_, fun post hp => ?_⟩
    · unfold wpX_put rd_X
      dsimp only
      exact xq_heldN hp3 hv em (br_t rd_m1n hp)
    · unfold wpY_put rd_Y
      dsimp only
      exact yq_plainN hp3 hv em (br_t rfl hp)
  | some ks =>
    obtain ⟨hks, hnf⟩ := hmo ks rfl
    have ci : (nI (12 * p + ks)).toNatClampNeg = 12 * p + ks := rd_cl (by omega)
    have n0 : ¬ nI (12 * p + ks) < 0 := nI_pos (by omega)
    by_cases hs : so (12 * p + ks) = 1
    case neg =>
      refine ⟨0, _, _, rel, fun post hp => ?_, fun post hp => ?_⟩
      · unfold wpX_put rd_X
        dsimp only
        refine xq_heldS hp3 hv hks em (br_f n0 ?_)
        rcases rd_rng 1 (by decide) v3 with ⟨f, hf, rfl⟩ | ⟨hX, hY⟩
        · refine xq_n1 (n := 1) hf (by omega) (br_f (by decide) ⟨rd_in (by omega), ?_⟩)
          rw [ci]
          exact br_f hs hp
        · exact hX _ (br_t rfl hp)
      · unfold wpY_put rd_Y
        dsimp only
        refine yq_plainS hp3 hv hks em ?_
        rw [if_neg hs]
        exact br_t rfl hp
    rcases rd_rng 1 (by decide) v3 with ⟨f, hf, rfl⟩ | ⟨hX, hY⟩
    case inr =>
      refine ⟨0, _, _, rel, fun post hp => ?_, fun post hp => ?_⟩
      · unfold wpX_put rd_X
        dsimp only
        refine xq_heldS hp3 hv hks em (br_f n0 ?_)
        exact hX _ (br_t rfl hp)
      · unfold wpY_put rd_Y
        dsimp only
        refine yq_plainS hp3 hv hks em ?_
        rw [if_pos hs]
        exact br_f (by decide) (hY _ (br_t rfl hp))
    obtain ⟨o1, o2, o3, o4, o5, o6, o7, o8, o9, o10, o11, o12⟩ := rd_obj hC hR (i := 12 * p + ks) (by omega) hs
    have e2 : 2 * nI (12 * p + ks) + nI f = nI (2 * (12 * p + ks) + f) := by rw [rd_m2, nI_add]
    have c2 : (nI (2 * (12 * p + ks) + f)).toNatClampNeg = 2 * (12 * p + ks) + f := rd_cl (by omega)
    by_cases bit : sh (oc (12 * p + ks)) / 2 ^ f % 2 = 1
    case neg =>
      have b0 : sh (oc (12 * p + ks)) / 2 ^ f % 2 = 0 := by omega
      have hRf := rd_OR_ce (T := (N, P, sh, fl, sg, st, pr, kn)) (A := (oc, tk, le, hm, gv, lm, tn)) (X := 12 * p + ks) (j := f) (x := v4) (by omega) (fun _ z => absurd z bit) hR7
      refine ⟨1, rd_X pa ab d (xB, xR, xK, xU, xH, xF, xG, xT) t (so, ho, upd ce (2 * (12 * p + ks) + f) v4, va, la, gi) (li, nw, xC, xt, xL) g, rd_Y pa bl d (yN, yB, yR, yK, yO, yA, yH, yF, yG, yU, yT) t' (so, ho, upd ce (2 * (12 * p + ks) + f) v4, va, la, gi) (tm, yC, yt, yL, ap) ys g', rd_mkrel hpa hD hC hRf, fun post hp => ?_, fun post hp => ?_⟩
      · unfold wpX_put rd_X
        dsimp only
        refine xq_heldS hp3 hv hks em (br_f n0 (xq_n1 (n := 1) hf (by omega) (br_f (by decide) ⟨rd_in (by omega), ?_⟩)))
        rw [ci]
        refine br_t hs (xq_ref (by omega) (by omega) hs o3 o4 o5 o2 ?_)
        rw [e2, c2]
        rw [b0]
        exact br_t rfl ⟨rd_in (by omega), nm_e hp⟩
      · unfold wpY_put rd_Y
        dsimp only
        refine yq_plainS hp3 hv hks em ?_
        rw [if_pos hs]
        refine br_f (by decide) (yq_n1 (n := 2) (by omega) (by omega) (br_f (by decide) (yq_heldS hp3 hv hks em (yq_ref (by omega) (by omega) o1 o7 o8 o2 ?_))))
        rw [e2, c2]
        rw [b0]
        exact br_t rfl ⟨rd_in (by omega), nm_e hp⟩
    rcases rd_rng 3 (by decide) v4 with ⟨x, hx, rfl⟩ | ⟨hX, hY⟩
    case inr =>
      have hRf := rd_OR_ce (X := 12 * p + ks) (j := f) (x := -1) (by omega) (fun _ _ => ⟨none, rfl, fun _ z => nomatch z⟩) hR7
      refine ⟨1, rd_X pa ab d (xB, xR, xK, xU, xH, xF, xG, xT) t (so, ho, upd ce (2 * (12 * p + ks) + f) (-1), va, la, gi) (li, nw, xC, xt, xL) g, rd_Y pa bl d (yN, yB, yR, yK, yO, yA, yH, yF, yG, yU, yT) t' (so, ho, upd ce (2 * (12 * p + ks) + f) (-1), va, la, gi) (tm, yC, yt, yL, ap) ys g', rd_mkrel hpa hD hC hRf, fun post hp => ?_, fun post hp => ?_⟩
      · unfold wpX_put rd_X
        dsimp only
        refine xq_heldS hp3 hv hks em (br_f n0 (xq_n1 (n := 1) hf (by omega) (br_f (by decide) ⟨rd_in (by omega), ?_⟩)))
        rw [ci]
        refine br_t hs (xq_ref (by omega) (by omega) hs o3 o4 o5 o2 ?_)
        rw [e2, c2]
        rw [bit]
        exact br_f (by decide) (hX _ (br_t rfl ⟨rd_in (by omega), nm_e hp⟩))
      · unfold wpY_put rd_Y
        dsimp only
        refine yq_plainS hp3 hv hks em ?_
        rw [if_pos hs]
        refine br_f (by decide) (yq_n1 (n := 2) (by omega) (by omega) (br_f (by decide) (yq_heldS hp3 hv hks em (yq_ref (by omega) (by omega) o1 o7 o8 o2 ?_))))
        rw [e2, c2]
        rw [bit]
        exact br_f (by decide) (hY _ (br_t rfl ⟨rd_in (by omega), nm_e hp⟩))
    obtain ⟨mx, ex, hmx⟩ := (rd_va (v := x) hR hp3 (by omega)).1
    have ex : va (4 * p + x) = rd_o mx := ex
    have e4x : 4 * nI p + nI x = nI (4 * p + x) := by rw [rd_m4, nI_add]
    have c4x : (nI (4 * p + x)).toNatClampNeg = 4 * p + x := rd_cl (by omega)
    have hRf := rd_OR_ce (X := 12 * p + ks) (j := f) (x := rd_o mx) (by omega) (fun _ _ => by rw [show (12 * p + ks) / 12 = p by omega]; exact ⟨mx, rfl, hmx⟩) hR7
    refine ⟨1, rd_X pa ab d (xB, xR, xK, xU, xH, xF, xG, xT) t (so, ho, upd ce (2 * (12 * p + ks) + f) (rd_o mx), va, la, gi) (li, nw, xC, xt, xL) g, rd_Y pa bl d (yN, yB, yR, yK, yO, yA, yH, yF, yG, yU, yT) t' (so, ho, upd ce (2 * (12 * p + ks) + f) (rd_o mx), va, la, gi) (tm, yC, yt, yL, ap) ys g', rd_mkrel hpa hD hC hRf, fun post hp => ?_, fun post hp => ?_⟩
    · unfold wpX_put rd_X
      dsimp only
      refine xq_heldS hp3 hv hks em (br_f n0 (xq_n1 (n := 1) hf (by omega) (br_f (by decide) ⟨rd_in (by omega), ?_⟩)))
      rw [ci]
      refine br_t hs (xq_ref (by omega) (by omega) hs o3 o4 o5 o2 ?_)
      rw [e2, c2]
      rw [bit]
      refine br_f (by decide) (xq_n1 (n := 3) hx (by omega) (br_f (by decide) ?_))
      rw [e4x, c4x, ex]
      exact ⟨rd_in (by omega), rd_in (by omega), nm_e hp⟩
    · unfold wpY_put rd_Y
      dsimp only
      refine yq_plainS hp3 hv hks em ?_
      rw [if_pos hs]
      refine br_f (by decide) (yq_n1 (n := 2) (by omega) (by omega) (br_f (by decide) (yq_heldS hp3 hv hks em (yq_ref (by omega) (by omega) o1 o7 o8 o2 ?_))))
      rw [e2, c2]
      rw [bit]
      refine br_f (by decide) (yq_n1 (n := 4) (by omega) (by omega) (br_f (by decide) ?_))
      rw [e4x, c4x, ex]
      exact ⟨rd_in (by omega), rd_in (by omega), nm_e hp⟩
theorem i_vc_walk {k : Nat} {u : SX} {v : SY} (I : i_Rel k u v) (hk : k + 7 ≤ 3584) (v1 : Int32) (v2 : Int32) (v3 : Int32) : wpX_walk (fun r u' => wpY_walk (fun r' v' => r' = r ∧ i_Rel (k + 7) u' v') v v1 v2 v3) u v1 v2 v3 := by
  refine rd_fin (WX := fun post => wpX_walk post u v1 v2 v3) (WY := fun post => wpY_walk post v v1 v2 v3) ?_
  obtain ⟨T, A, pa, ab, bl, d, c, c', t, t', w, o, o', ys, g, g', rfl, rfl, hpa, hD, hC, hR⟩ := I
  have hR7 := rd_OR_mono (show k ≤ k + 7 by omega) hR
  have rel : i_Rel (k + 7) (rd_X pa ab d c t w o g) (rd_Y pa bl d c' t' w o' ys g') := rd_mkrel hpa hD hC hR7
  rcases rd_slot v1 v2 with ⟨p, hp3, v, hv, rfl, rfl⟩ | ⟨hXs, hYs⟩
  case inr =>
    refine ⟨0, _, _, rel, fun post hp => ?_, fun post hp => ?_⟩
    · unfold wpX_walk rd_X
      dsimp only
      exact xq_held0 hXs (br_t rd_m1n hp)
    · unfold wpY_walk rd_Y
      dsimp only
      exact yq_plain0 hYs (br_t rfl hp)
  obtain ⟨mo, em, hmo⟩ := (rd_va hR hp3 hv).1
  obtain ⟨N, P, sh, fl, sg, st, pr, kn⟩ := T
  obtain ⟨oc, tk, le, hm, gv, lm, tn⟩ := A
  obtain ⟨so, ho, ce, va, la, gi⟩ := w
  obtain ⟨li, nw, xC, xt, xL⟩ := o
  obtain ⟨tm, yC, yt, yL, ap⟩ := o'
  obtain ⟨xB, xR, xK, xU, xH, xF, xG, xT⟩ := c
  obtain ⟨yN, yB, yR, yK, yO, yA, yH, yF, yG, yU, yT⟩ := c'
  have em : va (4 * p + v) = rd_o mo := em
  have hmo : ∀ k, mo = some k → k < 12 ∧ ¬ so (12 * p + k) = 0 := hmo
  cases mo with
  | none =>
    refine ⟨0, _, _, rel, fun post hp => ?_, fun post hp => ?_⟩
    · unfold wpX_walk rd_X
      dsimp only
      exact xq_heldN hp3 hv em (br_t rd_m1n hp)
    · unfold wpY_walk rd_Y
      dsimp only
      exact yq_plainN hp3 hv em (br_t rfl hp)
  | some ks =>
    obtain ⟨hks, hnf⟩ := hmo ks rfl
    have ci : (nI (12 * p + ks)).toNatClampNeg = 12 * p + ks := rd_cl (by omega)
    have n0 : ¬ nI (12 * p + ks) < 0 := nI_pos (by omega)
    by_cases hs : so (12 * p + ks) = 1
    case neg =>
      refine ⟨0, _, _, rel, fun post hp => ?_, fun post hp => ?_⟩
      · unfold wpX_walk rd_X
        dsimp only
        refine xq_heldS hp3 hv hks em (br_f n0 ?_)
        rcases rd_rng 1 (by decide) v3 with ⟨f, hf, rfl⟩ | ⟨hX, hY⟩
        · exact xq_n1 (n := 1) hf (by omega) (br_f (by decide) (xq_ref0 (by omega) hs (br_t rfl hp)))
        · exact hX _ (br_t rfl hp)
      · unfold wpY_walk rd_Y
        dsimp only
        refine yq_plainS hp3 hv hks em ?_
        rw [if_neg hs]
        exact br_t rfl hp
    rcases rd_rng 1 (by decide) v3 with ⟨f, hf, rfl⟩ | ⟨hX, hY⟩
    case inr =>
      refine ⟨0, _, _, rel, fun post hp => ?_, fun post hp => ?_⟩
      · unfold wpX_walk rd_X
        dsimp only
        refine xq_heldS hp3 hv hks em (br_f n0 ?_)
        exact hX _ (br_t rfl hp)
      · unfold wpY_walk rd_Y
        dsimp only
        refine yq_plainS hp3 hv hks em ?_
        rw [if_pos hs]
        exact br_f (by decide) (hY _ (br_t rfl hp))
    obtain ⟨o1, o2, o3, o4, o5, o6, o7, o8, o9, o10, o11, o12⟩ := rd_obj hC hR (i := 12 * p + ks) (by omega) hs
    have e2 : 2 * nI (12 * p + ks) + nI f = nI (2 * (12 * p + ks) + f) := by rw [rd_m2, nI_add]
    have c2 : (nI (2 * (12 * p + ks) + f)).toNatClampNeg = 2 * (12 * p + ks) + f := rd_cl (by omega)
    have e4v : 4 * nI p + nI v = nI (4 * p + v) := by rw [rd_m4, nI_add]
    have c4v : (nI (4 * p + v)).toNatClampNeg = 4 * p + v := rd_cl (by omega)
    by_cases bit : sh (oc (12 * p + ks)) / 2 ^ f % 2 = 1
    case neg =>
      have b0 : sh (oc (12 * p + ks)) / 2 ^ f % 2 = 0 := by omega
      refine ⟨0, _, _, rel, fun post hp => ?_, fun post hp => ?_⟩
      · unfold wpX_walk rd_X
        dsimp only
        refine xq_heldS hp3 hv hks em (br_f n0 (xq_n1 (n := 1) hf (by omega) (br_f (by decide) (xq_ref (by omega) (by omega) hs o3 o4 o5 o2 ?_))))
        rw [b0]
        exact br_t rfl hp
      · unfold wpY_walk rd_Y
        dsimp only
        refine yq_plainS hp3 hv hks em ?_
        rw [if_pos hs]
        refine br_f (by decide) (yq_n1 (n := 2) (by omega) (by omega) (br_f (by decide) (yq_heldS hp3 hv hks em (yq_ref (by omega) (by omega) o1 o7 o8 o2 ?_))))
        rw [b0]
        exact br_t rfl hp
    obtain ⟨mx, ex, hmx⟩ := hR.1.2.2.2.2.2.2.2.2 (12 * p + ks) (by omega) hs f (by omega) bit
    rw [show (12 * p + ks) / 12 = p by omega] at hmx
    have hRf := rd_OR_va (v := v) (x := rd_o mx) hp3 hv ⟨mx, rfl, hmx⟩ hR7
    have hmb : ∀ j, mx = some j → j < 128 := fun j e => by have := (hmx j e).1; omega
    refine ⟨1, rd_X pa ab d (xB, xR, xK, xU, xH, xF, xG, xT) t (so, ho, ce, upd va (4 * p + v) (rd_o mx), la, gi) (li, nw, xC, xt, xL) g, rd_Y pa bl d (yN, yB, yR, yK, yO, yA, yH, yF, yG, yU, yT) t' (so, ho, ce, upd va (4 * p + v) (rd_o mx), la, gi) (tm, yC, yt, yL, ap) ys g', rd_mkrel hpa hD hC hRf, fun post hp => ?_, fun post hp => ?_⟩
    · unfold wpX_walk rd_X
      dsimp only
      refine xq_heldS hp3 hv hks em (br_f n0 (xq_n1 (n := 1) hf (by omega) (br_f (by decide) (xq_ref (by omega) (by omega) hs o3 o4 o5 o2 ?_))))
      rw [bit, e2, c2, ex, e4v, c4v, rd_nb8o hmb]
      exact br_f (by decide) ⟨rd_in (by omega), rd_in (by omega), nm_e hp⟩
    · unfold wpY_walk rd_Y
      dsimp only
      refine yq_plainS hp3 hv hks em ?_
      rw [if_pos hs]
      refine br_f (by decide) (yq_n1 (n := 2) (by omega) (by omega) (br_f (by decide) (yq_heldS hp3 hv hks em (yq_ref (by omega) (by omega) o1 o7 o8 o2 ?_))))
      rw [bit, e2, c2, ex, e4v, c4v]
      exact br_f (by decide) ⟨rd_in (by omega), rd_in (by omega), nm_e hp⟩
end
section
/-! owed: bind, retire, lookup, link -/
section
variable {K N p ks lm t : Nat} {P sh fl sg st oc tk le hm gv : Nat → Nat} {pr kn : Nat → Option Nat} {li tm : Int32} {nw : Int64} {so ho ce va la gi xC xt yC yt yL ap : rt_F} {xL : Nat → Int64}
/-- a ticket is given -/
theorem rd_OR_tk (hp3 : p < 3) (hks : ks < 12) (hs : so (12 * p + ks) = 1) (hR : rd_OR K (N, P, sh, fl, sg, st, pr, kn) (oc, tk, le, hm, gv, lm, t) (so, ho, ce, va, la, gi) (li, nw, xC, xt, xL) (tm, yC, yt, yL, ap)) :
    rd_OR (K + 7) (N, P, sh, fl, sg, st, pr, kn) (oc, rd_u tk (12 * p + ks) (gv p + 1), le, hm, rd_u gv p (gv p + 1), lm, t) (so, ho, ce, va, la, upd gi p (nI (gv p + 1))) (li, nw, xC, upd xt (12 * p + ks) (nI (gv p + 1)), xL) (tm, yC, upd yt (12 * p + ks) (nI (gv p + 1)), yL, ap) := by
  obtain ⟨⟨a1, a2, a3, a4, a5, a6, a7, a8, a9⟩, ⟨b1, b2, b3, b4, b5⟩, ⟨d1, d2, d3, d4, d5⟩⟩ := hR
  have hg := (a7 p hp3).2
  have hle : ∀ q, q < 3 → gv q ≤ rd_u gv p (gv p + 1) q := fun q hq => by
    by_cases e : q = p
    · subst e; rw [rd_us]; omega
    · rw [rd_un e]; exact Nat.le_refl _
  refine ⟨⟨⟨a1.1, by omega⟩, fun i hi => ?_, fun i hi h1 => ?_, fun i hi h2 => ?_, fun i hi j hj hij h1 h2 h3 h4 => ?_, a6, fun q hq => ?_, a8, a9⟩, ⟨b1, b2, b3, fun i hi h1 => ?_, b5⟩, ⟨d1, d2, fun i hi h1 => ?_, d4, d5⟩⟩
  · obtain ⟨e1, e2, e3, e4⟩ := a2 i hi
    refine ⟨e1, e2, e3, ?_⟩
    by_cases e : i = 12 * p + ks
    · rw [e, rd_us]; omega
    · rw [rd_un e]; omega
  · obtain ⟨e1, e2⟩ := a3 i hi h1
    refine ⟨e1, ?_⟩
    by_cases e : i = 12 * p + ks
    · rw [e, rd_us, show (12 * p + ks) / 12 = p by omega, rd_us]; omega
    · rw [rd_un e]; exact Nat.le_trans e2 (hle _ (by omega))
  · have hne : i ≠ 12 * p + ks := fun e => by rw [e, hs] at h2; exact absurd h2 (by decide)
    rw [rd_un hne]; exact a4 i hi h2
  · by_cases e : i = 12 * p + ks
    · by_cases e' : j = 12 * p + ks
      · omega
      · rw [e, rd_us, rd_un e'] at h3
        have := (a3 j hj h2).2
        rw [show j / 12 = p by omega] at this
        omega
    · by_cases e' : j = 12 * p + ks
      · rw [e', rd_us, rd_un e] at h3
        have := (a3 i hi h1).2
        rw [show i / 12 = p by omega] at this
        omega
      · rw [rd_un e, rd_un e'] at h3
        rw [rd_un e] at h4
        exact a5 i hi j hj hij h1 h2 h3 h4
  · by_cases e : q = p
    · subst e; rw [pk_us, rd_us]; exact ⟨rfl, by omega⟩
    · rw [pk_un e, rd_un e]; exact ⟨(a7 q hq).1, by have := (a7 q hq).2; omega⟩
  · by_cases e : i = 12 * p + ks
    · rw [e, pk_us, rd_us]
    · rw [pk_un e, rd_un e]; exact b4 i hi h1
  · by_cases e : i = 12 * p + ks
    · rw [e, pk_us, rd_us]
    · rw [pk_un e, rd_un e]; exact d3 i hi h1
def rd_z3 (f : rt_F) (i : Nat) : rt_F := upd (upd (upd f (3 * i) 0) (3 * i + 1) 0) (3 * i + 2) 0
def rd_zL (f : Nat → Int64) (i : Nat) : Nat → Int64 := vp_updL (vp_updL (vp_updL f (3 * i) 0) (3 * i + 1) 0) (3 * i + 2) 0
def rd_zN (f : Nat → Nat) (i : Nat) : Nat → Nat := fun x => if x / 3 = i then 0 else f x
theorem rd_z3s {f : rt_F} {i q : Nat} (hq : q < 3) : rd_z3 f i (3 * i + q) = 0 := by
  unfold rd_z3
  have : q = 0 ∨ q = 1 ∨ q = 2 := by omega
  rcases this with rfl | rfl | rfl
  · rw [pk_un (by omega), pk_un (by omega)]; exact pk_us
  · rw [pk_un (by omega)]; exact pk_us
  · exact pk_us
theorem rd_z3n {f : rt_F} {i x : Nat} (h : x / 3 ≠ i) : rd_z3 f i x = f x := by
  unfold rd_z3
  rw [pk_un (by omega), pk_un (by omega), pk_un (by omega)]
theorem rd_zLs {f : Nat → Int64} {i q : Nat} (hq : q < 3) : rd_zL f i (3 * i + q) = 0 := by
  unfold rd_zL
  have : q = 0 ∨ q = 1 ∨ q = 2 := by omega
  rcases this with rfl | rfl | rfl
  · rw [pk_uLn (by omega), pk_uLn (by omega)]; exact pk_uLs
  · rw [pk_uLn (by omega)]; exact pk_uLs
  · exact pk_uLs
theorem rd_zLn {f : Nat → Int64} {i x : Nat} (h : x / 3 ≠ i) : rd_zL f i x = f x := by
  unfold rd_zL
  rw [pk_uLn (by omega), pk_uLn (by omega), pk_uLn (by omega)]
theorem rd_zNs {f : Nat → Nat} {i x : Nat} (h : x / 3 = i) : rd_zN f i x = 0 := if_pos h
theorem rd_zNn {f : Nat → Nat} {i x : Nat} (h : ¬ x / 3 = i) : rd_zN f i x = f x := if_neg h
/-- a ticket and its leases go -/
theorem rd_OR_rt {i : Nat} (hi36 : i < 36) (hs : so i = 1) (hR : rd_OR K (N, P, sh, fl, sg, st, pr, kn) (oc, tk, le, hm, gv, lm, t) (so, ho, ce, va, la, gi) (li, nw, xC, xt, xL) (tm, yC, yt, yL, ap)) :
    rd_OR K (N, P, sh, fl, sg, st, pr, kn) (oc, rd_u tk i 0, rd_zN le i, hm, gv, lm, t) (so, ho, ce, va, la, gi) (li, nw, xC, upd xt i 0, rd_zL xL i) (tm, yC, upd yt i 0, rd_z3 yL i, ap) := by
  obtain ⟨⟨a1, a2, a3, a4, a5, a6, a7, a8, a9⟩, ⟨b1, b2, b3, b4, b5⟩, ⟨d1, d2, d3, d4, d5⟩⟩ := hR
  refine ⟨⟨a1, fun x hx => ?_, fun x hx h1 => ?_, fun x hx h2 => ?_, fun x hx y hy hxy h1 h2 h3 h4 => ?_, fun x hx q hq => ?_, a7, a8, a9⟩, ⟨b1, b2, b3, fun x hx h1 => ?_, fun x hx q hq => ?_⟩, ⟨d1, d2, fun x hx h1 => ?_, fun x hx h1 q hq => ?_, d5⟩⟩
  · obtain ⟨e1, e2, e3, e4⟩ := a2 x hx
    refine ⟨e1, e2, e3, ?_⟩
    by_cases e : x = i
    · rw [e, rd_us]; exact Nat.zero_le _
    · rw [rd_un e]; exact e4
  · obtain ⟨e1, e2⟩ := a3 x hx h1
    refine ⟨e1, ?_⟩
    by_cases e : x = i
    · rw [e, rd_us]; exact Nat.zero_le _
    · rw [rd_un e]; exact e2
  · have hne : x ≠ i := fun e => by rw [e, hs] at h2; exact absurd h2 (by decide)
    rw [rd_un hne]; exact a4 x hx h2
  · by_cases e : x = i
    · rw [e, rd_us] at h4; exact absurd rfl h4
    · by_cases e' : y = i
      · rw [h3, e', rd_us] at h4; exact absurd rfl h4
      · rw [rd_un e, rd_un e'] at h3
        rw [rd_un e] at h4
        exact a5 x hx y hy hxy h1 h2 h3 h4
  · by_cases e : x = i
    · rw [rd_zNs (by omega)]; exact ⟨Nat.zero_le _, fun _ => rfl⟩
    · rw [rd_zNn (by omega)]; exact a6 x hx q hq
  · by_cases e : x = i
    · rw [e, pk_us, rd_us]; rfl
    · rw [pk_un e, rd_un e]; exact b4 x hx h1
  · by_cases e : x = i
    · rw [rd_zNs (by omega), e, rd_zLs hq]; rfl
    · rw [rd_zNn (by omega), rd_zLn (by omega)]; exact b5 x hx q hq
  · by_cases e : x = i
    · rw [e, pk_us, rd_us]; rfl
    · rw [pk_un e, rd_un e]; exact d3 x hx h1
  · by_cases e : x = i
    · rw [rd_zNs (by omega), e, rd_z3s hq]; rfl
    · rw [rd_zNn (by omega), rd_z3n (by omega)]; exact d4 x hx h1 q hq
end
section
variable {li gIt pa ab yN yk tm hIt py bl : Int32} {dO dP dS dF dG dR dA xB xR xK xU xH xF xG xT xc xo xl so ho xC ce xt va la gi gSk gOd gIo gSo gNa gSh gSr gMa gTi gCe yB yR yK yO yA yH yF yG yU yT yb yc yl yp yC yt yL ap ys hLi hOp hNa hSh hSr hTi hCe hRe : Nat → Int32} {nw : Int64} {xL : Nat → Int64}
theorem xq_forget {post : SX → Prop} {i : Nat} (hi : i < 36) (hp : post (li, nw, gIt, pa, ab, dO, dP, dS, dF, dG, dR, dA, xB, xR, xK, xU, xH, xF, xG, xT, xc, xo, xl, so, ho, xC, ce, upd xt i 0, rd_zL xL i, va, la, gi, gSk, gOd, gIo, gSo, gNa, gSh, gSr, gMa, gTi, gCe)) : wpX_forget post (li, nw, gIt, pa, ab, dO, dP, dS, dF, dG, dR, dA, xB, xR, xK, xU, xH, xF, xG, xT, xc, xo, xl, so, ho, xC, ce, xt, xL, va, la, gi, gSk, gOd, gIo, gSo, gNa, gSh, gSr, gMa, gTi, gCe) (nI i) := by
  have e3 : ∀ x1 : Int32, x1 = nI i → (3 * x1) + 3 = nI (3 * i + 3) := fun x1 e => by rw [e, rd_m3, rd_a3]
  unfold wpX_forget
  dsimp only
  rw [rd_cl (by omega), rd_m3]
  refine ⟨rd_in hi, nm_e (nm_e ⟨4, ?_⟩)⟩
  refine br_f (by rw [e3 _ rfl]; exact nI_ge (by omega) (by omega)) ⟨rd_in (by omega), ?_⟩
  rw [rd_cl (by omega)]
  refine nm_e (nm_r (nI_1 _) ?_)
  refine br_f (by rw [e3 _ rfl]; exact nI_ge (by omega) (by omega)) ⟨rd_in (by omega), ?_⟩
  rw [rd_cl (by omega)]
  refine nm_e (nm_r (nI_1 _) ?_)
  refine br_f (by rw [e3 _ rfl]; exact nI_ge (by omega) (by omega)) ⟨rd_in (by omega), ?_⟩
  rw [rd_cl (by omega)]
  refine nm_e (nm_r (nI_1 _) ?_)
  exact br_t (by rw [e3 _ rfl]; exact Int32.le_refl _) hp
theorem yq_ret39 {post : Int32 → SY → Prop} {i : Nat} (hi : i < 36) (hp : post 1 (yN, yk, tm, hIt, py, bl, dO, dP, dS, dF, dG, dR, dA, yB, yR, yK, yO, yA, yH, yF, yG, yU, yT, yb, yc, yl, yp, so, yC, yt, ho, ce, rd_z3 yL i, va, la, gi, ap, ys, hLi, hOp, hNa, hSh, hSr, hTi, hCe, hRe)) : ∃ n, wY_retire_39 post (nI i) yN yk tm hIt py bl n 0 dO dP dS dF dG dR dA yB yR yK yO yA yH yF yG yU yT yb yc yl yp so yC yt ho ce yL va la gi ap ys hLi hOp hNa hSh hSr hTi hCe hRe := by
  refine ⟨4, ?_⟩
  refine br_f (by decide) ?_
  rw [show (0 : Int32) = nI 0 from rfl, rd_m3, nI_add, rd_cl (by omega)]
  refine ⟨rd_in (by omega), nm_e (nm_r (nI_1 0) ?_)⟩
  refine br_f (by decide) ?_
  rw [rd_m3, nI_add, rd_cl (by omega)]
  refine ⟨rd_in (by omega), nm_e (nm_r (nI_1 (0 + 1)) ?_)⟩
  refine br_f (by decide) ?_
  rw [rd_m3, nI_add, rd_cl (by omega)]
  refine ⟨rd_in (by omega), nm_e (nm_r (nI_1 (0 + 1 + 1)) ?_)⟩
  exact br_t (by decide) hp
end
theorem i_vc_retire {k : Nat} {u : SX} {v : SY} (I : i_Rel k u v) (hk : k + 7 ≤ 3584) (v1 : Int32) (v2 : Int32) : wpX_retire (fun r u' => wpY_retire (fun r' v' => r' = r ∧ i_Rel (k + 7) u' v') v v1 v2) u v1 v2 := by
  refine rd_fin (WX := fun post => wpX_retire post u v1 v2) (WY := fun post => wpY_retire post v v1 v2) ?_
  obtain ⟨T, A, pa, ab, bl, d, c, c', t, t', w, o, o', ys, g, g', rfl, rfl, hpa, hD, hC, hR⟩ := I
  have hR7 := rd_OR_mono (show k ≤ k + 7 by omega) hR
  have rel : i_Rel (k + 7) (rd_X pa ab d c t w o g) (rd_Y pa bl d c' t' w o' ys g') := rd_mkrel hpa hD hC hR7
  rcases rd_slot v1 v2 with ⟨p, hp3, v, hv, rfl, rfl⟩ | ⟨hXs, hYs⟩
  case inr =>
    refine ⟨0, _, _, rel, fun post hp => ?_, fun post hp => ?_⟩
    · unfold wpX_retire rd_X
      dsimp only
      exact xq_held0 hXs (br_t rd_m1n hp)
    · unfold wpY_retire rd_Y
      dsimp only
      exact yq_plain0 hYs (br_t rfl hp)
  obtain ⟨mo, em, hmo⟩ := (rd_va hR hp3 hv).1
  obtain ⟨N, P, sh, fl, sg, st, pr, kn⟩ := T
  obtain ⟨oc, tk, le, hm, gv, lm, tn⟩ := A
  obtain ⟨so, ho, ce, va, la, gi⟩ := w
  obtain ⟨li, nw, xC, xt, xL⟩ := o
  obtain ⟨tm, yC, yt, yL, ap⟩ := o'
  obtain ⟨xB, xR, xK, xU, xH, xF, xG, xT⟩ := c
  obtain ⟨yN, yB, yR, yK, yO, yA, yH, yF, yG, yU, yT⟩ := c'
  have em : va (4 * p + v) = rd_o mo := em
  have hmo : ∀ k, mo = some k → k < 12 ∧ ¬ so (12 * p + k) = 0 := hmo
  cases mo with
  | none =>
    refine ⟨0, _, _, rel, fun post hp => ?_, fun post hp => ?_⟩
    · unfold wpX_retire rd_X
      dsimp only
      exact xq_heldN hp3 hv em (br_t rd_m1n hp)
    · unfold wpY_retire rd_Y
      dsimp only
      exact yq_plainN hp3 hv em (br_t rfl hp)
  | some ks =>
    obtain ⟨hks, hnf⟩ := hmo ks rfl
    have ci : (nI (12 * p + ks)).toNatClampNeg = 12 * p + ks := rd_cl (by omega)
    have n0 : ¬ nI (12 * p + ks) < 0 := nI_pos (by omega)
    have hxt := hR.2.1.2.2.2.1 (12 * p + ks) (by omega) hnf
    have hyt := hR.2.2.2.2.1 (12 * p + ks) (by omega) hnf
    have htK := (hR.1.2.1 (12 * p + ks) (by omega)).2.2.2
    by_cases hs : so (12 * p + ks) = 1
    case neg =>
      refine ⟨0, _, _, rel, fun post hp => ?_, fun post hp => ?_⟩
      · unfold wpX_retire rd_X
        dsimp only
        refine xq_heldS hp3 hv hks em (br_f n0 ?_)
        unfold wpX_isExported
        dsimp only
        rw [ci]
        exact ⟨rd_in (by omega), br_f hs (br_t rfl hp)⟩
      · unfold wpY_retire rd_Y
        dsimp only
        refine yq_plainS hp3 hv hks em ?_
        rw [if_neg hs]
        exact br_t rfl hp
    by_cases ht : tk (12 * p + ks) = 0
    case pos =>
      refine ⟨0, _, _, rel, fun post hp => ?_, fun post hp => ?_⟩
      · unfold wpX_retire rd_X
        dsimp only
        refine xq_heldS hp3 hv hks em (br_f n0 ?_)
        unfold wpX_isExported
        dsimp only
        rw [ci]
        rw [hxt, ht]
        exact ⟨rd_in (by omega), br_t hs ⟨rd_in (by omega), br_t (Int32.le_refl _) (br_t rfl hp)⟩⟩
      · unfold wpY_retire rd_Y
        dsimp only
        refine yq_plainS hp3 hv hks em ?_
        rw [if_pos hs]
        refine br_f (by decide) (yq_heldS hp3 hv hks em ?_)
        rw [ci, hyt]
        rw [ht]
        exact ⟨rd_in (by omega), br_t rfl hp⟩
    have hRf := rd_OR_rt (show 12 * p + ks < 36 by omega) hs hR7
    refine ⟨1, rd_X pa ab d (xB, xR, xK, xU, xH, xF, xG, xT) t (so, ho, ce, va, la, gi) (li, nw, xC, upd xt (12 * p + ks) 0, rd_zL xL (12 * p + ks)) g, rd_Y pa bl d (yN, yB, yR, yK, yO, yA, yH, yF, yG, yU, yT) t' (so, ho, ce, va, la, gi) (tm, yC, upd yt (12 * p + ks) 0, rd_z3 yL (12 * p + ks), ap) ys g', rd_mkrel hpa hD hC hRf, fun post hp => ?_, fun post hp => ?_⟩
    · unfold wpX_retire rd_X
      dsimp only
      refine xq_heldS hp3 hv hks em (br_f n0 ?_)
      unfold wpX_isExported
      dsimp only
      rw [ci]
      rw [hxt]
      exact ⟨rd_in (by omega), br_t hs ⟨rd_in (by omega), br_f (nI_nle (by omega) (by omega)) (br_f (by decide) (xq_forget (by omega) hp))⟩⟩
    · unfold wpY_retire rd_Y
      dsimp only
      refine yq_plainS hp3 hv hks em ?_
      rw [if_pos hs]
      refine br_f (by decide) (yq_heldS hp3 hv hks em ?_)
      rw [ci, hyt]
      exact ⟨rd_in (by omega), br_f (nI_ne0 (by omega) (by omega)) ⟨rd_in (by omega), nm_e (yq_ret39 (by omega) hp)⟩⟩
theorem i_vc_bind {k : Nat} {u : SX} {v : SY} (I : i_Rel k u v) (hk : k + 7 ≤ 3584) (v1 : Int32) (v2 : Int32) (v3 : Int32) : wpX_bind (fun r u' => wpY_bind (fun r' v' => r' = r ∧ i_Rel (k + 7) u' v') v v1 v2 v3) u v1 v2 v3 := by
  refine rd_fin (WX := fun post => wpX_bind post u v1 v2 v3) (WY := fun post => wpY_bind post v v1 v2 v3) ?_
  obtain ⟨T, A, pa, ab, bl, d, c, c', t, t', w, o, o', ys, g, g', rfl, rfl, hpa, hD, hC, hR⟩ := I
  have hR7 := rd_OR_mono (show k ≤ k + 7 by omega) hR
  have rel : i_Rel (k + 7) (rd_X pa ab d c t w o g) (rd_Y pa bl d c' t' w o' ys g') := rd_mkrel hpa hD hC hR7
  rcases rd_slot v1 v3 with ⟨p, hp3, v, hv, rfl, rfl⟩ | ⟨hXs, hYs⟩
  case inr =>
    refine ⟨-1, _, _, rel, fun post hp => ?_, fun post hp => ?_⟩
    · unfold wpX_bind rd_X
      dsimp only
      exact xq_held0 hXs (br_t rd_m1n hp)
    · unfold wpY_bind rd_Y
      dsimp only
      exact yq_plain0 hYs (br_t rfl hp)
  obtain ⟨mo, em, hmo⟩ := (rd_va hR hp3 hv).1
  obtain ⟨N, P, sh, fl, sg, st, pr, kn⟩ := T
  obtain ⟨oc, tk, le, hm, gv, lm, tn⟩ := A
  obtain ⟨so, ho, ce, va, la, gi⟩ := w
  obtain ⟨li, nw, xC, xt, xL⟩ := o
  obtain ⟨tm, yC, yt, yL, ap⟩ := o'
  obtain ⟨xB, xR, xK, xU, xH, xF, xG, xT⟩ := c
  obtain ⟨yN, yB, yR, yK, yO, yA, yH, yF, yG, yU, yT⟩ := c'
  have em : va (4 * p + v) = rd_o mo := em
  have hmo : ∀ k, mo = some k → k < 12 ∧ ¬ so (12 * p + k) = 0 := hmo
  cases mo with
  | none =>
    refine ⟨-1, _, _, rel, fun post hp => ?_, fun post hp => ?_⟩
    · unfold wpX_bind rd_X
      dsimp only
      exact xq_heldN hp3 hv em (br_t rd_m1n hp)
    · unfold wpY_bind rd_Y
      dsimp only
      exact yq_plainN hp3 hv em (br_t rfl hp)
  | some ks =>
    obtain ⟨hks, hnf⟩ := hmo ks rfl
    have ci : (nI (12 * p + ks)).toNatClampNeg = 12 * p + ks := rd_cl (by omega)
    have n0 : ¬ nI (12 * p + ks) < 0 := nI_pos (by omega)
    have hxt := hR.2.1.2.2.2.1 (12 * p + ks) (by omega) hnf
    have hyt := hR.2.2.2.2.1 (12 * p + ks) (by omega) hnf
    have htK := (hR.1.2.1 (12 * p + ks) (by omega)).2.2.2
    by_cases hs : so (12 * p + ks) = 1
    case neg =>
      refine ⟨-1, _, _, rel, fun post hp => ?_, fun post hp => ?_⟩
      · unfold wpX_bind rd_X
        dsimp only
        refine xq_heldS hp3 hv hks em (br_f n0 ?_)
        rcases rd_rngm 3 (by decide) v2 with ⟨m, rfl, hm⟩ | ⟨hX, hY⟩
        · refine xq_o1 (n := 3) hm (by omega) (br_f (by decide) ⟨rd_in (by omega), ?_⟩)
          rw [ci]
          exact br_f hs hp
        · exact hX _ (br_t rfl hp)
      · unfold wpY_bind rd_Y
        dsimp only
        refine yq_plainS hp3 hv hks em ?_
        rw [if_neg hs]
        exact br_t rfl hp
    rcases rd_rngm 3 (by decide) v2 with ⟨m, rfl, hm⟩ | ⟨hX, hY⟩
    case inr =>
      refine ⟨-1, _, _, rel, fun post hp => ?_, fun post hp => ?_⟩
      · unfold wpX_bind rd_X
        dsimp only
        refine xq_heldS hp3 hv hks em (br_f n0 ?_)
        exact hX _ (br_t rfl hp)
      · unfold wpY_bind rd_Y
        dsimp only
        refine yq_plainS hp3 hv hks em ?_
        rw [if_pos hs]
        exact br_f (by decide) (hY _ (br_t rfl hp))
    have hgi := (hR.1.2.2.2.2.2.2.1 p hp3).1
    have cp : (nI p).toNatClampNeg = p := rd_cl (by omega)
    have e4v : 4 * nI p + nI v = nI (4 * p + v) := by rw [rd_m4, nI_add]
    have c4v : (nI (4 * p + v)).toNatClampNeg = 4 * p + v := rd_cl (by omega)
    have hnb : vp_nar .byte (va (4 * p + v)) = nI ks := by rw [em]; exact rd_nb (by omega)
    -- the ticket, then the label
    obtain ⟨tau, A1, xt1, yt1, gi1, hR1, ext1, eyt1, X1, Y1⟩ : ∃ (tau : Nat) (A1 : rt_A) (xt1 yt1 gi1 : rt_F), rd_OR (k + 7) (N, P, sh, fl, sg, st, pr, kn) A1 (so, ho, ce, va, la, gi1) (li, nw, xC, xt1, xL) (tm, yC, yt1, yL, ap) ∧ xt1 (12 * p + ks) = nI tau ∧ yt1 (12 * p + ks) = nI tau ∧
        (∀ post : Int32 → SX → Prop, wX_bind_63 post (nI p) (rd_o m) (nI v) (nI (12 * p + ks)) li nw g.1 pa ab d.1 d.2.1 d.2.2.1 d.2.2.2.1 d.2.2.2.2.1 d.2.2.2.2.2.1 d.2.2.2.2.2.2 xB xR xK xU xH xF xG xT t.1 t.2.1 t.2.2 so ho xC ce xt1 xL va la gi1 g.2.1 g.2.2.1 g.2.2.2.1 g.2.2.2.2.1 g.2.2.2.2.2.1 g.2.2.2.2.2.2.1 g.2.2.2.2.2.2.2.1 g.2.2.2.2.2.2.2.2.1 g.2.2.2.2.2.2.2.2.2.1 g.2.2.2.2.2.2.2.2.2.2 → wpX_bind post (rd_X pa ab d (xB, xR, xK, xU, xH, xF, xG, xT) t (so, ho, ce, va, la, gi) (li, nw, xC, xt, xL) g) (nI p) (rd_o m) (nI v)) ∧
        (∀ post : Int32 → SY → Prop, wY_bind_57 post (nI p) (rd_o m) (nI v) (nI (12 * p + ks)) yN t'.1 tm g'.1 pa bl d.1 d.2.1 d.2.2.1 d.2.2.2.1 d.2.2.2.2.1 d.2.2.2.2.2.1 d.2.2.2.2.2.2 yB yR yK yO yA yH yF yG yU yT t'.2.1 t'.2.2.1 t'.2.2.2.1 t'.2.2.2.2 so yC yt1 ho ce yL va la gi1 ap ys g'.2.1 g'.2.2.1 g'.2.2.2.1 g'.2.2.2.2.1 g'.2.2.2.2.2.1 g'.2.2.2.2.2.2.1 g'.2.2.2.2.2.2.2.1 g'.2.2.2.2.2.2.2.2 → wpY_bind post (rd_Y pa bl d (yN, yB, yR, yK, yO, yA, yH, yF, yG, yU, yT) t' (so, ho, ce, va, la, gi) (tm, yC, yt, yL, ap) ys g') (nI p) (rd_o m) (nI v)) := by
      have hxb : ∀ post : Int32 → SX → Prop, ((nI (tk (12 * p + ks)) = 0 → (vp_in (nI p) 3 ∧ (vp_in (nI p) 3 ∧ ∀ G : Nat → Int32, G = upd gi p (nI (gv p) + 1) → (vp_in (nI (12 * p + ks)) 36 ∧ ∀ X : Nat → Int32, X = upd xt (12 * p + ks) (nI (gv p) + 1) → wX_bind_63 post (nI p) (rd_o m) (nI v) (nI (12 * p + ks)) li nw g.1 pa ab d.1 d.2.1 d.2.2.1 d.2.2.2.1 d.2.2.2.2.1 d.2.2.2.2.2.1 d.2.2.2.2.2.2 xB xR xK xU xH xF xG xT t.1 t.2.1 t.2.2 so ho xC ce X xL va la G g.2.1 g.2.2.1 g.2.2.2.1 g.2.2.2.2.1 g.2.2.2.2.2.1 g.2.2.2.2.2.2.1 g.2.2.2.2.2.2.2.1 g.2.2.2.2.2.2.2.2.1 g.2.2.2.2.2.2.2.2.2.1 g.2.2.2.2.2.2.2.2.2.2)))) ∧ (¬ nI (tk (12 * p + ks)) = 0 → wX_bind_63 post (nI p) (rd_o m) (nI v) (nI (12 * p + ks)) li nw g.1 pa ab d.1 d.2.1 d.2.2.1 d.2.2.2.1 d.2.2.2.2.1 d.2.2.2.2.2.1 d.2.2.2.2.2.2 xB xR xK xU xH xF xG xT t.1 t.2.1 t.2.2 so ho xC ce xt xL va la gi g.2.1 g.2.2.1 g.2.2.2.1 g.2.2.2.2.1 g.2.2.2.2.2.1 g.2.2.2.2.2.2.1 g.2.2.2.2.2.2.2.1 g.2.2.2.2.2.2.2.2.1 g.2.2.2.2.2.2.2.2.2.1 g.2.2.2.2.2.2.2.2.2.2)) → wpX_bind post (rd_X pa ab d (xB, xR, xK, xU, xH, xF, xG, xT) t (so, ho, ce, va, la, gi) (li, nw, xC, xt, xL) g) (nI p) (rd_o m) (nI v) := by
        intro post h
        unfold wpX_bind rd_X
        dsimp only
        refine xq_heldS hp3 hv hks em (br_f n0 (xq_o1 (n := 3) hm (by omega) (br_f (by decide) ⟨rd_in (by omega), ?_⟩)))
        rw [ci, cp, hxt, hgi]
        exact br_t hs ⟨rd_in (by omega), h⟩
      have hyb : ∀ post : Int32 → SY → Prop, ((nI (tk (12 * p + ks)) = 0 → (vp_in (nI p) 3 ∧ (vp_in (nI p) 3 ∧ ∀ G : Nat → Int32, G = upd gi p (nI (gv p) + 1) → (vp_in (nI (12 * p + ks)) 36 ∧ ∀ X : Nat → Int32, X = upd yt (12 * p + ks) (nI (gv p) + 1) → wY_bind_57 post (nI p) (rd_o m) (nI v) (nI (12 * p + ks)) yN t'.1 tm g'.1 pa bl d.1 d.2.1 d.2.2.1 d.2.2.2.1 d.2.2.2.2.1 d.2.2.2.2.2.1 d.2.2.2.2.2.2 yB yR yK yO yA yH yF yG yU yT t'.2.1 t'.2.2.1 t'.2.2.2.1 t'.2.2.2.2 so yC X ho ce yL va la G ap ys g'.2.1 g'.2.2.1 g'.2.2.2.1 g'.2.2.2.2.1 g'.2.2.2.2.2.1 g'.2.2.2.2.2.2.1 g'.2.2.2.2.2.2.2.1 g'.2.2.2.2.2.2.2.2)))) ∧ (¬ nI (tk (12 * p + ks)) = 0 → wY_bind_57 post (nI p) (rd_o m) (nI v) (nI (12 * p + ks)) yN t'.1 tm g'.1 pa bl d.1 d.2.1 d.2.2.1 d.2.2.2.1 d.2.2.2.2.1 d.2.2.2.2.2.1 d.2.2.2.2.2.2 yB yR yK yO yA yH yF yG yU yT t'.2.1 t'.2.2.1 t'.2.2.2.1 t'.2.2.2.2 so yC yt ho ce yL va la gi ap ys g'.2.1 g'.2.2.1 g'.2.2.2.1 g'.2.2.2.2.1 g'.2.2.2.2.2.1 g'.2.2.2.2.2.2.1 g'.2.2.2.2.2.2.2.1 g'.2.2.2.2.2.2.2.2)) → wpY_bind post (rd_Y pa bl d (yN, yB, yR, yK, yO, yA, yH, yF, yG, yU, yT) t' (so, ho, ce, va, la, gi) (tm, yC, yt, yL, ap) ys g') (nI p) (rd_o m) (nI v) := by
        intro post h
        unfold wpY_bind rd_Y
        dsimp only
        refine yq_plainS hp3 hv hks em ?_
        rw [if_pos hs]
        refine br_f (by decide) (yq_o1 (n := 3) hm (by omega) (br_f (by decide) (yq_heldS hp3 hv hks em ?_)))
        rw [ci, cp, hyt, hgi]
        exact ⟨rd_in (by omega), h⟩
      by_cases ht : tk (12 * p + ks) = 0
      · refine ⟨gv p + 1, _, _, _, _, rd_OR_tk hp3 hks hs hR, pk_us, pk_us, fun post h => hxb post ?_, fun post h => hyb post ?_⟩
        · rw [ht]
          exact br_t rfl ⟨rd_in (by omega), rd_in (by omega), nm_r (by rw [nI_1]) ⟨rd_in (by omega), nm_r (by rw [nI_1]) h⟩⟩
        · rw [ht]
          exact br_t rfl ⟨rd_in (by omega), rd_in (by omega), nm_r (by rw [nI_1]) ⟨rd_in (by omega), nm_r (by rw [nI_1]) h⟩⟩
      · have n0' : ¬ nI (tk (12 * p + ks)) = 0 := nI_ne0 (by omega) (by omega)
        exact ⟨tk (12 * p + ks), _, xt, yt, gi, hR7, hxt, hyt, fun post h => hxb post (br_f n0' h), fun post h => hyb post (br_f n0' h)⟩
    cases m with
    | none =>
      refine ⟨nI tau, _, _, rd_mkrel (t := t) (t' := t') (ys := ys) (g := g) (g' := g') hpa hD hC hR1, fun post hp => X1 post ?_, fun post hp => Y1 post ?_⟩
      · unfold wX_bind_63
        rw [ci, ext1]
        exact br_t rd_m1n ⟨rd_in (by omega), hp⟩
      · unfold wY_bind_57
        rw [ci, eyt1]
        exact br_t rd_m1n ⟨rd_in (by omega), hp⟩
    | some x =>
      have hx := hm x rfl
      have e4x : 4 * nI p + nI x = nI (4 * p + x) := by rw [rd_m4, nI_add]
      have c4x : (nI (4 * p + x)).toNatClampNeg = 4 * p + x := rd_cl (by omega)
      have hRf := rd_OR_la (v := x) (x := nI ks) hp3 (by omega) ⟨some ks, rfl, fun q e => by cases e; exact ⟨hks, hs⟩⟩ hR1
      refine ⟨nI tau, _, _, rd_mkrel (t := t) (t' := t') (ys := ys) (g := g) (g' := g') hpa hD hC hRf, fun post hp => X1 post ?_, fun post hp => Y1 post ?_⟩
      · unfold wX_bind_63
        rw [rd_o1, e4v, c4v, e4x, c4x, hnb, ci, ext1]
        exact br_f (nI_pos (by omega)) ⟨rd_in (by omega), rd_in (by omega), nm_e ⟨rd_in (by omega), hp⟩⟩
      · unfold wY_bind_57
        rw [rd_o1, e4v, c4v, e4x, c4x, em, ci, eyt1]
        exact br_f (nI_pos (by omega)) ⟨rd_in (by omega), rd_in (by omega), nm_e ⟨rd_in (by omega), hp⟩⟩
end
section
/-! owed: lookup, link -/
theorem rd_lx : ∀ m, m < 8 → ∀ p, p < 3 → ∀ q, q < 3 → ¬ p = q → (nI m ^^^ ((1 : Int32) <<< (((nI p + nI q) - 1) &&& 31)) = nI (m ^^^ 2 ^ (p + q - 1)) ∧ m ^^^ 2 ^ (p + q - 1) < 8) := by decide +kernel
theorem rd_axF : ∀ (m : Fin 8) (p q x y : Fin 3), p ≠ q → rd_ap (m.val ^^^ 2 ^ (p.val + q.val - 1)) x.val y.val = if (x.val = p.val ∧ y.val = q.val) ∨ (x.val = q.val ∧ y.val = p.val) then 1 - rd_ap m.val p.val q.val else rd_ap m.val x.val y.val := by decide +kernel
theorem rd_ax (m : Nat) (hm : m < 8) (p : Nat) (hp : p < 3) (q : Nat) (hq : q < 3) (h : ¬ p = q) (x : Nat) (hx : x < 3) (y : Nat) (hy : y < 3) : rd_ap (m ^^^ 2 ^ (p + q - 1)) x y = if (x = p ∧ y = q) ∨ (x = q ∧ y = p) then 1 - rd_ap m p q else rd_ap m x y :=
  rd_axF ⟨m, hm⟩ ⟨p, hp⟩ ⟨q, hq⟩ ⟨x, hx⟩ ⟨y, hy⟩ (fun e => h (congrArg Fin.val e))
theorem rd_asym : ∀ m, m < 8 → ∀ p, p < 3 → ∀ q, q < 3 → rd_ap m p q < 2 := by decide +kernel
theorem i_vc_lookup {k : Nat} {u : SX} {v : SY} (I : i_Rel k u v) (hk : k + 7 ≤ 3584) (v1 : Int32) (v2 : Int32) (v3 : Int32) (v4 : Int32) : wpX_lookup (fun r u' => wpY_lookup (fun r' v' => r' = r ∧ i_Rel (k + 7) u' v') v v1 v2 v3 v4) u v1 v2 v3 v4 := by
  refine rd_fin (WX := fun post => wpX_lookup post u v1 v2 v3 v4) (WY := fun post => wpY_lookup post v v1 v2 v3 v4) ?_
  obtain ⟨T, A, pa, ab, bl, d, c, c', t, t', w, o, o', ys, g, g', rfl, rfl, hpa, hD, hC, hR⟩ := I
  have hR7 := rd_OR_mono (show k ≤ k + 7 by omega) hR
  have rel : i_Rel (k + 7) (rd_X pa ab d c t w o g) (rd_Y pa bl d c' t' w o' ys g') := rd_mkrel hpa hD hC hR7
  rcases rd_slot v1 v4 with ⟨p, hp3, v, hv, rfl, rfl⟩ | ⟨hXs, hYs⟩
  case inr =>
    refine ⟨-1, _, _, rel, fun post hp => ?_, fun post hp => ?_⟩
    · unfold wpX_lookup rd_X
      dsimp only
      exact hXs _ (br_t rfl hp)
    · unfold wpY_lookup rd_Y
      dsimp only
      exact hYs _ _ (br_t rfl hp)
  rcases rd_slot v2 v3 with ⟨q, hq, x, hx, rfl, rfl⟩ | ⟨hXs, hYs⟩
  case inr =>
    refine ⟨-1, _, _, rel, fun post hp => ?_, fun post hp => ?_⟩
    · unfold wpX_lookup rd_X
      dsimp only
      exact xq_slot1 hp3 hv (br_f (by decide) (hXs _ (br_t rfl hp)))
    · unfold wpY_lookup rd_Y
      dsimp only
      exact yq_var1 hp3 hv (br_f (by decide) (hYs _ _ (br_t rfl hp)))
  obtain ⟨mo, em, hmo⟩ := (rd_va hR hq hx).2
  obtain ⟨N, P, sh, fl, sg, st, pr, kn⟩ := T
  obtain ⟨oc, tk, le, hm, gv, lm, tn⟩ := A
  obtain ⟨so, ho, ce, va, la, gi⟩ := w
  obtain ⟨li, nw, xC, xt, xL⟩ := o
  obtain ⟨tm, yC, yt, yL, ap⟩ := o'
  have em : la (4 * q + x) = rd_o mo := em
  have hmo : ∀ k, mo = some k → k < 12 ∧ so (12 * q + k) = 1 := hmo
  have hlm := hR.1.1.1
  have hli := hR.2.1.1
  have hap := hR.2.2.2.2.2.2 p hp3 q hq
  have hap2 := rd_asym lm hlm p hp3 q hq
  have e3q : 3 * nI p + nI q = nI (3 * p + q) := by rw [rd_m3, nI_add]
  have c3q : (nI (3 * p + q)).toNatClampNeg = 3 * p + q := rd_cl (by omega)
  have e4x : 4 * nI q + nI x = nI (4 * q + x) := by rw [rd_m4, nI_add]
  have c4x : (nI (4 * q + x)).toNatClampNeg = 4 * q + x := rd_cl (by omega)
  have e4v : 4 * nI p + nI v = nI (4 * p + v) := by rw [rd_m4, nI_add]
  have c4v : (nI (4 * p + v)).toNatClampNeg = 4 * p + v := rd_cl (by omega)
  by_cases lk : rd_ap lm p q = 0
  case neg =>
    have lk1 : rd_ap lm p q = 1 := by omega
    refine ⟨11, _, _, rel, fun post hp => ?_, fun post hp => ?_⟩
    · unfold wpX_lookup rd_X
      dsimp only
      refine xq_slot1 hp3 hv (br_f (by decide) (xq_slot1 hq hx (br_f (by decide) (xq_linked hp3 hq hlm hli ?_))))
      rw [lk1]
      exact br_t rfl hp
    · unfold wpY_lookup rd_Y
      dsimp only
      refine yq_var1 hp3 hv (br_f (by decide) (yq_var1 hq hx (br_f (by decide) ?_)))
      rw [e3q, c3q, hap]
      refine ⟨rd_in (by omega), ?_⟩
      rw [lk1]
      exact br_f (by decide) hp
  cases mo with
  | none =>
    refine ⟨12, _, _, rel, fun post hp => ?_, fun post hp => ?_⟩
    · unfold wpX_lookup rd_X
      dsimp only
      refine xq_slot1 hp3 hv (br_f (by decide) (xq_slot1 hq hx (br_f (by decide) (xq_linked hp3 hq hlm hli ?_))))
      rw [lk]
      refine br_f (by decide) ?_
      rw [e4x, c4x, em]
      refine ⟨rd_in (by omega), nm_e ?_⟩
      exact br_t rd_m1n hp
    · unfold wpY_lookup rd_Y
      dsimp only
      refine yq_var1 hp3 hv (br_f (by decide) (yq_var1 hq hx (br_f (by decide) ?_)))
      rw [e3q, c3q, hap]
      refine ⟨rd_in (by omega), ?_⟩
      rw [lk]
      refine br_t rfl ?_
      rw [e4x, c4x, em]
      refine ⟨rd_in (by omega), nm_e ?_⟩
      exact br_t rd_m1n hp
  | some j =>
    obtain ⟨hj, hjs⟩ := hmo j rfl
    have hnf : ¬ so (12 * q + j) = 0 := by rw [hjs]; decide
    have hxt := hR.2.1.2.2.2.1 (12 * q + j) (by omega) hnf
    have hyt := hR.2.2.2.2.1 (12 * q + j) (by omega) hnf
    have htK := (hR.1.2.1 (12 * q + j) (by omega)).2.2.2
    have ej : 12 * nI q + nI j = nI (12 * q + j) := by rw [rd_m12, nI_add]
    have cj : (nI (12 * q + j)).toNatClampNeg = 12 * q + j := rd_cl (by omega)
    by_cases ht : tk (12 * q + j) = 0
    case pos =>
      refine ⟨12, _, _, rel, fun post hp => ?_, fun post hp => ?_⟩
      · unfold wpX_lookup rd_X
        dsimp only
        refine xq_slot1 hp3 hv (br_f (by decide) (xq_slot1 hq hx (br_f (by decide) (xq_linked hp3 hq hlm hli ?_))))
        rw [lk]
        refine br_f (by decide) ?_
        rw [e4x, c4x, em]
        refine ⟨rd_in (by omega), nm_e ?_⟩
        rw [rd_o1, ej, cj, hxt]
        refine br_f (nI_pos (by omega)) ⟨rd_in (by omega), ?_⟩
        rw [ht]
        exact br_t rfl hp
      · unfold wpY_lookup rd_Y
        dsimp only
        refine yq_var1 hp3 hv (br_f (by decide) (yq_var1 hq hx (br_f (by decide) ?_)))
        rw [e3q, c3q, hap]
        refine ⟨rd_in (by omega), ?_⟩
        rw [lk]
        refine br_t rfl ?_
        rw [e4x, c4x, em]
        refine ⟨rd_in (by omega), nm_e ?_⟩
        rw [rd_o1, ej, cj, hyt]
        refine br_f (nI_pos (by omega)) ⟨rd_in (by omega), br_t hjs ⟨rd_in (by omega), ?_⟩⟩
        rw [ht]
        exact br_t rfl hp
    have hn0 : ¬ nI (tk (12 * q + j)) = 0 := nI_ne0 (by omega) (by omega)
    obtain ⟨A1, w1, o1, o1', r, hR1, hE1, hr, X1, Y1⟩ := rd_stub (pa := pa) (ab := ab) (py := pa) (bl := bl) (d := d) (c := c) (c' := c') (t := t) (t' := t') (ys := ys) (g := g) (g' := g') hR7 (by omega) hp3 hq (show 1 ≤ tk (12 * q + j) by omega) (by omega)
    obtain ⟨so1, ho1, ce1, va1, la1, gi1⟩ := w1
    cases r with
    | none =>
      refine ⟨9, rd_X pa ab d c t (so1, ho1, ce1, va1, la1, gi1) o1 g, rd_Y pa bl d c' t' (so1, ho1, ce1, va1, la1, gi1) o1' ys g', rd_mkrel hpa hD hC hR1, fun post hp => ?_, fun post hp => ?_⟩
      · unfold wpX_lookup rd_X
        dsimp only
        refine xq_slot1 hp3 hv (br_f (by decide) (xq_slot1 hq hx (br_f (by decide) (xq_linked hp3 hq hlm hli ?_))))
        rw [lk]
        refine br_f (by decide) ?_
        rw [e4x, c4x, em]
        refine ⟨rd_in (by omega), nm_e ?_⟩
        rw [rd_o1, ej, cj, hxt]
        refine br_f (nI_pos (by omega)) ⟨rd_in (by omega), ?_⟩
        refine br_f hn0 ⟨rd_in (by omega), X1 _ ?_⟩
        unfold rd_X
        dsimp only
        exact br_f rd_m1p hp
      · unfold wpY_lookup rd_Y
        dsimp only
        refine yq_var1 hp3 hv (br_f (by decide) (yq_var1 hq hx (br_f (by decide) ?_)))
        rw [e3q, c3q, hap]
        refine ⟨rd_in (by omega), ?_⟩
        rw [lk]
        refine br_t rfl ?_
        rw [e4x, c4x, em]
        refine ⟨rd_in (by omega), nm_e ?_⟩
        rw [rd_o1, ej, cj, hyt]
        refine br_f (nI_pos (by omega)) ⟨rd_in (by omega), br_t hjs ⟨rd_in (by omega), ?_⟩⟩
        refine br_f hn0 ⟨rd_in (by omega), Y1 _ ?_⟩
        unfold rd_Y
        dsimp only
        exact br_f rd_m1p hp
    | some vv =>
      obtain ⟨r1, r2⟩ := hr vv rfl
      have hRf := rd_OR_va (v := v) (x := nI vv) hp3 hv ⟨some vv, rfl, fun x ex => by cases ex; exact ⟨r1, by rw [show so1 (12 * p + vv) = 2 from r2]; decide⟩⟩ hR1
      refine ⟨0, rd_X pa ab d c t (so1, ho1, ce1, upd va1 (4 * p + v) (nI vv), la1, gi1) o1 g, rd_Y pa bl d c' t' (so1, ho1, ce1, upd va1 (4 * p + v) (nI vv), la1, gi1) o1' ys g', rd_mkrel hpa hD hC hRf, fun post hp => ?_, fun post hp => ?_⟩
      · unfold wpX_lookup rd_X
        dsimp only
        refine xq_slot1 hp3 hv (br_f (by decide) (xq_slot1 hq hx (br_f (by decide) (xq_linked hp3 hq hlm hli ?_))))
        rw [lk]
        refine br_f (by decide) ?_
        rw [e4x, c4x, em]
        refine ⟨rd_in (by omega), nm_e ?_⟩
        rw [rd_o1, ej, cj, hxt]
        refine br_f (nI_pos (by omega)) ⟨rd_in (by omega), ?_⟩
        refine br_f hn0 ⟨rd_in (by omega), X1 _ ?_⟩
        unfold rd_X
        dsimp only
        rw [rd_o1, e4v, c4v, rd_nb8 (by omega)]
        exact br_t (nI_pos' (by omega)) ⟨rd_in (by omega), nm_e hp⟩
      · unfold wpY_lookup rd_Y
        dsimp only
        refine yq_var1 hp3 hv (br_f (by decide) (yq_var1 hq hx (br_f (by decide) ?_)))
        rw [e3q, c3q, hap]
        refine ⟨rd_in (by omega), ?_⟩
        rw [lk]
        refine br_t rfl ?_
        rw [e4x, c4x, em]
        refine ⟨rd_in (by omega), nm_e ?_⟩
        rw [rd_o1, ej, cj, hyt]
        refine br_f (nI_pos (by omega)) ⟨rd_in (by omega), br_t hjs ⟨rd_in (by omega), ?_⟩⟩
        refine br_f hn0 ⟨rd_in (by omega), Y1 _ ?_⟩
        unfold rd_Y
        dsimp only
        rw [rd_o1, e4v, c4v]
        exact br_t (nI_pos' (by omega)) ⟨rd_in (by omega), nm_e hp⟩
theorem i_vc_link {k : Nat} {u : SX} {v : SY} (I : i_Rel k u v) (hk : k + 7 ≤ 3584) (v1 : Int32) (v2 : Int32) (v3 : Int32) : wpX_link (fun r u' => wpY_link (fun r' v' => r' = r ∧ i_Rel (k + 7) u' v') v v1 v2 (lw_bz v3)) u v1 v2 (lw_bz v3) := by
  refine rd_fin (WX := fun post => wpX_link post u v1 v2 (lw_bz v3)) (WY := fun post => wpY_link post v v1 v2 (lw_bz v3)) ?_
  obtain ⟨T, A, pa, ab, bl, d, c, c', t, t', w, o, o', ys, g, g', rfl, rfl, hpa, hD, hC, hR⟩ := I
  have hR7 := rd_OR_mono (show k ≤ k + 7 by omega) hR
  have rel : i_Rel (k + 7) (rd_X pa ab d c t w o g) (rd_Y pa bl d c' t' w o' ys g') := rd_mkrel hpa hD hC hR7
  rcases rd_place v1 with ⟨p, hp3, rfl⟩ | ⟨hX, hY⟩
  case inr =>
    refine ⟨0, _, _, rel, fun post hp => ?_, fun post hp => ?_⟩
    · unfold wpX_link rd_X
      dsimp only
      exact hX _ (br_t rfl hp)
    · unfold wpY_link rd_Y
      dsimp only
      exact hY _ (br_t rfl hp)
  rcases rd_place v2 with ⟨q, hq, rfl⟩ | ⟨hX, hY⟩
  case inr =>
    refine ⟨0, _, _, rel, fun post hp => ?_, fun post hp => ?_⟩
    · unfold wpX_link rd_X
      dsimp only
      exact xq_place1 hp3 (br_f (by decide) (hX _ (br_t rfl hp)))
    · unfold wpY_link rd_Y
      dsimp only
      exact yq_n1 (n := 3) hp3 (by omega) (br_f (by decide) (hY _ (br_t rfl hp)))
  by_cases epq : p = q
  case pos =>
    refine ⟨0, _, _, rel, fun post hp => ?_, fun post hp => ?_⟩
    · unfold wpX_link rd_X
      dsimp only
      refine xq_place1 hp3 (br_f (by decide) (xq_place1 hq (br_f (by decide) ?_)))
      exact br_t (by rw [epq]) hp
    · unfold wpY_link rd_Y
      dsimp only
      refine yq_n1 (n := 3) hp3 (by omega) (br_f (by decide) (yq_n1 (n := 3) hq (by omega) (br_f (by decide) ?_)))
      exact br_t (by rw [epq]) hp
  obtain ⟨N, P, sh, fl, sg, st, pr, kn⟩ := T
  obtain ⟨oc, tk, le, hm, gv, lm, tn⟩ := A
  obtain ⟨so, ho, ce, va, la, gi⟩ := w
  obtain ⟨li, nw, xC, xt, xL⟩ := o
  obtain ⟨tm, yC, yt, yL, ap⟩ := o'
  have hlm := hR.1.1.1
  have hli := hR.2.1.1
  have hap := hR.2.2.2.2.2.2
  have hap2 := rd_asym lm hlm p hp3 q hq
  have npq : ¬ nI p = nI q := fun z => epq ((nI_eq (by omega) (by omega)).mp z)
  have e3q : 3 * nI p + nI q = nI (3 * p + q) := by rw [rd_m3, nI_add]
  have c3q : (nI (3 * p + q)).toNatClampNeg = 3 * p + q := rd_cl (by omega)
  have e3p : 3 * nI q + nI p = nI (3 * q + p) := by rw [rd_m3, nI_add]
  have c3p : (nI (3 * q + p)).toNatClampNeg = 3 * q + p := rd_cl (by omega)
  obtain ⟨b, hb, eb⟩ : ∃ b, b < 2 ∧ lw_bz v3 = nI b := by
    rcases lw_bz_01 v3 with e | e
    · exact ⟨0, by omega, e⟩
    · exact ⟨1, by omega, e⟩
  rw [eb]
  have ebb : nI b = 0 ∨ nI b = 1 := by
    have : b = 0 ∨ b = 1 := by omega
    rcases this with rfl | rfl
    · exact Or.inl rfl
    · exact Or.inr rfl
  have hrb : nI (1 - rd_ap lm p q) = nI b ↔ 1 - rd_ap lm p q = b := nI_eq (by omega) (by omega)
  have hab : nI (rd_ap lm p q) = nI b ↔ rd_ap lm p q = b := nI_eq (by omega) (by omega)
  by_cases go : rd_ap lm p q = b
  case neg =>
    refine ⟨0, _, _, rel, fun post hp => ?_, fun post hp => ?_⟩
    · unfold wpX_link rd_X
      dsimp only
      refine xq_place1 hp3 (br_f (by decide) (xq_place1 hq (br_f (by decide) ?_)))
      refine br_f npq (xq_linked hp3 hq hlm hli ?_)
      exact br_t (hrb.mpr (by omega)) hp
    · unfold wpY_link rd_Y
      dsimp only
      refine yq_n1 (n := 3) hp3 (by omega) (br_f (by decide) (yq_n1 (n := 3) hq (by omega) (br_f (by decide) ?_)))
      refine br_f npq ?_
      rw [e3q, c3q, hap p hp3 q hq]
      refine ⟨rd_in (by omega), ?_⟩
      exact br_f (fun z => go (hab.mp z)) hp
  obtain ⟨l1, l2⟩ := rd_lx lm hlm p hp3 q hq epq
  have hRf : rd_OR (k + 7) (N, P, sh, fl, sg, st, pr, kn) (oc, tk, le, hm, gv, lm ^^^ 2 ^ (p + q - 1), tn) (so, ho, ce, va, la, gi) (nI (lm ^^^ 2 ^ (p + q - 1)), nw, xC, xt, xL) (tm, yC, yt, yL, upd (upd ap (3 * p + q) (nI (1 - b))) (3 * q + p) (nI (1 - b))) := by
    obtain ⟨⟨a1, a2⟩, ⟨b1, b2⟩, ⟨d1, d2, d3, d4, d5⟩⟩ := hR7
    refine ⟨⟨⟨l2, a1.2⟩, a2⟩, ⟨rfl, b2⟩, ⟨d1, d2, d3, d4, fun x hx y hy => ?_⟩⟩
    rw [rd_ax lm hlm p hp3 q hq epq x hx y hy, go]
    by_cases c2 : 3 * x + y = 3 * q + p
    · rw [c2, pk_us, if_pos (Or.inr (by omega))]
    · rw [pk_un c2]
      by_cases c1 : 3 * x + y = 3 * p + q
      · rw [c1, pk_us, if_pos (Or.inl (by omega))]
      · rw [pk_un c1, if_neg (by omega)]
        exact d5 x hx y hy
  have hnz : ∀ z : Int32, (nI b = 0 → z = nI 1) → (nI b = 1 → z = nI 0) → vp_nar .boolean z = nI (1 - b) := by
    intro z h0 h1
    have : b = 0 ∨ b = 1 := by omega
    rcases this with rfl | rfl
    · rw [h0 rfl]; rfl
    · rw [h1 rfl]; rfl
  refine ⟨1, rd_X pa ab d c t (so, ho, ce, va, la, gi) (nI (lm ^^^ 2 ^ (p + q - 1)), nw, xC, xt, xL) g, rd_Y pa bl d c' t' (so, ho, ce, va, la, gi) (tm, yC, yt, yL, upd (upd ap (3 * p + q) (nI (1 - b))) (3 * q + p) (nI (1 - b))) ys g', rd_mkrel hpa hD hC hRf, fun post hp => ?_, fun post hp => ?_⟩
  · unfold wpX_link rd_X
    dsimp only
    refine xq_place1 hp3 (br_f (by decide) (xq_place1 hq (br_f (by decide) ?_)))
    refine br_f npq (xq_linked hp3 hq hlm hli ?_)
    exact br_f (fun z => by have := hrb.mp z; omega) (nm_r (by rw [hli]; exact l1) hp)
  · unfold wpY_link rd_Y
    dsimp only
    refine yq_n1 (n := 3) hp3 (by omega) (br_f (by decide) (yq_n1 (n := 3) hq (by omega) (br_f (by decide) ?_)))
    refine br_f npq ?_
    rw [e3q, c3q, hap p hp3 q hq]
    refine ⟨rd_in (by omega), ?_⟩
    refine br_t (hab.mpr go) ?_
    unfold wY_link_55
    rw [c3q, e3p, c3p]
    have : b = 0 ∨ b = 1 := by omega
    rcases this with rfl | rfl
    · exact br_t rfl ⟨rd_in (by omega), nm_r (by rw [rd_nz1] <;> rfl) (br_t rfl ⟨rd_in (by omega), nm_r (by rw [rd_nz1] <;> rfl) hp⟩)⟩
    · exact br_f (by decide) ⟨rd_in (by omega), nm_r (by rw [rd_nz0] <;> rfl) (br_f (by decide) ⟨rd_in (by omega), nm_r (by rw [rd_nz0] <;> rfl) hp⟩)⟩
end
section
/-! owed: fault, known, lease -/
theorem rd_finR {α : Type} {R : Prop} {WX WY : (α → Prop) → Prop} (hR : R) (h : ∃ r : α, (∀ post : α → Prop, post r → WX post) ∧ (∀ post : α → Prop, post r → WY post)) : WX (fun r => WY (fun r' => r' = r ∧ R)) := by
  obtain ⟨r, hX, hY⟩ := h
  exact hX _ (hY _ ⟨rfl, hR⟩)
theorem rd_ge {n : Nat} {x : Int32} (hn : n < 2 ^ 30) (h : nI (n + 1) ≤ x) : nI n < x ∧ ¬ x < 0 ∧ ∀ j, j ≤ n → ¬ x = nI j := by
  rw [Int32.le_iff_toInt_le, nI_toInt (by omega)] at h
  refine ⟨?_, ?_, fun j hj e => ?_⟩
  · rw [Int32.lt_iff_toInt_lt, nI_toInt (by omega)]; omega
  · rw [Int32.lt_iff_toInt_lt, show (0 : Int32).toInt = 0 by decide]; omega
  · rw [e, nI_toInt (by omega)] at h; omega
theorem i_vc_fault {k : Nat} {u : SX} {v : SY} (I : i_Rel k u v) (hk : k + 7 ≤ 3584) (v1 : Int32) : wpX_fault (fun r => wpY_fault (fun r' => r' = r ∧ i_Rel (k + 7) u v) v v1) u v1 := by
  refine rd_finR (WX := fun post => wpX_fault post u v1) (WY := fun post => wpY_fault post v v1) (i_up I) ?_
  obtain ⟨T, A, pa, ab, bl, d, c, c', t, t', w, o, o', ys, g, g', rfl, rfl, hpa, hD, hC, hR⟩ := I
  by_cases hp0 : pa < 0
  case pos =>
    refine ⟨-1, fun post hp => ?_, fun post hp => ?_⟩
    · unfold wpX_fault rd_X
      dsimp only
      exact br_t hp0 hp
    · unfold wpY_fault rd_Y
      dsimp only
      exact br_f (Int32.not_le.mpr hp0) hp
  have hp1 : 0 ≤ pa := Int32.not_lt.mp hp0
  have eb : bl = ab := hpa.resolve_left hp0
  rcases pk_ix v1 (n := 2) (by omega) with h | h | ⟨j, hj, rfl⟩
  · have n0 : ¬ v1 = 0 := fun e => by rw [e] at h; exact absurd h (by decide)
    have n1 : ¬ v1 = 1 := fun e => by rw [e] at h; exact absurd h (by decide)
    refine ⟨-1, fun post hp => ?_, fun post hp => ?_⟩
    · unfold wpX_fault rd_X
      dsimp only
      exact br_f hp0 (xq_in0 (Or.inl h) (br_t rfl hp))
    · unfold wpY_fault rd_Y
      dsimp only
      exact br_t hp1 (br_f n0 (br_f n1 hp))
  · obtain ⟨g1, g2, g3⟩ := rd_ge (n := 1) (by omega) h
    refine ⟨-1, fun post hp => ?_, fun post hp => ?_⟩
    · unfold wpX_fault rd_X
      dsimp only
      exact br_f hp0 (xq_in0 (Or.inr g1) (br_t rfl hp))
    · unfold wpY_fault rd_Y
      dsimp only
      exact br_t hp1 (br_f (g3 0 (by omega)) (br_f (g3 1 (by omega)) hp))
  · have : j = 0 ∨ j = 1 := by omega
    rcases this with rfl | rfl
    · refine ⟨pa, fun post hp => ?_, fun post hp => ?_⟩
      · unfold wpX_fault rd_X
        dsimp only
        exact br_f hp0 (xq_n1 (n := 1) (by omega) (by omega) (br_f (by decide) (br_t rfl hp)))
      · unfold wpY_fault rd_Y
        dsimp only
        exact br_t hp1 (br_t rfl hp)
    · refine ⟨ab, fun post hp => ?_, fun post hp => ?_⟩
      · unfold wpX_fault rd_X
        dsimp only
        exact br_f hp0 (xq_n1 (n := 1) (by omega) (by omega) (br_f (by decide) (br_f (by decide) hp)))
      · unfold wpY_fault rd_Y
        dsimp only
        exact br_t hp1 (br_f (by decide) (br_t rfl (by rw [eb]; exact hp)))
theorem i_vc_known {k : Nat} {u : SX} {v : SY} (I : i_Rel k u v) (hk : k + 7 ≤ 3584) (v1 : Int32) (v2 : Int32) (v3 : Int32) (v4 : Int32) : wpX_known (fun r => wpY_known (fun r' => r' = r ∧ i_Rel (k + 7) u v) v v1 v2 v3 v4) u v1 v2 v3 v4 := by
  refine rd_finR (WX := fun post => wpX_known post u v1 v2 v3 v4) (WY := fun post => wpY_known post v v1 v2 v3 v4) (i_up I) ?_
  obtain ⟨T, A, pa, ab, bl, d, c, c', t, t', w, o, o', ys, g, g', rfl, rfl, hpa, hD, hC, hR⟩ := I
  rcases rd_place v1 with ⟨p, hp3, rfl⟩ | ⟨hX, hY⟩
  case inr =>
    refine ⟨-1, fun post hp => ?_, fun post hp => ?_⟩
    · unfold wpX_known rd_X
      dsimp only
      exact hX _ (br_t rfl hp)
    · unfold wpY_known rd_Y
      dsimp only
      exact hY _ (br_t rfl hp)
  rcases rd_rng 4 (by decide) v2 with ⟨l, hl, rfl⟩ | ⟨hX, hY⟩
  case inr =>
    refine ⟨-1, fun post hp => ?_, fun post hp => ?_⟩
    · unfold wpX_known rd_X
      dsimp only
      exact xq_place1 hp3 (br_f (by decide) (hX _ (br_t rfl hp)))
    · unfold wpY_known rd_Y
      dsimp only
      exact yq_n1 (n := 3) hp3 (by omega) (br_f (by decide) (hY _ (br_t rfl hp)))
  rcases rd_rng 11 (by decide) v3 with ⟨nm, hnm, rfl⟩ | ⟨hX, hY⟩
  case inr =>
    refine ⟨-1, fun post hp => ?_, fun post hp => ?_⟩
    · unfold wpX_known rd_X
      dsimp only
      exact xq_place1 hp3 (br_f (by decide) (xq_n1 (n := 4) hl (by omega) (br_f (by decide) (hX _ (br_t rfl hp)))))
    · unfold wpY_known rd_Y
      dsimp only
      exact yq_n1 (n := 3) hp3 (by omega) (br_f (by decide) (yq_n1 (n := 5) (by omega) (by omega) (br_f (by decide) (hY _ (br_t rfl hp)))))
  obtain ⟨N, P, sh, fl, sg, st, pr, kn⟩ := T
  obtain ⟨xB, xR, xK, xU, xH, xF, xG, xT⟩ := c
  obtain ⟨yN, yB, yR, yK, yO, yA, yH, yF, yG, yU, yT⟩ := c'
  obtain ⟨hI, hX, hY, hL⟩ := hC
  have hN := rd_NB' hI
  have hx := hX.1 (12 * (5 * p + l) + nm) (by omega)
  have hy := hY.2.1 (12 * (5 * p + l) + nm) (by omega)
  have ck : (nI (12 * (5 * p + l) + nm)).toNatClampNeg = 12 * (5 * p + l) + nm := rd_cl (by omega)
  cases ek : kn (12 * (5 * p + l) + nm) with
  | none =>
    refine ⟨-1, fun post hp => ?_, fun post hp => ?_⟩
    · unfold wpX_known rd_X
      dsimp only
      refine xq_place1 hp3 (br_f (by decide) (xq_n1 (n := 4) hl (by omega) (br_f (by decide) (xq_n1 (n := 11) hnm (by omega) (br_f (by decide) ?_)))))
      rw [rd_pl, ck, hx]
      refine ⟨rd_in (by omega), nm_e ?_⟩
      rw [ek]
      exact br_f rd_m1p hp
    · unfold wpY_known rd_Y
      dsimp only
      refine yq_n1 (n := 3) hp3 (by omega) (br_f (by decide) (yq_n1 (n := 5) (by omega) (by omega) (br_f (by decide) (yq_n1 (n := 12) (by omega) (by omega) (br_f (by decide) ?_)))))
      rw [rd_plY, ck, hy]
      refine ⟨rd_in (by omega), nm_e ?_⟩
      rw [ek]
      exact br_f rd_m1p hp
  | some j =>
    have hj := (hI.2.1 _ (by omega) j ek).1
    obtain ⟨a1, _, _, _, _, _⟩ := hI.1 j hj
    obtain ⟨x1, x2, x3, x4, x5⟩ := hX.2 j hj
    obtain ⟨y1, y2, y3, y4, y5, y6, y7⟩ := hY.2.2 j hj
    have cP : (nI (P j)).toNatClampNeg = P j := rd_cl (by omega)
    have cj : (nI j).toNatClampNeg = j := rd_cl (by omega)
    rcases pk_ix v4 (n := 6) (by omega) with h | h | ⟨i, hi, rfl⟩
    · refine ⟨-1, fun post hp => ?_, fun post hp => ?_⟩
      · unfold wpX_known rd_X
        dsimp only
        refine xq_place1 hp3 (br_f (by decide) (xq_n1 (n := 4) hl (by omega) (br_f (by decide) (xq_n1 (n := 11) hnm (by omega) (br_f (by decide) ?_)))))
        rw [rd_pl, ck, hx]
        refine ⟨rd_in (by omega), nm_e ?_⟩
        rw [ek, show rd_o (Option.map P (some j)) = nI (P j) from rfl]
        refine br_t (nI_pos' (by omega)) ?_
        exact br_t h hp
      · unfold wpY_known rd_Y
        dsimp only
        refine yq_n1 (n := 3) hp3 (by omega) (br_f (by decide) (yq_n1 (n := 5) (by omega) (by omega) (br_f (by decide) (yq_n1 (n := 12) (by omega) (by omega) (br_f (by decide) ?_)))))
        rw [rd_plY, ck, hy]
        refine ⟨rd_in (by omega), nm_e ?_⟩
        rw [ek, rd_o1]
        refine br_t (nI_pos' (by omega)) ?_
        exact br_t h hp
    · obtain ⟨g1, g2, g3⟩ := rd_ge (n := 5) (by omega) h
      refine ⟨-1, fun post hp => ?_, fun post hp => ?_⟩
      · unfold wpX_known rd_X
        dsimp only
        refine xq_place1 hp3 (br_f (by decide) (xq_n1 (n := 4) hl (by omega) (br_f (by decide) (xq_n1 (n := 11) hnm (by omega) (br_f (by decide) ?_)))))
        rw [rd_pl, ck, hx]
        refine ⟨rd_in (by omega), nm_e ?_⟩
        rw [ek, show rd_o (Option.map P (some j)) = nI (P j) from rfl]
        refine br_t (nI_pos' (by omega)) ?_
        exact br_f g2 (br_t g1 hp)
      · unfold wpY_known rd_Y
        dsimp only
        refine yq_n1 (n := 3) hp3 (by omega) (br_f (by decide) (yq_n1 (n := 5) (by omega) (by omega) (br_f (by decide) (yq_n1 (n := 12) (by omega) (by omega) (br_f (by decide) ?_)))))
        rw [rd_plY, ck, hy]
        refine ⟨rd_in (by omega), nm_e ?_⟩
        rw [ek, rd_o1]
        refine br_t (nI_pos' (by omega)) ?_
        exact br_f g2 (br_t g1 hp)
    · have : i = 0 ∨ i = 1 ∨ i = 2 ∨ i = 3 ∨ i = 4 ∨ i = 5 := by omega
      rcases this with rfl | rfl | rfl | rfl | rfl | rfl
      · refine ⟨nI (P j / 12 % 5), fun post hp => ?_, fun post hp => ?_⟩
        · unfold wpX_known rd_X
          dsimp only
          refine xq_place1 hp3 (br_f (by decide) (xq_n1 (n := 4) hl (by omega) (br_f (by decide) (xq_n1 (n := 11) hnm (by omega) (br_f (by decide) ?_)))))
          rw [rd_pl, ck, hx]
          refine ⟨rd_in (by omega), nm_e ?_⟩
          rw [ek, show rd_o (Option.map P (some j)) = nI (P j) from rfl]
          refine br_t (nI_pos' (by omega)) ?_
          rw [show (12 : Int32) = nI 12 from rfl, show (5 : Int32) = nI 5 from rfl, pk_div (by omega) (by omega) (by omega), pk_rem (by omega) (by omega) (by omega)]
          exact br_f (by decide) (br_f (by decide) (br_t rfl ⟨by decide, by decide, hp⟩))
        · unfold wpY_known rd_Y
          dsimp only
          refine yq_n1 (n := 3) hp3 (by omega) (br_f (by decide) (yq_n1 (n := 5) (by omega) (by omega) (br_f (by decide) (yq_n1 (n := 12) (by omega) (by omega) (br_f (by decide) ?_)))))
          rw [rd_plY, ck, hy]
          refine ⟨rd_in (by omega), nm_e ?_⟩
          rw [ek, rd_o1]
          refine br_t (nI_pos' (by omega)) ?_
          rw [cj, y1, show (5 : Int32) = nI 5 from rfl, pk_rem (by omega) (by omega) (by omega)]
          exact br_f (by decide) (br_f (by decide) (br_t rfl ⟨rd_in (by omega), by decide, hp⟩))
      · refine ⟨nI (st j), fun post hp => ?_, fun post hp => ?_⟩
        · unfold wpX_known rd_X
          dsimp only
          refine xq_place1 hp3 (br_f (by decide) (xq_n1 (n := 4) hl (by omega) (br_f (by decide) (xq_n1 (n := 11) hnm (by omega) (br_f (by decide) ?_)))))
          rw [rd_pl, ck, hx]
          refine ⟨rd_in (by omega), nm_e ?_⟩
          rw [ek, show rd_o (Option.map P (some j)) = nI (P j) from rfl]
          refine br_t (nI_pos' (by omega)) ?_
          rw [cP, x5]
          exact br_f (by decide) (br_f (by decide) (br_f (by decide) (br_t rfl ⟨rd_in (by omega), hp⟩)))
        · unfold wpY_known rd_Y
          dsimp only
          refine yq_n1 (n := 3) hp3 (by omega) (br_f (by decide) (yq_n1 (n := 5) (by omega) (by omega) (br_f (by decide) (yq_n1 (n := 12) (by omega) (by omega) (br_f (by decide) ?_)))))
          rw [rd_plY, ck, hy]
          refine ⟨rd_in (by omega), nm_e ?_⟩
          rw [ek, rd_o1]
          refine br_t (nI_pos' (by omega)) ?_
          rw [cj, y7]
          exact br_f (by decide) (br_f (by decide) (br_f (by decide) (br_t rfl ⟨rd_in (by omega), hp⟩)))
      · refine ⟨nI (sh j), fun post hp => ?_, fun post hp => ?_⟩
        · unfold wpX_known rd_X
          dsimp only
          refine xq_place1 hp3 (br_f (by decide) (xq_n1 (n := 4) hl (by omega) (br_f (by decide) (xq_n1 (n := 11) hnm (by omega) (br_f (by decide) ?_)))))
          rw [rd_pl, ck, hx]
          refine ⟨rd_in (by omega), nm_e ?_⟩
          rw [ek, show rd_o (Option.map P (some j)) = nI (P j) from rfl]
          refine br_t (nI_pos' (by omega)) ?_
          rw [cP, x2]
          exact br_f (by decide) (br_f (by decide) (br_f (by decide) (br_f (by decide) (br_t rfl ⟨rd_in (by omega), hp⟩))))
        · unfold wpY_known rd_Y
          dsimp only
          refine yq_n1 (n := 3) hp3 (by omega) (br_f (by decide) (yq_n1 (n := 5) (by omega) (by omega) (br_f (by decide) (yq_n1 (n := 12) (by omega) (by omega) (br_f (by decide) ?_)))))
          rw [rd_plY, ck, hy]
          refine ⟨rd_in (by omega), nm_e ?_⟩
          rw [ek, rd_o1]
          refine br_t (nI_pos' (by omega)) ?_
          rw [cj, y4]
          exact br_f (by decide) (br_f (by decide) (br_f (by decide) (br_f (by decide) (br_t rfl ⟨rd_in (by omega), hp⟩))))
      · refine ⟨nI (fl j), fun post hp => ?_, fun post hp => ?_⟩
        · unfold wpX_known rd_X
          dsimp only
          refine xq_place1 hp3 (br_f (by decide) (xq_n1 (n := 4) hl (by omega) (br_f (by decide) (xq_n1 (n := 11) hnm (by omega) (br_f (by decide) ?_)))))
          rw [rd_pl, ck, hx]
          refine ⟨rd_in (by omega), nm_e ?_⟩
          rw [ek, show rd_o (Option.map P (some j)) = nI (P j) from rfl]
          refine br_t (nI_pos' (by omega)) ?_
          rw [cP, x3]
          exact br_f (by decide) (br_f (by decide) (br_f (by decide) (br_f (by decide) (br_f (by decide) (br_t rfl ⟨rd_in (by omega), hp⟩)))))
        · unfold wpY_known rd_Y
          dsimp only
          refine yq_n1 (n := 3) hp3 (by omega) (br_f (by decide) (yq_n1 (n := 5) (by omega) (by omega) (br_f (by decide) (yq_n1 (n := 12) (by omega) (by omega) (br_f (by decide) ?_)))))
          rw [rd_plY, ck, hy]
          refine ⟨rd_in (by omega), nm_e ?_⟩
          rw [ek, rd_o1]
          refine br_t (nI_pos' (by omega)) ?_
          rw [cj, y5]
          exact br_f (by decide) (br_f (by decide) (br_f (by decide) (br_f (by decide) (br_f (by decide) (br_t rfl ⟨rd_in (by omega), hp⟩)))))
      · refine ⟨nI (sg j), fun post hp => ?_, fun post hp => ?_⟩
        · unfold wpX_known rd_X
          dsimp only
          refine xq_place1 hp3 (br_f (by decide) (xq_n1 (n := 4) hl (by omega) (br_f (by decide) (xq_n1 (n := 11) hnm (by omega) (br_f (by decide) ?_)))))
          rw [rd_pl, ck, hx]
          refine ⟨rd_in (by omega), nm_e ?_⟩
          rw [ek, show rd_o (Option.map P (some j)) = nI (P j) from rfl]
          refine br_t (nI_pos' (by omega)) ?_
          rw [cP, x4]
          exact br_f (by decide) (br_f (by decide) (br_f (by decide) (br_f (by decide) (br_f (by decide) (br_f (by decide) (br_t rfl ⟨rd_in (by omega), hp⟩))))))
        · unfold wpY_known rd_Y
          dsimp only
          refine yq_n1 (n := 3) hp3 (by omega) (br_f (by decide) (yq_n1 (n := 5) (by omega) (by omega) (br_f (by decide) (yq_n1 (n := 12) (by omega) (by omega) (br_f (by decide) ?_)))))
          rw [rd_plY, ck, hy]
          refine ⟨rd_in (by omega), nm_e ?_⟩
          rw [ek, rd_o1]
          refine br_t (nI_pos' (by omega)) ?_
          rw [cj, y6]
          exact br_f (by decide) (br_f (by decide) (br_f (by decide) (br_f (by decide) (br_f (by decide) (br_f (by decide) (br_t rfl ⟨rd_in (by omega), hp⟩))))))
      · cases ep : pr j with
        | none =>
          refine ⟨-1, fun post hp => ?_, fun post hp => ?_⟩
          · unfold wpX_known rd_X
            dsimp only
            refine xq_place1 hp3 (br_f (by decide) (xq_n1 (n := 4) hl (by omega) (br_f (by decide) (xq_n1 (n := 11) hnm (by omega) (br_f (by decide) ?_)))))
            rw [rd_pl, ck, hx]
            refine ⟨rd_in (by omega), nm_e ?_⟩
            rw [ek, show rd_o (Option.map P (some j)) = nI (P j) from rfl]
            refine br_t (nI_pos' (by omega)) ?_
            rw [cP, x1, ep]
            exact br_f (by decide) (br_f (by decide) (br_f (by decide) (br_f (by decide) (br_f (by decide) (br_f (by decide) (br_f (by decide) (br_t rfl ⟨rd_in (by omega), br_f rd_m1p hp⟩)))))))
          · unfold wpY_known rd_Y
            dsimp only
            refine yq_n1 (n := 3) hp3 (by omega) (br_f (by decide) (yq_n1 (n := 5) (by omega) (by omega) (br_f (by decide) (yq_n1 (n := 12) (by omega) (by omega) (br_f (by decide) ?_)))))
            rw [rd_plY, ck, hy]
            refine ⟨rd_in (by omega), nm_e ?_⟩
            rw [ek, rd_o1]
            refine br_t (nI_pos' (by omega)) ?_
            rw [cj, y3, ep]
            exact br_f (by decide) (br_f (by decide) (br_f (by decide) (br_f (by decide) (br_f (by decide) (br_f (by decide) (br_f (by decide) (br_t rfl ⟨rd_in (by omega), br_f rd_m1p hp⟩)))))))
        | some i =>
          obtain ⟨hij, _⟩ := hI.2.2.1 j hj i ep
          have hPi := (hI.1 i (by omega)).1
          have yi := (hY.2.2 i (by omega)).2.1
          have ci : (nI i).toNatClampNeg = i := rd_cl (by omega)
          refine ⟨nI (P i % 12), fun post hp => ?_, fun post hp => ?_⟩
          · unfold wpX_known rd_X
            dsimp only
            refine xq_place1 hp3 (br_f (by decide) (xq_n1 (n := 4) hl (by omega) (br_f (by decide) (xq_n1 (n := 11) hnm (by omega) (br_f (by decide) ?_)))))
            rw [rd_pl, ck, hx]
            refine ⟨rd_in (by omega), nm_e ?_⟩
            rw [ek, show rd_o (Option.map P (some j)) = nI (P j) from rfl]
            refine br_t (nI_pos' (by omega)) ?_
            rw [cP, x1, ep, show rd_o (Option.map P (some i)) = nI (P i) from rfl, show (12 : Int32) = nI 12 from rfl, pk_rem (by omega) (by omega) (by omega)]
            exact br_f (by decide) (br_f (by decide) (br_f (by decide) (br_f (by decide) (br_f (by decide) (br_f (by decide) (br_f (by decide) (br_t rfl ⟨rd_in (by omega), br_t (nI_pos' (by omega)) ⟨rd_in (by omega), by decide, hp⟩⟩)))))))
          · unfold wpY_known rd_Y
            dsimp only
            refine yq_n1 (n := 3) hp3 (by omega) (br_f (by decide) (yq_n1 (n := 5) (by omega) (by omega) (br_f (by decide) (yq_n1 (n := 12) (by omega) (by omega) (br_f (by decide) ?_)))))
            rw [rd_plY, ck, hy]
            refine ⟨rd_in (by omega), nm_e ?_⟩
            rw [ek, rd_o1]
            refine br_t (nI_pos' (by omega)) ?_
            rw [cj, y3, ep, rd_o1, ci, yi]
            exact br_f (by decide) (br_f (by decide) (br_f (by decide) (br_f (by decide) (br_f (by decide) (br_f (by decide) (br_f (by decide) (br_t rfl ⟨rd_in (by omega), br_t (nI_pos' (by omega)) ⟨rd_in (by omega), rd_in (by omega), hp⟩⟩)))))))
theorem i_vc_lease {k : Nat} {u : SX} {v : SY} (I : i_Rel k u v) (hk : k + 7 ≤ 3584) (v1 : Int32) (v2 : Int32) (v3 : Int32) : wpX_lease (fun r => wpY_lease (fun r' => r' = r ∧ i_Rel (k + 7) u v) v v1 v2 v3) u v1 v2 v3 := by
  refine rd_finR (WX := fun post => wpX_lease post u v1 v2 v3) (WY := fun post => wpY_lease post v v1 v2 v3) (i_up I) ?_
  obtain ⟨T, A, pa, ab, bl, d, c, c', t, t', w, o, o', ys, g, g', rfl, rfl, hpa, hD, hC, hR⟩ := I
  rcases rd_place v1 with ⟨q, hq, rfl⟩ | ⟨hX, hY⟩
  case inr =>
    refine ⟨-1, fun post hp => ?_, fun post hp => ?_⟩
    · unfold wpX_lease rd_X
      dsimp only
      exact hX _ (br_t rfl hp)
    · unfold wpY_lease rd_Y
      dsimp only
      exact hY _ (br_t rfl hp)
  rcases rd_place v3 with ⟨p, hp3, rfl⟩ | ⟨hX, hY⟩
  case inr =>
    refine ⟨-1, fun post hp => ?_, fun post hp => ?_⟩
    · unfold wpX_lease rd_X
      dsimp only
      exact xq_place1 hq (br_f (by decide) (hX _ (br_t rfl hp)))
    · unfold wpY_lease rd_Y
      dsimp only
      exact yq_n1 (n := 3) hq (by omega) (br_f (by decide) (hY _ (br_t rfl hp)))
  by_cases h1 : 1 ≤ v2
  case neg =>
    have h0 : v2 ≤ 0 := by
      rw [Int32.le_iff_toInt_le, show (1 : Int32).toInt = 1 by decide] at h1
      rw [Int32.le_iff_toInt_le, show (0 : Int32).toInt = 0 by decide]
      omega
    refine ⟨-1, fun post hp => ?_, fun post hp => ?_⟩
    · unfold wpX_lease rd_X
      dsimp only
      refine xq_place1 hq (br_f (by decide) (xq_place1 hp3 (br_f (by decide) ?_)))
      exact br_f h1 hp
    · unfold wpY_lease rd_Y
      dsimp only
      refine yq_n1 (n := 3) hq (by omega) (br_f (by decide) (yq_n1 (n := 3) hp3 (by omega) (br_f (by decide) ?_)))
      exact yq_exp0 hq h0 (br_t rd_m1n hp)
  obtain ⟨tt, ht1, htb, rfl⟩ : ∃ tt : Nat, 1 ≤ tt ∧ tt < 2 ^ 31 ∧ v2 = nI tt := by
    have h0 : ¬ v2 < 0 := by
      rw [Int32.le_iff_toInt_le, show (1 : Int32).toInt = 1 by decide] at h1
      rw [Int32.lt_iff_toInt_lt, show (0 : Int32).toInt = 0 by decide]
      omega
    obtain ⟨j, hj, rfl⟩ := nI_of h0
    refine ⟨j, ?_, hj, rfl⟩
    rw [Int32.le_iff_toInt_le, show (1 : Int32).toInt = 1 by decide, nI_toInt hj] at h1
    omega
  obtain ⟨eo, he1, he2, xE, yE⟩ := rd_expoG hR (by omega) hq ht1 htb
  obtain ⟨N, P, sh, fl, sg, st, pr, kn⟩ := T
  obtain ⟨oc, tk, le, hm, gv, lm, tn⟩ := A
  obtain ⟨so, ho, ce, va, la, gi⟩ := w
  obtain ⟨li, nw, xC, xt, xL⟩ := o
  obtain ⟨tm, yC, yt, yL, ap⟩ := o'
  have hnw := hR.2.1.2.1
  have htn := hR.1.1.2
  cases eo with
  | none =>
    refine ⟨-1, fun post hp => ?_, fun post hp => ?_⟩
    · unfold wpX_lease rd_X
      dsimp only
      refine xq_place1 hq (br_f (by decide) (xq_place1 hp3 (br_f (by decide) ?_)))
      refine br_t h1 (xE _ _ _ _ _ _ _ (br_f rd_m1p ?_))
      unfold wX_lease_54
      refine br_t ?_ hp
      rw [hnw]
      exact (lN_le (a := 0) (by omega) (by omega)).mpr (Nat.zero_le _)
    · unfold wpY_lease rd_Y
      dsimp only
      refine yq_n1 (n := 3) hq (by omega) (br_f (by decide) (yq_n1 (n := 3) hp3 (by omega) (br_f (by decide) ?_)))
      exact yE _ _ _ _ _ _ _ _ (br_t rd_m1n hp)
  | some e =>
    obtain ⟨he, hes, _⟩ := he1 e rfl
    have hes : so (12 * q + e) = 1 := hes
    have ex := hR.2.1.2.2.2.2 (12 * q + e) (by omega) p hp3
    have ey := hR.2.2.2.2.2.1 (12 * q + e) (by omega) hes p hp3
    have hle := (hR.1.2.2.2.2.2.1 (12 * q + e) (by omega) p hp3).1
    have e3 : 3 * nI (12 * q + e) + nI p = nI (3 * (12 * q + e) + p) := by rw [rd_m3, nI_add]
    have c3 : (nI (3 * (12 * q + e) + p)).toNatClampNeg = 3 * (12 * q + e) + p := rd_cl (by omega)
    have e12 : 12 * nI q + nI e = nI (12 * q + e) := by rw [rd_m12, nI_add]
    by_cases c : tn < le (3 * (12 * q + e) + p)
    case neg =>
      refine ⟨-1, fun post hp => ?_, fun post hp => ?_⟩
      · unfold wpX_lease rd_X
        dsimp only
        refine xq_place1 hq (br_f (by decide) (xq_place1 hp3 (br_f (by decide) ?_)))
        refine br_t h1 (xE _ _ _ _ _ _ _ (br_t (nI_pos' (by omega)) ?_))
        rw [rd_o1, e12, e3, c3, ex]
        refine ⟨rd_in (by omega), ?_⟩
        unfold wX_lease_54
        refine br_t ?_ hp
        rw [hnw]
        exact (lN_le (by omega) (by omega)).mpr (by omega)
      · unfold wpY_lease rd_Y
        dsimp only
        refine yq_n1 (n := 3) hq (by omega) (br_f (by decide) (yq_n1 (n := 3) hp3 (by omega) (br_f (by decide) ?_)))
        refine yE _ _ _ _ _ _ _ _ (br_f (nI_pos (show 12 * q + e < 2 ^ 31 by omega)) ?_)
        rw [show rd_o (Option.map (fun k => 12 * q + k) (some e)) = nI (12 * q + e) from rfl, e3, c3, ey]
        unfold rd_lv
        refine ⟨rd_in (by omega), ?_⟩
        rw [if_neg c]
        exact br_t rfl hp
    refine ⟨nI (le (3 * (12 * q + e) + p)), fun post hp => ?_, fun post hp => ?_⟩
    · unfold wpX_lease rd_X
      dsimp only
      refine xq_place1 hq (br_f (by decide) (xq_place1 hp3 (br_f (by decide) ?_)))
      refine br_t h1 (xE _ _ _ _ _ _ _ (br_t (nI_pos' (by omega)) ?_))
      rw [rd_o1, e12, e3, c3, ex]
      refine ⟨rd_in (by omega), ?_⟩
      unfold wX_lease_54
      refine br_f ?_ ?_
      · rw [hnw]
        exact fun z => absurd ((lN_le (by omega) (by omega)).mp z) (by omega)
      · rw [lN_i]
        exact hp
    · unfold wpY_lease rd_Y
      dsimp only
      refine yq_n1 (n := 3) hq (by omega) (br_f (by decide) (yq_n1 (n := 3) hp3 (by omega) (br_f (by decide) ?_)))
      refine yE _ _ _ _ _ _ _ _ (br_f (nI_pos (show 12 * q + e < 2 ^ 31 by omega)) ?_)
      rw [show rd_o (Option.map (fun k => 12 * q + k) (some e)) = nI (12 * q + e) from rfl, e3, c3, ey]
      unfold rd_lv
      refine ⟨rd_in (by omega), ?_⟩
      rw [if_pos c]
      exact br_f (nI_ne0 (by omega) (by omega)) ⟨rd_in (by omega), hp⟩
end
section
/-! owed: state -/
section
variable {K N p lm t : Nat} {P sh fl sg st oc tk le hm gv : Nat → Nat} {pr kn : Nat → Option Nat}
variable {li gIt pa ab yN yk tm hIt py bl : Int32} {dO dP dS dF dG dR dA xB xR xK xU xH xF xG xT xc xo xl so ho xC ce xt va la gi gSk gOd gIo gSo gNa gSh gSr gMa gTi gCe yB yR yK yO yA yH yF yG yU yT yb yc yl yp yC yt yL ap ys hLi hOp hNa hSh hSr hTi hCe hRe : Nat → Int32} {nw : Int64} {xL : Nat → Int64}
/-- counting classes -/
theorem xq_cnt {post : Int32 → Prop} (hI : rd_TI (N, P, sh, fl, sg, st, pr, kn)) (hX : rd_TX (N, P, sh, fl, sg, st, pr, kn) (xB, xR, xK, xU, xH, xF, xG, xT)) (hp3 : p < 3) (hp : post (nI (rd_cn (fun i => rd_df P kn (60 * p + i)) 60))) : ∃ n, wX_state_38 post (nI p) 1 li nw gIt pa ab dO dP dS dF dG dR dA xB xR xK xU xH xF xG xT xc xo xl so ho xC ce xt xL va la gi gSk gOd gIo gSo gNa gSh gSr gMa gTi gCe n 0 (nI (60 * p)) := by
  have e60 : 60 * nI p + 60 = nI (60 * p + 60) := by rw [rd_m60, rd_a60]
  refine rd_run (fun f j => wX_state_38 post (nI p) 1 li nw gIt pa ab dO dP dS dF dG dR dA xB xR xK xU xH xF xG xT xc xo xl so ho xC ce xt xL va la gi gSk gOd gIo gSo gNa gSh gSr gMa gTi gCe f (nI (rd_cn (fun i => rd_df P kn (60 * p + i)) j)) (nI (60 * p + j))) (i := 0) (k := 60) (by omega) ⟨1, ?_⟩ (fun f j _ hj W => ?_)
  · refine br_t (by rw [e60]; exact Int32.le_refl _) (nm_e ⟨1, ?_⟩)
    rw [rd_m12]
    exact br_f (by rw [rd_m12, rd_a12]; exact nI_ge (by omega) (by omega)) (br_t rfl hp)
  · refine br_f (by rw [e60]; exact nI_ge (by omega) (by omega)) (br_t rfl ⟨rd_in (by omega), ?_⟩)
    rw [rd_cl (by omega)]
    have hc := rd_xKc hI hX (k := 60 * p + j) (by omega)
    have hs : rd_cn (fun i => rd_df P kn (60 * p + i)) (j + 1) = rd_cn (fun i => rd_df P kn (60 * p + i)) j + (if rd_df P kn (60 * p + j) = true then 1 else 0) := rfl
    by_cases c : ∃ x, x < N ∧ P x = 60 * p + j
    · have ht : rd_df P kn (60 * p + j) = true := by
        obtain ⟨x, hx, ex⟩ := c
        unfold rd_df
        rw [← ex, (hI.1 x hx).2.1]
        exact decide_eq_true rfl
      rw [hs, if_pos ht] at W
      exact br_t (hc.mpr c) (nm_r (nI_1 _) (nm_r (nI_1 _) W))
    · have ht : ¬ rd_df P kn (60 * p + j) = true := by
        intro z
        unfold rd_df at z
        cases e : kn (60 * p + j) with
        | none => rw [e] at z; exact absurd z Bool.false_ne_true
        | some x =>
          rw [e] at z
          exact c ⟨x, (hI.2.1 _ (by omega) x e).1, of_decide_eq_true z⟩
      rw [hs, if_neg ht, Nat.add_zero] at W
      exact br_f (fun z => c (hc.mp z)) (nm_r (nI_1 _) W)
theorem yq_cnt {post : Int32 → Prop} (hI : rd_TI (N, P, sh, fl, sg, st, pr, kn)) (hY : rd_TY (N, P, sh, fl, sg, st, pr, kn) (yN, yB, yR, yK, yO, yA, yH, yF, yG, yU, yT)) (hp3 : p < 3) (hp : post (nI (rd_cn (fun j => decide (P j / 60 = p)) N))) : ∃ n, wY_state_35 post (nI p) 1 yN yk tm hIt py bl dO dP dS dF dG dR dA yB yR yK yO yA yH yF yG yU yT yb yc yl yp so yC yt ho ce yL va la gi ap ys hLi hOp hNa hSh hSr hTi hCe hRe n 0 0 := by
  have hN := rd_NB' hI
  refine rd_run (fun f j => wY_state_35 post (nI p) 1 yN yk tm hIt py bl dO dP dS dF dG dR dA yB yR yK yO yA yH yF yG yU yT yb yc yl yp so yC yt ho ce yL va la gi ap ys hLi hOp hNa hSh hSr hTi hCe hRe f (nI (rd_cn (fun j => decide (P j / 60 = p)) j)) (nI j)) (i := 0) (k := N) (by omega) ⟨1, ?_⟩ (fun f j _ hj W => ?_)
  · refine br_t (by rw [hY.1]; exact Int32.le_refl _) (nm_e ⟨1, ?_⟩)
    rw [rd_m12]
    exact br_f (by rw [rd_m12, rd_a12]; exact nI_ge (by omega) (by omega)) (br_t rfl hp)
  · have hPj := (hI.1 j hj).1
    refine br_f (by rw [hY.1]; exact nI_ge hj (by omega)) (br_t rfl ⟨rd_in (by omega), by decide, ?_⟩)
    rw [rd_cl (by omega), (hY.2.2 j hj).1, show (5 : Int32) = nI 5 from rfl, pk_div (by omega) (by omega) (by omega), show P j / 12 / 5 = P j / 60 by omega]
    have hs : rd_cn (fun j => decide (P j / 60 = p)) (j + 1) = rd_cn (fun j => decide (P j / 60 = p)) j + (if decide (P j / 60 = p) = true then 1 else 0) := rfl
    by_cases c : P j / 60 = p
    · rw [hs, if_pos (decide_eq_true c)] at W
      exact br_t (by rw [c]) (nm_r (nI_1 _) (nm_r (nI_1 _) W))
    · rw [hs, if_neg (by rw [decide_eq_false c]; decide), Nat.add_zero] at W
      exact br_f (fun z => c ((nI_eq (by omega) (by omega)).mp z)) (nm_r (nI_1 _) W)
/-- counting objects: all, or the exported ones -/
def rd_oq (so : rt_F) (tk : Nat → Nat) (wh i : Nat) : Bool := if wh = 0 then decide (¬ so i = 0) else decide (so i = 1 ∧ ¬ tk i = 0)
theorem xq_ocnt {post : Int32 → Prop} {wh : Nat} (hR : rd_OR K (N, P, sh, fl, sg, st, pr, kn) (oc, tk, le, hm, gv, lm, t) (so, ho, ce, va, la, gi) (li, nw, xC, xt, xL) (tm, yC, yt, yL, ap)) (hK : K ≤ 4000) (hp3 : p < 3) (hw : wh = 0 ∨ wh = 3) (hp : post (nI (rd_cn (fun i => rd_oq so tk wh (12 * p + i)) 12))) : ∃ n, wX_state_82 post (nI p) (nI wh) li nw gIt pa ab dO dP dS dF dG dR dA xB xR xK xU xH xF xG xT xc xo xl so ho xC ce xt xL va la gi gSk gOd gIo gSo gNa gSh gSr gMa gTi gCe n 0 (nI (12 * p)) := by
  have e12 : 12 * nI p + 12 = nI (12 * p + 12) := by rw [rd_m12, rd_a12]
  have n1 : ¬ nI wh = 1 := fun z => absurd ((nI_eq (b := 1) (by omega) (by omega)).mp z) (by omega)
  refine rd_run (fun f j => wX_state_82 post (nI p) (nI wh) li nw gIt pa ab dO dP dS dF dG dR dA xB xR xK xU xH xF xG xT xc xo xl so ho xC ce xt xL va la gi gSk gOd gIo gSo gNa gSh gSr gMa gTi gCe f (nI (rd_cn (fun i => rd_oq so tk wh (12 * p + i)) j)) (nI (12 * p + j))) (i := 0) (k := 12) (by omega) ⟨1, br_t (by rw [e12]; exact Int32.le_refl _) hp⟩ (fun f j _ hj W => ?_)
  refine br_f (by rw [e12]; exact nI_ge (by omega) (by omega)) (br_f n1 ?_)
  have hs : rd_cn (fun i => rd_oq so tk wh (12 * p + i)) (j + 1) = rd_cn (fun i => rd_oq so tk wh (12 * p + i)) j + (if rd_oq so tk wh (12 * p + j) = true then 1 else 0) := rfl
  rcases hw with rfl | rfl
  · refine br_t rfl ⟨rd_in (by omega), ?_⟩
    rw [rd_cl (by omega)]
    have hq : rd_oq so tk 0 (12 * p + j) = decide (¬ so (12 * p + j) = 0) := rfl
    by_cases c : so (12 * p + j) = 0
    · rw [hs, hq, if_neg (by rw [decide_eq_false (fun z => z c)]; decide), Nat.add_zero] at W
      exact br_t c (nm_r (nI_1 _) W)
    · rw [hs, hq, if_pos (decide_eq_true c)] at W
      exact br_f c (nm_r (nI_1 _) (nm_r (nI_1 _) W))
  · refine br_f (by decide) ?_
    unfold wpX_isExported
    dsimp only
    rw [rd_cl (by omega)]
    refine ⟨rd_in (by omega), ?_⟩
    have hq : rd_oq so tk 3 (12 * p + j) = decide (so (12 * p + j) = 1 ∧ ¬ tk (12 * p + j) = 0) := rfl
    by_cases c : so (12 * p + j) = 1
    · have hxt := hR.2.1.2.2.2.1 (12 * p + j) (by omega) (by rw [c]; decide)
      have htK := (hR.1.2.1 (12 * p + j) (by omega)).2.2.2
      rw [hxt]
      refine br_t c ⟨rd_in (by omega), ?_⟩
      by_cases c2 : tk (12 * p + j) = 0
      · rw [hs, hq, if_neg (by rw [decide_eq_false (fun z => z.2 c2)]; decide), Nat.add_zero] at W
        exact br_t (by rw [c2]; exact Int32.le_refl _) (br_t rfl (nm_r (nI_1 _) W))
      · rw [hs, hq, if_pos (decide_eq_true ⟨c, c2⟩)] at W
        exact br_f (nI_nle (by omega) (by omega)) (br_f (by decide) (nm_r (nI_1 _) (nm_r (nI_1 _) W)))
    · rw [hs, hq, if_neg (by rw [decide_eq_false (fun z => c z.1)]; decide), Nat.add_zero] at W
      exact br_f c (br_t rfl (nm_r (nI_1 _) W))
theorem yq_ocnt {post : Int32 → Prop} {wh : Nat} (hR : rd_OR K (N, P, sh, fl, sg, st, pr, kn) (oc, tk, le, hm, gv, lm, t) (so, ho, ce, va, la, gi) (li, nw, xC, xt, xL) (tm, yC, yt, yL, ap)) (hK : K ≤ 4000) (hp3 : p < 3) (hw : wh = 0 ∨ wh = 3) (hp : post (nI (rd_cn (fun i => rd_oq so tk wh (12 * p + i)) 12))) : ∃ n, wY_state_77 post (nI p) (nI wh) yN yk tm hIt py bl dO dP dS dF dG dR dA yB yR yK yO yA yH yF yG yU yT yb yc yl yp so yC yt ho ce yL va la gi ap ys hLi hOp hNa hSh hSr hTi hCe hRe n 0 (nI (12 * p)) := by
  have e12 : 12 * nI p + 12 = nI (12 * p + 12) := by rw [rd_m12, rd_a12]
  have n1 : ¬ nI wh = 1 := fun z => absurd ((nI_eq (b := 1) (by omega) (by omega)).mp z) (by omega)
  refine rd_run (fun f j => wY_state_77 post (nI p) (nI wh) yN yk tm hIt py bl dO dP dS dF dG dR dA yB yR yK yO yA yH yF yG yU yT yb yc yl yp so yC yt ho ce yL va la gi ap ys hLi hOp hNa hSh hSr hTi hCe hRe f (nI (rd_cn (fun i => rd_oq so tk wh (12 * p + i)) j)) (nI (12 * p + j))) (i := 0) (k := 12) (by omega) ⟨1, br_t (by rw [e12]; exact Int32.le_refl _) hp⟩ (fun f j _ hj W => ?_)
  refine br_f (by rw [e12]; exact nI_ge (by omega) (by omega)) (br_f n1 ⟨rd_in (by omega), ?_⟩)
  rw [rd_cl (by omega)]
  have hs : rd_cn (fun i => rd_oq so tk wh (12 * p + i)) (j + 1) = rd_cn (fun i => rd_oq so tk wh (12 * p + i)) j + (if rd_oq so tk wh (12 * p + j) = true then 1 else 0) := rfl
  have hso := (hR.1.2.1 (12 * p + j) (by omega)).1
  have hle : so (12 * p + j) ≤ 0 ↔ so (12 * p + j) = 0 := by
    rcases hso with e | e | e <;> rw [e] <;> decide
  rcases hw with rfl | rfl
  · have hq : rd_oq so tk 0 (12 * p + j) = decide (¬ so (12 * p + j) = 0) := rfl
    by_cases c : so (12 * p + j) = 0
    · rw [hs, hq, if_neg (by rw [decide_eq_false (fun z => z c)]; decide), Nat.add_zero] at W
      exact br_t (hle.mpr c) (nm_r (nI_1 _) W)
    · rw [hs, hq, if_pos (decide_eq_true c)] at W
      exact br_f (fun z => c (hle.mp z)) (br_t rfl (nm_r (nI_1 _) (nm_r (nI_1 _) W)))
  · have hq : rd_oq so tk 3 (12 * p + j) = decide (so (12 * p + j) = 1 ∧ ¬ tk (12 * p + j) = 0) := rfl
    by_cases c : so (12 * p + j) = 1
    · have hyt := hR.2.2.2.2.1 (12 * p + j) (by omega) (by rw [c]; decide)
      have htK := (hR.1.2.1 (12 * p + j) (by omega)).2.2.2
      rw [hyt]
      refine br_f (fun z => by rw [c] at z; exact absurd z (by decide)) (br_f (by decide) ⟨rd_in (by omega), br_t c ⟨rd_in (by omega), ?_⟩⟩)
      by_cases c2 : tk (12 * p + j) = 0
      · rw [hs, hq, if_neg (by rw [decide_eq_false (fun z => z.2 c2)]; decide), Nat.add_zero] at W
        exact br_t (by rw [c2]; exact Int32.le_refl _) (nm_r (nI_1 _) W)
      · rw [hs, hq, if_pos (decide_eq_true ⟨c, c2⟩)] at W
        exact br_f (nI_nle (by omega) (by omega)) (nm_r (nI_1 _) (nm_r (nI_1 _) W))
    · rw [hs, hq, if_neg (by rw [decide_eq_false (fun z => c z.1)]; decide), Nat.add_zero] at W
      by_cases c0 : so (12 * p + j) = 0
      · exact br_t (hle.mpr c0) (nm_r (nI_1 _) W)
      · exact br_f (fun z => c0 (hle.mp z)) (br_f (by decide) ⟨rd_in (by omega), br_f c (nm_r (nI_1 _) W)⟩)
end
theorem i_vc_state {k : Nat} {u : SX} {v : SY} (I : i_Rel k u v) (hk : k + 7 ≤ 3584) (v1 : Int32) (v2 : Int32) : wpX_state (fun r => wpY_state (fun r' => r' = r ∧ i_Rel (k + 7) u v) v v1 v2) u v1 v2 := by
  refine rd_finR (WX := fun post => wpX_state post u v1 v2) (WY := fun post => wpY_state post v v1 v2) (i_up I) ?_
  obtain ⟨T, A, pa, ab, bl, d, c, c', t, t', w, o, o', ys, g, g', rfl, rfl, hpa, hD, hC, hR⟩ := I
  rcases rd_place v1 with ⟨p, hp3, rfl⟩ | ⟨hX, hY⟩
  case inr =>
    refine ⟨-1, fun post hp => ?_, fun post hp => ?_⟩
    · unfold wpX_state rd_X
      dsimp only
      exact hX _ (br_t rfl hp)
    · unfold wpY_state rd_Y
      dsimp only
      exact hY _ (br_t rfl hp)
  rcases rd_rng 3 (by decide) v2 with ⟨wh, hwh, rfl⟩ | ⟨hX, hY⟩
  case inr =>
    refine ⟨-1, fun post hp => ?_, fun post hp => ?_⟩
    · unfold wpX_state rd_X
      dsimp only
      exact xq_place1 hp3 (br_f (by decide) (hX _ (br_t rfl hp)))
    · unfold wpY_state rd_Y
      dsimp only
      exact yq_n1 (n := 3) hp3 (by omega) (br_f (by decide) (hY _ (br_t rfl hp)))
  obtain ⟨N, P, sh, fl, sg, st, pr, kn⟩ := T
  obtain ⟨oc, tk, le, hm, gv, lm, tn⟩ := A
  obtain ⟨so, ho, ce, va, la, gi⟩ := w
  obtain ⟨li, nw, xC, xt, xL⟩ := o
  obtain ⟨tm, yC, yt, yL, ap⟩ := o'
  obtain ⟨xB, xR, xK, xU, xH, xF, xG, xT⟩ := c
  obtain ⟨yN, yB, yR, yK, yO, yA, yH, yF, yG, yU, yT⟩ := c'
  have cp : (nI p).toNatClampNeg = p := rd_cl (by omega)
  have cw : wh = 2 ∨ wh = 1 ∨ (wh = 0 ∨ wh = 3) := by omega
  rcases cw with rfl | rfl | hw
  · refine ⟨gi p, fun post hp => ?_, fun post hp => ?_⟩
    · unfold wpX_state rd_X
      dsimp only
      refine xq_place1 hp3 (br_f (by decide) (xq_n1 (n := 3) hwh (by omega) (br_f (by decide) ?_)))
      rw [cp]
      exact br_t rfl ⟨rd_in hp3, hp⟩
    · unfold wpY_state rd_Y
      dsimp only
      refine yq_n1 (n := 3) hp3 (by omega) (br_f (by decide) (yq_n1 (n := 4) (by omega) (by omega) (br_f (by decide) ?_)))
      rw [cp]
      exact br_t rfl ⟨rd_in hp3, hp⟩
  · have he := hC.1.2.2.2 p hp3
    refine ⟨nI (rd_cn (fun j => decide (P j / 60 = p)) N), fun post hp => ?_, fun post hp => ?_⟩
    · unfold wpX_state rd_X
      dsimp only
      refine xq_place1 hp3 (br_f (by decide) (xq_n1 (n := 3) hwh (by omega) (br_f (by decide) (br_f (by decide) ?_))))
      rw [rd_m60]
      rw [← he] at hp
      exact nm_e (xq_cnt hC.1 hC.2.1 hp3 hp)
    · unfold wpY_state rd_Y
      dsimp only
      refine yq_n1 (n := 3) hp3 (by omega) (br_f (by decide) (yq_n1 (n := 4) (by omega) (by omega) (br_f (by decide) (br_f (by decide) ?_))))
      exact yq_cnt hC.1 hC.2.2.1 hp3 hp
  · have n1 : ¬ nI wh = 1 := fun z => absurd ((nI_eq (b := 1) (by omega) (by omega)).mp z) (by omega)
    have n2 : ¬ nI wh = 2 := fun z => absurd ((nI_eq (b := 2) (by omega) (by omega)).mp z) (by omega)
    have hN := rd_NB' hC.1
    refine ⟨nI (rd_cn (fun i => rd_oq so tk wh (12 * p + i)) 12), fun post hp => ?_, fun post hp => ?_⟩
    · unfold wpX_state rd_X
      dsimp only
      refine xq_place1 hp3 (br_f (by decide) (xq_n1 (n := 3) hwh (by omega) (br_f (by decide) (br_f n2 ?_))))
      rw [rd_m60]
      refine nm_e ⟨1, br_f (by rw [rd_m60, rd_a60]; exact nI_ge (by omega) (by omega)) (br_f n1 ?_)⟩
      rw [rd_m12]
      exact nm_e (xq_ocnt hR (by omega) hp3 hw hp)
    · unfold wpY_state rd_Y
      dsimp only
      refine yq_n1 (n := 3) hp3 (by omega) (br_f (by decide) (yq_n1 (n := 4) (by omega) (by omega) (br_f (by decide) (br_f n2 ?_))))
      have hend : ∃ n, wY_state_77 post (nI p) (nI wh) yN t'.1 tm g'.1 pa bl d.1 d.2.1 d.2.2.1 d.2.2.2.1 d.2.2.2.2.1 d.2.2.2.2.2.1 d.2.2.2.2.2.2 yB yR yK yO yA yH yF yG yU yT t'.2.1 t'.2.2.1 t'.2.2.2.1 t'.2.2.2.2 so yC yt ho ce yL va la gi ap ys g'.2.1 g'.2.2.1 g'.2.2.2.1 g'.2.2.2.2.1 g'.2.2.2.2.2.1 g'.2.2.2.2.2.2.1 g'.2.2.2.2.2.2.2.1 g'.2.2.2.2.2.2.2.2 n 0 (nI (12 * p)) := yq_ocnt hR (by omega) hp3 hw hp
      refine ⟨1, ?_⟩
      by_cases z : N = 0
      · refine br_t (by rw [hC.2.2.1.1, z]; exact Int32.le_refl _) ?_
        rw [rd_m12]
        exact nm_e hend
      · refine br_f (by rw [hC.2.2.1.1]; exact nI_nle (by omega) (by omega)) (br_f n1 ?_)
        rw [rd_m12]
        exact nm_e hend
end
section
/-! owed: look -/
def rd_bn (b : Bool) : Nat := if b = true then 1 else 0
theorem rd_bn2 (b : Bool) : rd_bn b < 2 := by cases b <;> decide
theorem rd_and1 (x : Int32) : x &&& 1 = nI (rd_bn (bt x 0)) := by
  refine b_ext (fun i hi => ?_)
  rw [b_and]
  by_cases e : i = 0
  · subst e
    cases bt x 0 <;> decide
  · have h1 : ∀ i, i < 32 → i ≠ 0 → bt (1 : Int32) i = false := by decide +kernel
    have h2 : ∀ i, i < 32 → i ≠ 0 → bt (nI 0) i = false ∧ bt (nI 1) i = false := by decide +kernel
    rw [h1 i hi e, Bool.and_false]
    cases bt x 0
    · exact (h2 i hi e).1.symm
    · exact (h2 i hi e).2.symm
section
variable {K N p lm t : Nat} {P sh fl sg st oc tk le hm gv : Nat → Nat} {pr kn : Nat → Option Nat}
variable {li gIt pa ab yN yk tm hIt py bl : Int32} {dO dP dS dF dG dR dA xB xR xK xU xH xF xG xT xc xo xl so ho xC ce xt va la gi gSk gOd gIo gSo gNa gSh gSr gMa gTi gCe yB yR yK yO yA yH yF yG yU yT yb yc yl yp yC yt yL ap ys hLi hOp hNa hSh hSr hTi hCe hRe : Nat → Int32} {nw : Int64} {xL : Nat → Int64}
theorem rd_lk {path x5 : Int32} {nn : Nat} (hC : rd_CR (N, P, sh, fl, sg, st, pr, kn) (xB, xR, xK, xU, xH, xF, xG, xT) (yN, yB, yR, yK, yO, yA, yH, yF, yG, yU, yT)) (hR : rd_OR K (N, P, sh, fl, sg, st, pr, kn) (oc, tk, le, hm, gv, lm, t) (so, ho, ce, va, la, gi) (li, nw, xC, xt, xL) (tm, yC, yt, yL, ap)) (hp3 : p < 3) (hnn : nn ≤ 8) :
    ∀ (e k : Nat) (rest : Int32) (co : Option Nat), k + e = nn → (∀ i, k + i < 24 → bt rest i = bt path (k + i)) → (∀ v, co = some v → v < 12 ∧ ¬ so (12 * p + v) = 0) →
    ∃ fo : Option Nat, (∀ v, fo = some v → v < 12 ∧ ¬ so (12 * p + v) = 0) ∧
      (∀ post : Int64 → Prop, wX_look_105 post x5 (rd_o (fo.map (fun v => 12 * p + v))) li nw gIt pa ab dO dP dS dF dG dR dA xB xR xK xU xH xF xG xT xc xo xl so ho xC ce xt xL va la gi gSk gOd gIo gSo gNa gSh gSr gMa gTi gCe → ∃ f, wX_look_29 post (nI p) (nI nn) x5 li nw gIt pa ab dO dP dS dF dG dR dA xB xR xK xU xH xF xG xT xc xo xl so ho xC ce xt xL va la gi gSk gOd gIo gSo gNa gSh gSr gMa gTi gCe f (rd_o (co.map (fun v => 12 * p + v))) rest (nI k)) ∧
      (∀ post : Int64 → Prop, wY_look_128 post x5 (rd_o (fo.map (fun v => 12 * p + v))) yN yk tm hIt py bl dO dP dS dF dG dR dA yB yR yK yO yA yH yF yG yU yT yb yc yl yp so yC yt ho ce yL va la gi ap ys hLi hOp hNa hSh hSr hTi hCe hRe → ∃ f, wY_look_44 post (nI p) path (nI nn) x5 yN yk tm hIt py bl dO dP dS dF dG dR dA yB yR yK yO yA yH yF yG yU yT yb yc yl yp so yC yt ho ce yL va la gi ap ys hLi hOp hNa hSh hSr hTi hCe hRe f (rd_o (co.map (fun v => 12 * p + v))) (nI k)) := by
  intro e
  induction e with
  | zero =>
    intro k rest co hk hb hco
    obtain rfl : k = nn := by omega
    exact ⟨co, hco, fun post h => ⟨1, br_t (Int32.le_refl _) h⟩, fun post h => ⟨1, br_t (Int32.le_refl _) h⟩⟩
  | succ e ih =>
    intro k rest co hk hb hco
    have gk : ¬ nI nn ≤ nI k := nI_ge (by omega) (by omega)
    cases co with
    | none => exact ⟨none, fun v z => (nomatch z), fun post h => ⟨1, br_f gk (br_t rd_m1n h)⟩, fun post h => ⟨1, br_f gk (br_t rd_m1n h)⟩⟩
    | some v =>
      obtain ⟨hv, hvn⟩ := hco v rfl
      have ev : rd_o (Option.map (fun v => 12 * p + v) (some v)) = nI (12 * p + v) := rfl
      have n0 : ¬ nI (12 * p + v) < 0 := nI_pos (by omega)
      have ci : (nI (12 * p + v)).toNatClampNeg = 12 * p + v := rd_cl (by omega)
      have hbit := hb 0 (by omega)
      have exr : rest &&& 1 = nI (rd_bn (bt path k)) := by rw [rd_and1, hbit]; rfl
      have eyr : (path >>> (nI k &&& 31)) &&& 1 = nI (rd_bn (bt path k)) := by
        rw [rd_and1, b_sshr k (by omega) path (by omega), if_pos (by omega)]; rfl
      have hj := rd_bn2 (bt path k)
      generalize rd_bn (bt path k) = j at exr eyr hj
      -- the path's rest
      have hrest : ∀ i, k + 1 + i < 24 → bt ((rest.toUInt32 >>> ((1 : Int32).toUInt32 &&& Int32.toUInt32 31)).toInt32) i = bt path (k + 1 + i) := by
        intro i hi
        have := b_ushr 1 (by omega) rest i
        rw [show (1 : Int32) = nI 1 from rfl, this, hb (1 + i) (by omega)]
        exact congrArg (bt path) (by omega)
      have e2 : 2 * nI (12 * p + v) + nI j = nI (2 * (12 * p + v) + j) := by rw [rd_m2, nI_add]
      have c2 : (nI (2 * (12 * p + v) + j)).toNatClampNeg = 2 * (12 * p + v) + j := rd_cl (by omega)
      -- it leads nowhere
      have out : (∀ (post : Int64 → Prop) F, wX_look_29 post (nI p) (nI nn) x5 li nw gIt pa ab dO dP dS dF dG dR dA xB xR xK xU xH xF xG xT xc xo xl so ho xC ce xt xL va la gi gSk gOd gIo gSo gNa gSh gSr gMa gTi gCe F (-1) ((rest.toUInt32 >>> ((1 : Int32).toUInt32 &&& Int32.toUInt32 31)).toInt32) (nI (k + 1)) → wX_look_29 post (nI p) (nI nn) x5 li nw gIt pa ab dO dP dS dF dG dR dA xB xR xK xU xH xF xG xT xc xo xl so ho xC ce xt xL va la gi gSk gOd gIo gSo gNa gSh gSr gMa gTi gCe (F + 1) (nI (12 * p + v)) rest (nI k)) →
          (∀ (post : Int64 → Prop) F, wY_look_44 post (nI p) path (nI nn) x5 yN yk tm hIt py bl dO dP dS dF dG dR dA yB yR yK yO yA yH yF yG yU yT yb yc yl yp so yC yt ho ce yL va la gi ap ys hLi hOp hNa hSh hSr hTi hCe hRe F (-1) (nI (k + 1)) → wY_look_44 post (nI p) path (nI nn) x5 yN yk tm hIt py bl dO dP dS dF dG dR dA yB yR yK yO yA yH yF yG yU yT yb yc yl yp so yC yt ho ce yL va la gi ap ys hLi hOp hNa hSh hSr hTi hCe hRe (F + 1) (nI (12 * p + v)) (nI k)) →
          ∃ fo : Option Nat, (∀ v, fo = some v → v < 12 ∧ ¬ so (12 * p + v) = 0) ∧
            (∀ post : Int64 → Prop, wX_look_105 post x5 (rd_o (fo.map (fun v => 12 * p + v))) li nw gIt pa ab dO dP dS dF dG dR dA xB xR xK xU xH xF xG xT xc xo xl so ho xC ce xt xL va la gi gSk gOd gIo gSo gNa gSh gSr gMa gTi gCe → ∃ f, wX_look_29 post (nI p) (nI nn) x5 li nw gIt pa ab dO dP dS dF dG dR dA xB xR xK xU xH xF xG xT xc xo xl so ho xC ce xt xL va la gi gSk gOd gIo gSo gNa gSh gSr gMa gTi gCe f (nI (12 * p + v)) rest (nI k)) ∧
            (∀ post : Int64 → Prop, wY_look_128 post x5 (rd_o (fo.map (fun v => 12 * p + v))) yN yk tm hIt py bl dO dP dS dF dG dR dA yB yR yK yO yA yH yF yG yU yT yb yc yl yp so yC yt ho ce yL va la gi ap ys hLi hOp hNa hSh hSr hTi hCe hRe → ∃ f, wY_look_44 post (nI p) path (nI nn) x5 yN yk tm hIt py bl dO dP dS dF dG dR dA yB yR yK yO yA yH yF yG yU yT yb yc yl yp so yC yt ho ce yL va la gi ap ys hLi hOp hNa hSh hSr hTi hCe hRe f (nI (12 * p + v)) (nI k)) := by
        intro hx hy
        obtain ⟨fo, r1, X1, Y1⟩ := ih (k + 1) _ none (by omega) hrest (fun v z => nomatch z)
        refine ⟨fo, r1, fun post h => ?_, fun post h => ?_⟩
        · obtain ⟨F, hF⟩ := X1 post h
          exact ⟨F + 1, hx post F hF⟩
        · obtain ⟨F, hF⟩ := Y1 post h
          exact ⟨F + 1, hy post F hF⟩
      rw [ev]
      by_cases hs : so (12 * p + v) = 1
      case neg =>
        refine out (fun post F hF => ?_) (fun post F hF => ?_)
        · refine br_f gk (br_f n0 ?_)
          rw [exr]
          refine nm_e (xq_ref0 (by omega) hs (br_t rfl ?_))
          unfold wX_look_90
          exact nm_e (nm_r (nI_1 k) hF)
        · refine br_f gk (br_f n0 ?_)
          rw [eyr]
          refine nm_e ⟨rd_in (by omega), br_f (by rw [ci]; exact hs) ?_⟩
          unfold wY_look_101 wY_look_102
          exact br_f rd_m1p (nm_r (nI_1 k) hF)
      obtain ⟨o1, o2, o3, o4, o5, o6, o7, o8, o9, o10, o11, o12⟩ := rd_obj hC hR (i := 12 * p + v) (by omega) hs
      have xst : ∀ (post : Int64 → Prop) F, (((nI (sh (oc (12 * p + v)) / 2 ^ j % 2) = 0 → (wX_look_90 post (wX_look_29 post (nI p) (nI nn) x5 li nw gIt pa ab dO dP dS dF dG dR dA xB xR xK xU xH xF xG xT xc xo xl so ho xC ce xt xL va la gi gSk gOd gIo gSo gNa gSh gSr gMa gTi gCe F) (nI p) (nI nn) x5 rest (nI k) li nw gIt pa ab dO dP dS dF dG dR dA xB xR xK xU xH xF xG xT xc xo xl so ho xC ce xt xL va la gi gSk gOd gIo gSo gNa gSh gSr gMa gTi gCe)) ∧ (¬ nI (sh (oc (12 * p + v)) / 2 ^ j % 2) = 0 → (vp_in (nI (2 * (12 * p + v) + j)) 72 ∧ ((((ce (2 * (12 * p + v) + j)) < 0 → (wX_look_90 post (wX_look_29 post (nI p) (nI nn) x5 li nw gIt pa ab dO dP dS dF dG dR dA xB xR xK xU xH xF xG xT xc xo xl so ho xC ce xt xL va la gi gSk gOd gIo gSo gNa gSh gSr gMa gTi gCe F) (nI p) (nI nn) x5 rest (nI k) li nw gIt pa ab dO dP dS dF dG dR dA xB xR xK xU xH xF xG xT xc xo xl so ho xC ce xt xL va la gi gSk gOd gIo gSo gNa gSh gSr gMa gTi gCe)) ∧ (¬ (ce (2 * (12 * p + v) + j)) < 0 → (vp_in (nI (2 * (12 * p + v) + j)) 72 ∧ (∀ x6 : Int32, x6 = (12 * nI p) + (ce (2 * (12 * p + v) + j)) → ∀ x7 : Int32, x7 = (rest.toUInt32 >>> ((1 : Int32).toUInt32 &&& Int32.toUInt32 31)).toInt32 → ∀ x8 : Int32, x8 = nI k + 1 → wX_look_29 post (nI p) (nI nn) x5 li nw gIt pa ab dO dP dS dF dG dR dA xB xR xK xU xH xF xG xT xc xo xl so ho xC ce xt xL va la gi gSk gOd gIo gSo gNa gSh gSr gMa gTi gCe F x6 x7 x8)))))))) ) → wX_look_29 post (nI p) (nI nn) x5 li nw gIt pa ab dO dP dS dF dG dR dA xB xR xK xU xH xF xG xT xc xo xl so ho xC ce xt xL va la gi gSk gOd gIo gSo gNa gSh gSr gMa gTi gCe (F + 1) (nI (12 * p + v)) rest (nI k) := by
        intro post F h
        refine br_f gk (br_f n0 ?_)
        rw [exr, e2]
        refine nm_e (xq_ref (by omega) hj hs o3 o4 o5 o2 ?_)
        rw [c2]
        exact h
      have yst : ∀ (post : Int64 → Prop) F, ((nI (sh (oc (12 * p + v)) / 2 ^ j % 2) = 0 → (wY_look_101 post (wY_look_44 post (nI p) path (nI nn) x5 yN yk tm hIt py bl dO dP dS dF dG dR dA yB yR yK yO yA yH yF yG yU yT yb yc yl yp so yC yt ho ce yL va la gi ap ys hLi hOp hNa hSh hSr hTi hCe hRe F) (nI p) path (nI nn) x5 (nI k) yN yk tm hIt py bl dO dP dS dF dG dR dA yB yR yK yO yA yH yF yG yU yT yb yc yl yp so yC yt ho ce yL va la gi ap ys hLi hOp hNa hSh hSr hTi hCe hRe)) ∧ (¬ nI (sh (oc (12 * p + v)) / 2 ^ j % 2) = 0 → (vp_in (nI (2 * (12 * p + v) + j)) 72 ∧ (wY_look_102 post (wY_look_44 post (nI p) path (nI nn) x5 yN yk tm hIt py bl dO dP dS dF dG dR dA yB yR yK yO yA yH yF yG yU yT yb yc yl yp so yC yt ho ce yL va la gi ap ys hLi hOp hNa hSh hSr hTi hCe hRe F) (nI p) path (nI nn) x5 (nI k) (ce (2 * (12 * p + v) + j)) yN yk tm hIt py bl dO dP dS dF dG dR dA yB yR yK yO yA yH yF yG yU yT yb yc yl yp so yC yt ho ce yL va la gi ap ys hLi hOp hNa hSh hSr hTi hCe hRe)))) → wY_look_44 post (nI p) path (nI nn) x5 yN yk tm hIt py bl dO dP dS dF dG dR dA yB yR yK yO yA yH yF yG yU yT yb yc yl yp so yC yt ho ce yL va la gi ap ys hLi hOp hNa hSh hSr hTi hCe hRe (F + 1) (nI (12 * p + v)) (nI k) := by
        intro post F h
        refine br_f gk (br_f n0 ?_)
        rw [eyr]
        refine nm_e ⟨rd_in (by omega), br_t (by rw [ci]; exact hs) (yq_ref (by omega) hj o1 o7 o8 o2 ?_)⟩
        rw [e2, c2]
        exact h
      by_cases bit : sh (oc (12 * p + v)) / 2 ^ j % 2 = 1
      case neg =>
        have b0 : nI (sh (oc (12 * p + v)) / 2 ^ j % 2) = 0 := by rw [show sh (oc (12 * p + v)) / 2 ^ j % 2 = 0 by omega]; rfl
        refine out (fun post F hF => xst post F (br_t b0 ?_)) (fun post F hF => yst post F (br_t b0 ?_))
        · unfold wX_look_90
          exact nm_e (nm_r (nI_1 k) hF)
        · unfold wY_look_101 wY_look_102
          exact br_f rd_m1p (nm_r (nI_1 k) hF)
      have nb : ¬ nI (sh (oc (12 * p + v)) / 2 ^ j % 2) = 0 := by rw [bit]; decide
      obtain ⟨mo, em, hmo⟩ := hR.1.2.2.2.2.2.2.2.2 (12 * p + v) (by omega) hs j hj bit
      rw [show (12 * p + v) / 12 = p by omega] at hmo
      cases mo with
      | none =>
        refine out (fun post F hF => xst post F (br_f nb ⟨rd_in (by omega), br_t (by rw [em]; exact rd_m1n) ?_⟩)) (fun post F hF => yst post F (br_f nb ⟨rd_in (by omega), ?_⟩))
        · unfold wX_look_90
          exact nm_e (nm_r (nI_1 k) hF)
        · unfold wY_look_102
          rw [em]
          exact br_f rd_m1p (nm_r (nI_1 k) hF)
      | some x =>
        have hx := (hmo x rfl).1
        have ex : 12 * nI p + rd_o (some x) = nI (12 * p + x) := by rw [rd_o1, rd_m12, nI_add]
        obtain ⟨fo, r1, X1, Y1⟩ := ih (k + 1) _ (some x) (by omega) hrest hmo
        refine ⟨fo, r1, fun post h => ?_, fun post h => ?_⟩
        · obtain ⟨F, hF⟩ := X1 post h
          exact ⟨F + 1, xst post F (br_f nb ⟨rd_in (by omega), br_f (by rw [em]; exact nI_pos (by omega)) ⟨rd_in (by omega), nm_r (e' := nI (12 * p + x)) (by rw [em, ex]) (nm_e (nm_r (nI_1 k) hF))⟩⟩)⟩
        · obtain ⟨F, hF⟩ := Y1 post h
          refine ⟨F + 1, yst post F (br_f nb ⟨rd_in (by omega), ?_⟩)⟩
          unfold wY_look_102
          rw [em]
          exact br_t (nI_pos' (by omega)) (nm_r ex (nm_r (nI_1 k) hF))
end
end
section
/-! owed: look, its answer -/
section
variable {K N p lm t : Nat} {P sh fl sg st oc tk le hm gv : Nat → Nat} {pr kn : Nat → Option Nat}
variable {li gIt pa ab yN yk tm hIt py bl : Int32} {dO dP dS dF dG dR dA xB xR xK xU xH xF xG xT xc xo xl so ho xC ce xt va la gi gSk gOd gIo gSo gNa gSh gSr gMa gTi gCe yB yR yK yO yA yH yF yG yU yT yb yc yl yp yC yt yL ap ys hLi hOp hNa hSh hSr hTi hCe hRe : Nat → Int32} {nw : Int64} {xL : Nat → Int64}
theorem xq_tellN {post : Int64 → Prop} {i : Nat} {x : Int32} (hi : i < 36) (hx : x < 0 ∨ 6 < x) (hp : post 1099511627776) : wpX_tell post (li, nw, gIt, pa, ab, dO, dP, dS, dF, dG, dR, dA, xB, xR, xK, xU, xH, xF, xG, xT, xc, xo, xl, so, ho, xC, ce, xt, xL, va, la, gi, gSk, gOd, gIo, gSo, gNa, gSh, gSr, gMa, gTi, gCe) (nI i) x := by
  have h15 : ∀ z, wX_tell_15 post (nI i) x z li nw gIt pa ab dO dP dS dF dG dR dA xB xR xK xU xH xF xG xT xc xo xl so ho xC ce xt xL va la gi gSk gOd gIo gSo gNa gSh gSr gMa gTi gCe := by
    intro z
    unfold wX_tell_15
    by_cases c : x < 0
    · exact br_t c hp
    · exact br_f c (br_t (hx.resolve_left c) hp)
  unfold wpX_tell
  dsimp only
  rw [rd_cl (by omega)]
  exact ⟨rd_in hi, br_c (fun _ => h15 1) (fun _ => h15 0)⟩
theorem rd_tell {i wh : Nat} (hC : rd_CR (N, P, sh, fl, sg, st, pr, kn) (xB, xR, xK, xU, xH, xF, xG, xT) (yN, yB, yR, yK, yO, yA, yH, yF, yG, yU, yT)) (hR : rd_OR K (N, P, sh, fl, sg, st, pr, kn) (oc, tk, le, hm, gv, lm, t) (so, ho, ce, va, la, gi) (li, nw, xC, xt, xL) (tm, yC, yt, yL, ap)) (hK : K ≤ 4000) (hi : i < 36) (hnf : ¬ so i = 0) (hw : wh < 7) :
    ∃ r : Int64, (∀ post : Int64 → Prop, post r → wpX_tell post (li, nw, gIt, pa, ab, dO, dP, dS, dF, dG, dR, dA, xB, xR, xK, xU, xH, xF, xG, xT, xc, xo, xl, so, ho, xC, ce, xt, xL, va, la, gi, gSk, gOd, gIo, gSo, gNa, gSh, gSr, gMa, gTi, gCe) (nI i) (nI wh)) ∧ (∀ post : Int64 → Prop, post r → wpY_tell post (yN, yk, tm, hIt, py, bl, dO, dP, dS, dF, dG, dR, dA, yB, yR, yK, yO, yA, yH, yF, yG, yU, yT, yb, yc, yl, yp, so, yC, yt, ho, ce, yL, va, la, gi, ap, ys, hLi, hOp, hNa, hSh, hSr, hTi, hCe, hRe) (nI i) (nI wh)) := by
  have ci : (nI i).toNatClampNeg = i := rd_cl (by omega)
  have hxt := hR.2.1.2.2.2.1 i hi hnf
  have hyt := hR.2.2.2.2.1 i hi hnf
  have htK := (hR.1.2.1 i hi).2.2.2
  have xh : ∀ (z : Nat) (post : Int64 → Prop), (if so i = 1 then 1 else 0) = z → wX_tell_15 post (nI i) (nI wh) (nI z) li nw gIt pa ab dO dP dS dF dG dR dA xB xR xK xU xH xF xG xT xc xo xl so ho xC ce xt xL va la gi gSk gOd gIo gSo gNa gSh gSr gMa gTi gCe → wpX_tell post (li, nw, gIt, pa, ab, dO, dP, dS, dF, dG, dR, dA, xB, xR, xK, xU, xH, xF, xG, xT, xc, xo, xl, so, ho, xC, ce, xt, xL, va, la, gi, gSk, gOd, gIo, gSo, gNa, gSh, gSr, gMa, gTi, gCe) (nI i) (nI wh) := by
    intro z post ez h
    unfold wpX_tell
    dsimp only
    rw [ci]
    by_cases c : so i = 1
    · rw [if_pos c] at ez; subst ez; exact ⟨rd_in hi, br_t c h⟩
    · rw [if_neg c] at ez; subst ez; exact ⟨rd_in hi, br_f c h⟩
  have yh : ∀ (z : Nat) (post : Int64 → Prop), (if so i = 1 then 1 else 0) = z → wY_tell_15 post (nI i) (nI wh) (nI z) yN yk tm hIt py bl dO dP dS dF dG dR dA yB yR yK yO yA yH yF yG yU yT yb yc yl yp so yC yt ho ce yL va la gi ap ys hLi hOp hNa hSh hSr hTi hCe hRe → wpY_tell post (yN, yk, tm, hIt, py, bl, dO, dP, dS, dF, dG, dR, dA, yB, yR, yK, yO, yA, yH, yF, yG, yU, yT, yb, yc, yl, yp, so, yC, yt, ho, ce, yL, va, la, gi, ap, ys, hLi, hOp, hNa, hSh, hSr, hTi, hCe, hRe) (nI i) (nI wh) := by
    intro z post ez h
    unfold wpY_tell
    dsimp only
    rw [ci]
    by_cases c : so i = 1
    · rw [if_pos c] at ez; subst ez; exact ⟨rd_in hi, br_t c h⟩
    · rw [if_neg c] at ez; subst ez; exact ⟨rd_in hi, br_f c h⟩
  have cw : wh = 0 ∨ wh = 1 ∨ wh = 2 ∨ wh = 3 ∨ wh = 4 ∨ wh = 5 ∨ wh = 6 := by omega
  by_cases c : so i = 1
  · obtain ⟨o1, o2, o3, o4, o5, o6, o7, o8, o9, o10, o11, o12⟩ := rd_obj hC hR hi c
    have coc : (nI (oc i)).toNatClampNeg = oc i := rd_cl (by omega)
    have xh1 := fun post => xh 1 post (if_pos c)
    have yh1 := fun post => yh 1 post (if_pos c)
    clear xh yh
    rcases cw with rfl | rfl | rfl | rfl | rfl | rfl | rfl
    · have e2 : 2 * nI i + nI 0 = nI (2 * i + 0) := by rw [rd_m2, nI_add]
      have c2 : (nI (2 * i + 0)).toNatClampNeg = 2 * i + 0 := rd_cl (by omega)
      by_cases bit : sh (oc i) / 2 ^ 0 % 2 = 1
      · by_cases cn : ce (2 * i + 0) < 0
        · refine ⟨0, fun post hp => xh1 post ?_, fun post hp => yh1 post ?_⟩
          · unfold wX_tell_15 wX_tell_60
            refine br_f (by decide) (br_f (by decide) (br_t rfl (br_f (by decide) (xq_ref (j := 0) hi (by omega) c o3 o4 o5 o2 ?_))))
            rw [bit, e2, c2]
            exact br_f (by decide) ⟨rd_in (by omega), br_f (Int32.not_le.mpr cn) hp⟩
          · unfold wY_tell_15
            refine br_f (by decide) (br_f (by decide) (br_f (by decide) (br_f (by decide) (br_t (by decide) (yq_ref (j := 0) hi (by omega) o1 o7 o8 o2 ?_)))))
            rw [bit, e2, c2]
            exact br_f (by decide) ⟨rd_in (by omega), br_t cn hp⟩
        · refine ⟨1, fun post hp => xh1 post ?_, fun post hp => yh1 post ?_⟩
          · unfold wX_tell_15 wX_tell_60
            refine br_f (by decide) (br_f (by decide) (br_t rfl (br_f (by decide) (xq_ref (j := 0) hi (by omega) c o3 o4 o5 o2 ?_))))
            rw [bit, e2, c2]
            exact br_f (by decide) ⟨rd_in (by omega), br_t (Int32.not_lt.mp cn) hp⟩
          · unfold wY_tell_15
            refine br_f (by decide) (br_f (by decide) (br_f (by decide) (br_f (by decide) (br_t (by decide) (yq_ref (j := 0) hi (by omega) o1 o7 o8 o2 ?_)))))
            rw [bit, e2, c2]
            exact br_f (by decide) ⟨rd_in (by omega), br_f cn hp⟩
      · have b0 : sh (oc i) / 2 ^ 0 % 2 = 0 := by omega
        refine ⟨(ce (2 * i + 0)).toInt64, fun post hp => xh1 post ?_, fun post hp => yh1 post ?_⟩
        · unfold wX_tell_15 wX_tell_60
          refine br_f (by decide) (br_f (by decide) (br_t rfl (br_f (by decide) (xq_ref (j := 0) hi (by omega) c o3 o4 o5 o2 ?_))))
          rw [b0, e2, c2]
          exact br_t rfl ⟨rd_in (by omega), hp⟩
        · unfold wY_tell_15
          refine br_f (by decide) (br_f (by decide) (br_f (by decide) (br_f (by decide) (br_t (by decide) (yq_ref (j := 0) hi (by omega) o1 o7 o8 o2 ?_)))))
          rw [b0, e2, c2]
          exact br_t rfl ⟨rd_in (by omega), hp⟩
    · have e2 : 2 * nI i + nI 1 = nI (2 * i + 1) := by rw [rd_m2, nI_add]
      have c2 : (nI (2 * i + 1)).toNatClampNeg = 2 * i + 1 := rd_cl (by omega)
      by_cases bit : sh (oc i) / 2 ^ 1 % 2 = 1
      · by_cases cn : ce (2 * i + 1) < 0
        · refine ⟨0, fun post hp => xh1 post ?_, fun post hp => yh1 post ?_⟩
          · unfold wX_tell_15 wX_tell_60
            refine br_f (by decide) (br_f (by decide) (br_f (by decide) (br_t rfl (br_f (by decide) (xq_ref (j := 1) hi (by omega) c o3 o4 o5 o2 ?_)))))
            rw [bit, e2, c2]
            exact br_f (by decide) ⟨rd_in (by omega), br_f (Int32.not_le.mpr cn) hp⟩
          · unfold wY_tell_15
            refine br_f (by decide) (br_f (by decide) (br_f (by decide) (br_f (by decide) (br_t (by decide) (yq_ref (j := 1) hi (by omega) o1 o7 o8 o2 ?_)))))
            rw [bit, e2, c2]
            exact br_f (by decide) ⟨rd_in (by omega), br_t cn hp⟩
        · refine ⟨1, fun post hp => xh1 post ?_, fun post hp => yh1 post ?_⟩
          · unfold wX_tell_15 wX_tell_60
            refine br_f (by decide) (br_f (by decide) (br_f (by decide) (br_t rfl (br_f (by decide) (xq_ref (j := 1) hi (by omega) c o3 o4 o5 o2 ?_)))))
            rw [bit, e2, c2]
            exact br_f (by decide) ⟨rd_in (by omega), br_t (Int32.not_lt.mp cn) hp⟩
          · unfold wY_tell_15
            refine br_f (by decide) (br_f (by decide) (br_f (by decide) (br_f (by decide) (br_t (by decide) (yq_ref (j := 1) hi (by omega) o1 o7 o8 o2 ?_)))))
            rw [bit, e2, c2]
            exact br_f (by decide) ⟨rd_in (by omega), br_f cn hp⟩
      · have b0 : sh (oc i) / 2 ^ 1 % 2 = 0 := by omega
        refine ⟨(ce (2 * i + 1)).toInt64, fun post hp => xh1 post ?_, fun post hp => yh1 post ?_⟩
        · unfold wX_tell_15 wX_tell_60
          refine br_f (by decide) (br_f (by decide) (br_f (by decide) (br_t rfl (br_f (by decide) (xq_ref (j := 1) hi (by omega) c o3 o4 o5 o2 ?_)))))
          rw [b0, e2, c2]
          exact br_t rfl ⟨rd_in (by omega), hp⟩
        · unfold wY_tell_15
          refine br_f (by decide) (br_f (by decide) (br_f (by decide) (br_f (by decide) (br_t (by decide) (yq_ref (j := 1) hi (by omega) o1 o7 o8 o2 ?_)))))
          rw [b0, e2, c2]
          exact br_t rfl ⟨rd_in (by omega), hp⟩
    · refine ⟨(so i).toInt64, fun post hp => xh1 post ?_, fun post hp => yh1 post ?_⟩
      · unfold wX_tell_15
        rw [ci]
        exact br_f (by decide) (br_f (by decide) (br_f (by decide) (br_f (by decide) (br_t rfl (⟨rd_in hi, hp⟩)))))
      · unfold wY_tell_15
        rw [ci]
        exact br_t rfl ⟨rd_in hi, hp⟩
    · refine ⟨(nI (P (oc i) % 12)).toInt64, fun post hp => xh1 post ?_, fun post hp => yh1 post ?_⟩
      · unfold wX_tell_15
        rw [ci, o4]
        refine br_f (by decide) (br_f (by decide) (br_f (by decide) (br_f (by decide) (br_f (by decide) (br_t rfl (br_f (by decide) ⟨rd_in hi, by decide, ?_⟩))))))
        rw [show (12 : Int32) = nI 12 from rfl, pk_rem (by omega) (by omega) (by omega)]
        exact hp
      · unfold wY_tell_15
        rw [ci, o7, coc, o11]
        exact br_f (by decide) (br_f (by decide) (br_f (by decide) (br_f (by decide) (br_f (by decide) (br_t rfl ⟨rd_in hi, rd_in o1, hp⟩)))))
    · refine ⟨(nI (P (oc i) / 12 % 5)).toInt64, fun post hp => xh1 post ?_, fun post hp => yh1 post ?_⟩
      · unfold wX_tell_15
        rw [ci, o4]
        refine br_f (by decide) (br_f (by decide) (br_f (by decide) (br_f (by decide) (br_f (by decide) (br_f (by decide) (br_t rfl (br_f (by decide) ⟨rd_in hi, by decide, by decide, ?_⟩)))))))
        rw [show (12 : Int32) = nI 12 from rfl, pk_div (by omega) (by omega) (by omega), show (5 : Int32) = nI 5 from rfl, pk_rem (by omega) (by omega) (by omega)]
        exact hp
      · unfold wY_tell_15
        rw [ci, o7, coc, o10]
        refine br_f (by decide) (br_f (by decide) (br_f (by decide) (br_f (by decide) (br_f (by decide) (br_f (by decide) ⟨rd_in hi, rd_in o1, by decide, ?_⟩)))))
        rw [show (5 : Int32) = nI 5 from rfl, pk_rem (by omega) (by omega) (by omega)]
        exact hp
    · by_cases ct : tk i = 0
      · refine ⟨1099511627776, fun post hp => xh1 post ?_, fun post hp => yh1 post ?_⟩
        · unfold wX_tell_15
          rw [ci, hxt, ct]
          exact br_f (by decide) (br_f (by decide) (br_f (by decide) (br_f (by decide) (br_f (by decide) (br_f (by decide) (br_f (by decide) (br_t rfl (⟨rd_in hi, br_t (Int32.le_refl _) hp⟩))))))))
        · unfold wY_tell_15
          rw [ci, hyt, ct]
          exact br_f (by decide) (br_t rfl ⟨rd_in hi, br_t (Int32.le_refl _) hp⟩)
      · refine ⟨(nI (tk i)).toInt64, fun post hp => xh1 post ?_, fun post hp => yh1 post ?_⟩
        · unfold wX_tell_15
          rw [ci, hxt]
          exact br_f (by decide) (br_f (by decide) (br_f (by decide) (br_f (by decide) (br_f (by decide) (br_f (by decide) (br_f (by decide) (br_t rfl (⟨rd_in hi, br_f (nI_nle (by omega) (by omega)) ⟨rd_in hi, hp⟩⟩))))))))
        · unfold wY_tell_15
          rw [ci, hyt]
          exact br_f (by decide) (br_t rfl ⟨rd_in hi, br_f (nI_nle (by omega) (by omega)) ⟨rd_in hi, hp⟩⟩)
    · refine ⟨1099511627776, fun post hp => xh1 post ?_, fun post hp => yh1 post ?_⟩
      · unfold wX_tell_15
        exact br_f (by decide) (br_f (by decide) (br_f (by decide) (br_f (by decide) (br_f (by decide) (br_f (by decide) (br_f (by decide) (br_f (by decide) (br_t rfl (br_f (by decide) hp)))))))))
      · unfold wY_tell_15
        exact br_f (by decide) (br_f (by decide) (br_t rfl (br_f (by decide) hp)))
  · have xh0 := fun post => xh 0 post (if_neg c)
    have yh0 := fun post => yh 0 post (if_neg c)
    clear xh yh
    rcases cw with rfl | rfl | rfl | rfl | rfl | rfl | rfl
    · refine ⟨1099511627776, fun post hp => xh0 post ?_, fun post hp => yh0 post ?_⟩
      · unfold wX_tell_15 wX_tell_60
        exact br_f (by decide) (br_f (by decide) (br_t rfl (br_t rfl hp)))
      · unfold wY_tell_15
        exact br_f (by decide) (br_f (by decide) (br_f (by decide) (br_t rfl hp)))
    · refine ⟨1099511627776, fun post hp => xh0 post ?_, fun post hp => yh0 post ?_⟩
      · unfold wX_tell_15 wX_tell_60
        exact br_f (by decide) (br_f (by decide) (br_f (by decide) (br_t rfl (br_t rfl hp))))
      · unfold wY_tell_15
        exact br_f (by decide) (br_f (by decide) (br_f (by decide) (br_t rfl hp)))
    · refine ⟨(so i).toInt64, fun post hp => xh0 post ?_, fun post hp => yh0 post ?_⟩
      · unfold wX_tell_15
        rw [ci]
        exact br_f (by decide) (br_f (by decide) (br_f (by decide) (br_f (by decide) (br_t rfl (⟨rd_in hi, hp⟩)))))
      · unfold wY_tell_15
        rw [ci]
        exact br_t rfl ⟨rd_in hi, hp⟩
    · refine ⟨1099511627776, fun post hp => xh0 post ?_, fun post hp => yh0 post ?_⟩
      · unfold wX_tell_15
        exact br_f (by decide) (br_f (by decide) (br_f (by decide) (br_f (by decide) (br_f (by decide) (br_t rfl (br_t rfl hp))))))
      · unfold wY_tell_15
        exact br_f (by decide) (br_f (by decide) (br_f (by decide) (br_t rfl hp)))
    · refine ⟨1099511627776, fun post hp => xh0 post ?_, fun post hp => yh0 post ?_⟩
      · unfold wX_tell_15
        exact br_f (by decide) (br_f (by decide) (br_f (by decide) (br_f (by decide) (br_f (by decide) (br_f (by decide) (br_t rfl (br_t rfl hp)))))))
      · unfold wY_tell_15
        exact br_f (by decide) (br_f (by decide) (br_f (by decide) (br_t rfl hp)))
    · by_cases ct : tk i = 0
      · refine ⟨1099511627776, fun post hp => xh0 post ?_, fun post hp => yh0 post ?_⟩
        · unfold wX_tell_15
          rw [ci, hxt, ct]
          exact br_f (by decide) (br_f (by decide) (br_f (by decide) (br_f (by decide) (br_f (by decide) (br_f (by decide) (br_f (by decide) (br_t rfl (⟨rd_in hi, br_t (Int32.le_refl _) hp⟩))))))))
        · unfold wY_tell_15
          rw [ci, hyt, ct]
          exact br_f (by decide) (br_t rfl ⟨rd_in hi, br_t (Int32.le_refl _) hp⟩)
      · refine ⟨(nI (tk i)).toInt64, fun post hp => xh0 post ?_, fun post hp => yh0 post ?_⟩
        · unfold wX_tell_15
          rw [ci, hxt]
          exact br_f (by decide) (br_f (by decide) (br_f (by decide) (br_f (by decide) (br_f (by decide) (br_f (by decide) (br_f (by decide) (br_t rfl (⟨rd_in hi, br_f (nI_nle (by omega) (by omega)) ⟨rd_in hi, hp⟩⟩))))))))
        · unfold wY_tell_15
          rw [ci, hyt]
          exact br_f (by decide) (br_t rfl ⟨rd_in hi, br_f (nI_nle (by omega) (by omega)) ⟨rd_in hi, hp⟩⟩)
    · refine ⟨(ho i).toInt64, fun post hp => xh0 post ?_, fun post hp => yh0 post ?_⟩
      · unfold wX_tell_15
        rw [ci]
        exact br_f (by decide) (br_f (by decide) (br_f (by decide) (br_f (by decide) (br_f (by decide) (br_f (by decide) (br_f (by decide) (br_f (by decide) (br_t rfl (br_t rfl ⟨rd_in hi, hp⟩)))))))))
      · unfold wY_tell_15
        rw [ci]
        exact br_f (by decide) (br_f (by decide) (br_t rfl (br_t rfl ⟨rd_in hi, hp⟩)))
end
theorem i_vc_look {k : Nat} {u : SX} {v : SY} (I : i_Rel k u v) (hk : k + 7 ≤ 3584) (v1 : Int32) (v2 : Int32) (v3 : Int32) (v4 : Int32) (v5 : Int32) : wpX_look (fun r => wpY_look (fun r' => r' = r ∧ i_Rel (k + 7) u v) v v1 v2 v3 v4 v5) u v1 v2 v3 v4 v5 := by
  refine rd_finR (WX := fun post => wpX_look post u v1 v2 v3 v4 v5) (WY := fun post => wpY_look post v v1 v2 v3 v4 v5) (i_up I) ?_
  obtain ⟨T, A, pa, ab, bl, d, c, c', t, t', w, o, o', ys, g, g', rfl, rfl, hpa, hD, hC, hR⟩ := I
  obtain ⟨N, P, sh, fl, sg, st, pr, kn⟩ := T
  obtain ⟨oc, tk, le, hm, gv, lm, tn⟩ := A
  obtain ⟨so, ho, ce, va, la, gi⟩ := w
  obtain ⟨li, nw, xC, xt, xL⟩ := o
  obtain ⟨tm, yC, yt, yL, ap⟩ := o'
  obtain ⟨xB, xR, xK, xU, xH, xF, xG, xT⟩ := c
  obtain ⟨yN, yB, yR, yK, yO, yA, yH, yF, yG, yU, yT⟩ := c'
  obtain ⟨dO, dP, dS, dF, dG, dR, dA⟩ := d
  obtain ⟨xc, xo, xl⟩ := t
  obtain ⟨yk, yb, yc, yl, yp⟩ := t'
  obtain ⟨gIt, gSk, gOd, gIo, gSo, gNa, gSh, gSr, gMa, gTi, gCe⟩ := g
  obtain ⟨hIt, hLi, hOp, hNa, hSh, hSr, hTi, hCe, hRe⟩ := g'
  rcases rd_slot v1 v2 with ⟨p, hp3, v, hv, rfl, rfl⟩ | ⟨hXs, hYs⟩
  case inr =>
    have hN : ∀ post : Int64 → Prop, post 1099511627776 → ∀ nn, nn ≤ 8 → ∃ f, wX_look_29 post v1 (nI nn) v5 li nw gIt pa ab dO dP dS dF dG dR dA xB xR xK xU xH xF xG xT xc xo xl so ho xC ce xt xL va la gi gSk gOd gIo gSo gNa gSh gSr gMa gTi gCe f (-1) v3 0 := fun post hp nn _ => by
      refine ⟨1, ?_⟩
      by_cases z : nI nn ≤ 0
      · exact br_t z (br_f rd_m1p hp)
      · exact br_f z (br_t rd_m1n (br_f rd_m1p hp))
    refine ⟨1099511627776, fun post hp => ?_, fun post hp => ?_⟩
    · unfold wpX_look rd_X
      dsimp only
      refine xq_held0 hXs ?_
      rcases rd_rng 8 (by decide) v4 with ⟨nn, hnn, rfl⟩ | ⟨hX, hY⟩
      · exact xq_n1 (n := 8) hnn (by omega) (br_f (by decide) (hN post hp nn hnn))
      · exact hX _ (br_t rfl hp)
    · unfold wpY_look rd_Y
      dsimp only
      exact hYs _ _ (br_t rfl hp)
  obtain ⟨mo, em, hmo⟩ := (rd_va hR hp3 hv).1
  have em : va (4 * p + v) = rd_o mo := em
  have hmo : ∀ k, mo = some k → k < 12 ∧ ¬ so (12 * p + k) = 0 := hmo
  have hXh : ∀ post : Int32 → Prop, post (rd_o (mo.map (fun v => 12 * p + v))) → wpX_held post (li, nw, gIt, pa, ab, dO, dP, dS, dF, dG, dR, dA, xB, xR, xK, xU, xH, xF, xG, xT, xc, xo, xl, so, ho, xC, ce, xt, xL, va, la, gi, gSk, gOd, gIo, gSo, gNa, gSh, gSr, gMa, gTi, gCe) (nI p) (nI v) := by
    intro post h
    cases mo with
    | none => exact xq_heldN hp3 hv em h
    | some x => exact xq_heldS hp3 hv (hmo x rfl).1 em h
  have hYh : ∀ post : Int32 → Prop, post (rd_o (mo.map (fun v => 12 * p + v))) → wpY_held post (yN, yk, tm, hIt, pa, bl, dO, dP, dS, dF, dG, dR, dA, yB, yR, yK, yO, yA, yH, yF, yG, yU, yT, yb, yc, yl, yp, so, yC, yt, ho, ce, yL, va, la, gi, ap, ys, hLi, hOp, hNa, hSh, hSr, hTi, hCe, hRe) (nI p) (nI v) := by
    intro post h
    cases mo with
    | none => exact yq_heldN hp3 hv em h
    | some x => exact yq_heldS hp3 hv (hmo x rfl).1 em h
  rcases rd_rng 8 (by decide) v4 with ⟨nn, hnn, rfl⟩ | ⟨hX, hY⟩
  case inr =>
    refine ⟨1099511627776, fun post hp => ?_, fun post hp => ?_⟩
    · unfold wpX_look rd_X
      dsimp only
      exact hXh _ (hX _ (br_t rfl hp))
    · unfold wpY_look rd_Y
      dsimp only
      exact yq_var1 hp3 hv (br_f (by decide) (hY _ (br_t rfl hp)))
  obtain ⟨fo, hfo, X1, Y1⟩ := rd_lk (path := v3) (x5 := v5) (py := pa) (bl := bl) (pa := pa) (ab := ab) (dO := dO) (dP := dP) (dS := dS) (dF := dF) (dG := dG) (dR := dR) (dA := dA) (xc := xc) (xo := xo) (xl := xl) (yk := yk) (yb := yb) (yc := yc) (yl := yl) (yp := yp) (ys := ys) (gIt := gIt) (gSk := gSk) (gOd := gOd) (gIo := gIo) (gSo := gSo) (gNa := gNa) (gSh := gSh) (gSr := gSr) (gMa := gMa) (gTi := gTi) (gCe := gCe) (hIt := hIt) (hLi := hLi) (hOp := hOp) (hNa := hNa) (hSh := hSh) (hSr := hSr) (hTi := hTi) (hCe := hCe) (hRe := hRe) hC hR hp3 hnn nn 0 v3 mo (by omega) (fun i _ => by rw [Nat.zero_add]) hmo
  have hXt : ∀ post : Int64 → Prop, wX_look_105 post v5 (rd_o (fo.map (fun v => 12 * p + v))) li nw gIt pa ab dO dP dS dF dG dR dA xB xR xK xU xH xF xG xT xc xo xl so ho xC ce xt xL va la gi gSk gOd gIo gSo gNa gSh gSr gMa gTi gCe → wpX_look post (rd_X pa ab (dO, dP, dS, dF, dG, dR, dA) (xB, xR, xK, xU, xH, xF, xG, xT) (xc, xo, xl) (so, ho, ce, va, la, gi) (li, nw, xC, xt, xL) (gIt, gSk, gOd, gIo, gSo, gNa, gSh, gSr, gMa, gTi, gCe)) (nI p) (nI v) v3 (nI nn) v5 := by
    intro post h
    unfold wpX_look rd_X
    dsimp only
    exact hXh _ (xq_n1 (n := 8) hnn (by omega) (br_f (by decide) (X1 post h)))
  rcases pk_ix v5 (n := 7) (by omega) with h | h | ⟨wh, hwh, rfl⟩
  case inl =>
    refine ⟨1099511627776, fun post hp => hXt post ?_, fun post hp => ?_⟩
    · unfold wX_look_105
      cases fo with
      | none => exact br_f rd_m1p hp
      | some x =>
        have hx := (hfo x rfl).1
        exact br_t (nI_pos' (show 12 * p + x < 2 ^ 31 by omega)) (xq_tellN (i := 12 * p + x) (by omega) (Or.inl h) hp)
    · unfold wpY_look rd_Y
      dsimp only
      exact yq_var1 hp3 hv (br_f (by decide) (yq_n1 (n := 9) (by omega) (by omega) (br_f (by decide) (yq_in0 (Or.inl h) (br_t rfl hp)))))
  case inr.inl =>
    refine ⟨1099511627776, fun post hp => hXt post ?_, fun post hp => ?_⟩
    · unfold wX_look_105
      cases fo with
      | none => exact br_f rd_m1p hp
      | some x =>
        have hx := (hfo x rfl).1
        exact br_t (nI_pos' (show 12 * p + x < 2 ^ 31 by omega)) (xq_tellN (i := 12 * p + x) (by omega) (Or.inr (rd_ge (n := 6) (by omega) h).1) hp)
    · unfold wpY_look rd_Y
      dsimp only
      exact yq_var1 hp3 hv (br_f (by decide) (yq_n1 (n := 9) (by omega) (by omega) (br_f (by decide) (yq_in0 (Or.inr h) (br_t rfl hp)))))
  have hYt : ∀ post : Int64 → Prop, wY_look_128 post (nI wh) (rd_o (fo.map (fun v => 12 * p + v))) yN yk tm hIt pa bl dO dP dS dF dG dR dA yB yR yK yO yA yH yF yG yU yT yb yc yl yp so yC yt ho ce yL va la gi ap ys hLi hOp hNa hSh hSr hTi hCe hRe → wpY_look post (rd_Y pa bl (dO, dP, dS, dF, dG, dR, dA) (yN, yB, yR, yK, yO, yA, yH, yF, yG, yU, yT) (yk, yb, yc, yl, yp) (so, ho, ce, va, la, gi) (tm, yC, yt, yL, ap) ys (hIt, hLi, hOp, hNa, hSh, hSr, hTi, hCe, hRe)) (nI p) (nI v) v3 (nI nn) (nI wh) := by
    intro post h
    unfold wpY_look rd_Y
    dsimp only
    exact yq_var1 hp3 hv (br_f (by decide) (yq_n1 (n := 9) (by omega) (by omega) (br_f (by decide) (yq_n1 (n := 7) hwh (by omega) (br_f (by decide) (hYh _ (Y1 post h)))))))
  cases fo with
  | none => exact ⟨1099511627776, fun post hp => hXt post (br_f rd_m1p hp), fun post hp => hYt post (br_f rd_m1p hp)⟩
  | some x =>
    obtain ⟨hx, hxn⟩ := hfo x rfl
    obtain ⟨r, hX2, hY2⟩ := rd_tell (i := 12 * p + x) (wh := wh) (py := pa) (bl := bl) (pa := pa) (ab := ab) (dO := dO) (dP := dP) (dS := dS) (dF := dF) (dG := dG) (dR := dR) (dA := dA) (xc := xc) (xo := xo) (xl := xl) (yk := yk) (yb := yb) (yc := yc) (yl := yl) (yp := yp) (ys := ys) (gIt := gIt) (gSk := gSk) (gOd := gOd) (gIo := gIo) (gSo := gSo) (gNa := gNa) (gSh := gSh) (gSr := gSr) (gMa := gMa) (gTi := gTi) (gCe := gCe) (hIt := hIt) (hLi := hLi) (hOp := hOp) (hNa := hNa) (hSh := hSh) (hSr := hSr) (hTi := hTi) (hCe := hCe) (hRe := hRe) hC hR (by omega) (by omega) hxn hwh
    exact ⟨r, fun post hp => hXt post (br_t (nI_pos' (show 12 * p + x < 2 ^ 31 by omega)) (hX2 _ hp)), fun post hp => hYt post (br_t (nI_pos' (show 12 * p + x < 2 ^ 31 by omega)) (hY2 _ hp))⟩
end
section
/-! owed: digest -/
section
variable {K N p lm t m k i : Nat} {P sh fl sg st oc tk le hm gv od sk : Nat → Nat} {pr kn : Nat → Option Nat}
variable {li gIt pa ab yN yk tm hIt py bl : Int32} {dO dP dS dF dG dR dA xB xR xK xU xH xF xG xT xc xo xl so ho xC ce xt va la gi gSk gOd gIo gSo gNa gSh gSr gMa gTi gCe yB yR yK yO yA yH yF yG yU yT yb yc yl yp yC yt yL ap ys hLi hOp hNa hSh hSr hTi hCe hRe : Nat → Int32} {nw : Int64} {xL : Nat → Int64}
theorem xq_dg1 {post : Int64 → SX → Prop} {J} {f j : Nat} {h x5 : Int64} {y5 : Int32} (hC : rd_CR (N, P, sh, fl, sg, st, pr, kn) (xB, xR, xK, xU, xH, xF, xG, xT) (yN, yB, yR, yK, yO, yA, yH, yF, yG, yU, yT)) (hR : rd_OR K (N, P, sh, fl, sg, st, pr, kn) (oc, tk, le, hm, gv, lm, t) (so, ho, ce, va, la, gi) (li, nw, xC, xt, xL) (tm, yC, yt, yL, ap)) (hi : i < 36) (h1 : so i = 1) (hj : j < 2) (hio : ∀ v, v < 12 → gIo v = rd_o (rd_ix od m v))
    (hW : wX_digest_137 post J (nI p) y5 (nI i) 1 li nw gIt pa ab dO dP dS dF dG dR dA xB xR xK xU xH xF xG xT xc xo xl so ho xC ce xt xL va la gi gSk gOd gIo gSo gNa gSh gSr gMa gTi gCe f (31 * h + (rd_wc (sh (oc i) / 2 ^ j % 2) od m (ce (2 * i + j))).toInt64) (nI (2 * i + (j + 1)))) : wX_digest_137 post J (nI p) y5 (nI i) 1 li nw gIt pa ab dO dP dS dF dG dR dA xB xR xK xU xH xF xG xT xc xo xl so ho xC ce xt xL va la gi gSk gOd gIo gSo gNa gSh gSr gMa gTi gCe (f + 1) h (nI (2 * i + j)) := by
  obtain ⟨o1, o2, o3, o4, o5, o6, o7, o8, o9, o10, o11, o12⟩ := rd_obj hC hR hi h1
  have hvr := hR.1.2.2.2.2.2.2.2.2 i hi h1 j hj
  have e2 : 2 * nI i + 2 = nI (2 * i + 2) := by rw [rd_m2, rd_a2]
  have ea : nI (2 * i + j) &&& 1 = nI j := by
    rw [pk_andN (by omega) 1 (by decide), show (2 * i + j) % 2 ^ 1 = j by omega]
  have c2 : (nI (2 * i + j)).toNatClampNeg = 2 * i + j := rd_cl (by omega)
  refine br_f (by rw [e2]; exact nI_ge (by omega) (by omega)) (br_f (by decide) ?_)
  rw [ea]
  refine xq_ref hi hj h1 o3 o4 o5 o2 ?_
  rw [c2]
  unfold rd_wc at hW
  have h181 : wX_digest_137 post J (nI p) y5 (nI i) 1 li nw gIt pa ab dO dP dS dF dG dR dA xB xR xK xU xH xF xG xT xc xo xl so ho xC ce xt xL va la gi gSk gOd gIo gSo gNa gSh gSr gMa gTi gCe f (31 * h + (ce (2 * i + j)).toInt64) (nI (2 * i + (j + 1))) → wX_digest_180 post (fun a b => J a b) (wX_digest_137 post J (nI p) y5 (nI i) 1 li nw gIt pa ab dO dP dS dF dG dR dA xB xR xK xU xH xF xG xT xc xo xl so ho xC ce xt xL va la gi gSk gOd gIo gSo gNa gSh gSr gMa gTi gCe f) (nI p) h y5 (nI i) 1 (nI (2 * i + j)) li nw gIt pa ab dO dP dS dF dG dR dA xB xR xK xU xH xF xG xT xc xo xl so ho xC ce xt xL va la gi gSk gOd gIo gSo gNa gSh gSr gMa gTi gCe := by
    intro H
    unfold wX_digest_180 wX_digest_181
    rw [c2]
    exact br_t rfl ⟨rd_in (by omega), nm_e (nm_r (nI_1 _) H)⟩
  by_cases bit : sh (oc i) / 2 ^ j % 2 = 1
  · rw [if_pos bit] at hW
    rw [bit]
    refine br_f (by decide) ⟨rd_in (by omega), ?_⟩
    obtain ⟨mo, em, hmo⟩ := hvr bit
    cases mo with
    | none =>
      rw [if_pos (show ce (2 * i + j) < 0 by rw [em]; exact rd_m1n)] at hW
      exact br_t (by rw [em]; exact rd_m1n) (h181 hW)
    | some v =>
      have hv := (hmo v rfl).1
      rw [em, rd_o1, if_neg (nI_pos (by omega)), rd_cl (by omega), ← hio v hv] at hW
      refine br_f (by rw [em]; exact nI_pos (by omega)) ?_
      unfold wX_digest_181
      rw [c2, em, rd_o1, rd_cl (show v < 3000 by omega)]
      exact br_f (by decide) ⟨rd_in (by omega), rd_in hv, nm_e (nm_r (nI_1 _) hW)⟩
  · rw [if_neg bit] at hW
    rw [show sh (oc i) / 2 ^ j % 2 = 0 by omega]
    exact br_t rfl (h181 hW)
theorem yq_dg1 {post : Int64 → SY → Prop} {J} {f j : Nat} {h : Int64} {y5 : Int32} (hC : rd_CR (N, P, sh, fl, sg, st, pr, kn) (xB, xR, xK, xU, xH, xF, xG, xT) (yN, yB, yR, yK, yO, yA, yH, yF, yG, yU, yT)) (hR : rd_OR K (N, P, sh, fl, sg, st, pr, kn) (oc, tk, le, hm, gv, lm, t) (so, ho, ce, va, la, gi) (li, nw, xC, xt, xL) (tm, yC, yt, yL, ap)) (hi : i < 36) (h1 : so i = 1) (hj : j < 2) (hm12 : m ≤ 12) (hli : ∀ i, i < m → hLi i = nI (od i) ∧ od i < 12)
    (hW : wY_digest_130 post J (nI p) y5 (nI i) yN yk tm (nI m) py bl dO dP dS dF dG dR dA yB yR yK yO yA yH yF yG yU yT yb yc yl yp so yC yt ho ce yL va la gi ap ys hLi hOp hNa hSh hSr hTi hCe hRe f (31 * h + (rd_wc (sh (oc i) / 2 ^ j % 2) od m (ce (2 * i + j))).toInt64) (nI (j + 1))) : wY_digest_130 post J (nI p) y5 (nI i) yN yk tm (nI m) py bl dO dP dS dF dG dR dA yB yR yK yO yA yH yF yG yU yT yb yc yl yp so yC yt ho ce yL va la gi ap ys hLi hOp hNa hSh hSr hTi hCe hRe (f + 1) h (nI j) := by
  obtain ⟨o1, o2, o3, o4, o5, o6, o7, o8, o9, o10, o11, o12⟩ := rd_obj hC hR hi h1
  have hvr := hR.1.2.2.2.2.2.2.2.2 i hi h1 j hj
  have ci : (nI i).toNatClampNeg = i := rd_cl (by omega)
  have e2 : 2 * nI i + nI j = nI (2 * i + j) := by rw [rd_m2, nI_add]
  have c2 : (nI (2 * i + j)).toNatClampNeg = 2 * i + j := rd_cl (by omega)
  refine br_f (nI_ge (b := 2) hj (by omega)) ⟨rd_in hi, br_t (by rw [ci]; exact h1) ?_⟩
  rw [e2, c2]
  refine ⟨rd_in (by omega), nm_e ?_⟩
  refine yq_ref hi hj o1 o7 o8 o2 ?_
  unfold rd_wc at hW
  by_cases bit : sh (oc i) / 2 ^ j % 2 = 1
  · rw [if_pos bit] at hW
    rw [bit]
    refine br_f (by decide) ?_
    obtain ⟨mo, em, hmo⟩ := hvr bit
    cases mo with
    | none =>
      rw [if_pos (show ce (2 * i + j) < 0 by rw [em]; exact rd_m1n)] at hW
      exact br_t (by rw [em]; exact rd_m1n) (nm_e (nm_r (nI_1 _) hW))
    | some v =>
      have hv := (hmo v rfl).1
      rw [em, rd_o1, if_neg (nI_pos (by omega)), rd_cl (by omega)] at hW
      rw [em, rd_o1]
      refine br_f (nI_pos (by omega)) ?_
      exact yq_item hm12 hv hli (nm_e (nm_r (nI_1 _) hW))
  · rw [if_neg bit] at hW
    rw [show sh (oc i) / 2 ^ j % 2 = 0 by omega]
    exact br_t rfl (nm_e (nm_r (nI_1 _) hW))
theorem rd_dig (hC : rd_CR (N, P, sh, fl, sg, st, pr, kn) (xB, xR, xK, xU, xH, xF, xG, xT) (yN, yB, yR, yK, yO, yA, yH, yF, yG, yU, yT)) (hR : rd_OR K (N, P, sh, fl, sg, st, pr, kn) (oc, tk, le, hm, gv, lm, t) (so, ho, ce, va, la, gi) (li, nw, xC, xt, xL) (tm, yC, yt, yL, ap)) (hp3 : p < 3) (hV : rd_V so p m 0 od sk gOd gIo gSk hLi hOp) :
    ∀ (e k : Nat) (h : Int64), k + e = m → ∃ hf : Int64, (∀ post : Int64 → SX → Prop, post hf (li, nw, nI m, pa, ab, dO, dP, dS, dF, dG, dR, dA, xB, xR, xK, xU, xH, xF, xG, xT, xc, xo, xl, so, ho, xC, ce, xt, xL, va, la, gi, gSk, gOd, gIo, gSo, gNa, gSh, gSr, gMa, gTi, gCe) → ∃ f, wX_digest_34 post (nI p) li nw (nI m) pa ab dO dP dS dF dG dR dA xB xR xK xU xH xF xG xT xc xo xl so ho xC ce xt xL va la gi gSk gOd gIo gSo gNa gSh gSr gMa gTi gCe f h (nI k)) ∧ (∀ post : Int64 → SY → Prop, post hf (yN, yk, tm, nI m, py, bl, dO, dP, dS, dF, dG, dR, dA, yB, yR, yK, yO, yA, yH, yF, yG, yU, yT, yb, yc, yl, yp, so, yC, yt, ho, ce, yL, va, la, gi, ap, ys, hLi, hOp, hNa, hSh, hSr, hTi, hCe, hRe) → ∃ f, wY_digest_34 post (nI p) yN yk tm (nI m) py bl dO dP dS dF dG dR dA yB yR yK yO yA yH yF yG yU yT yb yc yl yp so yC yt ho ce yL va la gi ap ys hLi hOp hNa hSh hSr hTi hCe hRe f h (nI k)) := by
  obtain ⟨v1, v2, v3, v4, v5, v6⟩ := hV
  have hli : ∀ i, i < m → hLi i = nI (od i) ∧ od i < 12 := fun i hi => ⟨(v3 i hi).2.1, (v3 i hi).2.2.1⟩
  intro e
  induction e with
  | zero =>
    intro k h hk
    obtain rfl : k = m := by omega
    exact ⟨h, fun post hp => ⟨1, br_t (Int32.le_refl _) hp⟩, fun post hp => ⟨1, br_t (Int32.le_refl _) hp⟩⟩
  | succ e ih =>
    intro k h hk
    have hkm : k < m := by omega
    obtain ⟨q1, q2, q3, q4⟩ := v3 k hkm
    have gk : ¬ nI m ≤ nI k := nI_ge hkm (by omega)
    have ck : (nI k).toNatClampNeg = k := rd_cl (by omega)
    have hi36 : 12 * p + od k < 36 := by omega
    have ci : (nI (12 * p + od k)).toNatClampNeg = 12 * p + od k := rd_cl (by omega)
    have hxt := hR.2.1.2.2.2.1 _ hi36 q4
    have hyt := hR.2.2.2.2.1 _ hi36 q4
    by_cases hs : so (12 * p + od k) = 1
    · obtain ⟨o1, o2, o3, o4, o5, o6, o7, o8, o9, o10, o11, o12⟩ := rd_obj hC hR hi36 hs
      have coc : (nI (oc (12 * p + od k))).toNatClampNeg = oc (12 * p + od k) := rd_cl (by omega)
      have e2 : 2 * nI (12 * p + od k) + 2 = nI (2 * (12 * p + od k) + 2) := by rw [rd_m2, rd_a2]
      obtain ⟨hf, X1, Y1⟩ := ih (k + 1) (31 * (31 * (31 * h + (nI (P (oc (12 * p + od k)) % 12)).toInt64) + (rd_wc (sh (oc (12 * p + od k)) / 2 ^ 0 % 2) od m (ce (2 * (12 * p + od k) + 0))).toInt64) + (rd_wc (sh (oc (12 * p + od k)) / 2 ^ 1 % 2) od m (ce (2 * (12 * p + od k) + 1))).toInt64) (by omega)
      refine ⟨hf, fun post hp => ?_, fun post hp => ?_⟩
      · obtain ⟨F, hF⟩ := X1 post hp
        refine ⟨F + 1, br_f gk ⟨rd_in (by omega), ?_⟩⟩
        rw [ck, q1, rd_m12, nI_add]
        refine nm_e ⟨rd_in hi36, br_t (by rw [ci]; exact hs) ?_⟩
        unfold wX_digest_73
        rw [ci, o4, show (12 : Int32) = nI 12 from rfl, pk_rem (by omega) (by omega) (by omega)]
        refine br_f (by decide) ⟨rd_in hi36, by decide, ?_⟩
        unfold wX_digest_108
        refine nm_e (br_f (by decide) ?_)
        rw [rd_m2]
        refine nm_e ⟨3, ?_⟩
        refine xq_dg1 (x5 := 0) (j := 0) hC hR hi36 hs (by omega) v5 (xq_dg1 (x5 := 0) (j := 1) hC hR hi36 hs (by omega) v5 ?_)
        exact br_t (by rw [e2]; exact Int32.le_refl _) (nm_r (nI_1 k) hF)
      · obtain ⟨F, hF⟩ := Y1 post hp
        refine ⟨F + 1, br_f gk ⟨rd_in (by omega), ?_⟩⟩
        rw [ck, q2, rd_m12, nI_add]
        refine nm_e ⟨rd_in hi36, br_t (by rw [ci]; exact hs) ⟨rd_in hi36, ?_⟩⟩
        rw [ci, o7, coc, o11]
        refine ⟨rd_in o1, ?_⟩
        unfold wY_digest_98
        refine nm_e ⟨rd_in hi36, br_f (by rw [ci, hs]; decide) ⟨3, ?_⟩⟩
        refine yq_dg1 (j := 0) hC hR hi36 hs (by omega) v1 hli (yq_dg1 (j := 1) hC hR hi36 hs (by omega) v1 hli ?_)
        exact br_t (by decide) (nm_r (nI_1 k) hF)
    · have hs2 : so (12 * p + od k) = 2 := ((hR.1.2.1 _ hi36).1.resolve_left q4).resolve_left hs
      obtain ⟨hf, X1, Y1⟩ := ih (k + 1) (31 * (31 * h + (100 + ho (12 * p + od k)).toInt64) + (nI (tk (12 * p + od k))).toInt64) (by omega)
      refine ⟨hf, fun post hp => ?_, fun post hp => ?_⟩
      · obtain ⟨F, hF⟩ := X1 post hp
        refine ⟨F + 1, br_f gk ⟨rd_in (by omega), ?_⟩⟩
        rw [ck, q1, rd_m12, nI_add]
        refine nm_e ⟨rd_in hi36, br_f (by rw [ci]; exact hs) ?_⟩
        unfold wX_digest_73
        rw [ci]
        refine br_t rfl ⟨rd_in hi36, ?_⟩
        unfold wX_digest_108
        rw [ci, hxt, rd_m2]
        refine nm_e (br_t rfl ⟨rd_in hi36, nm_e (nm_e ⟨1, ?_⟩)⟩)
        refine br_f (by rw [rd_m2, rd_a2]; exact nI_ge (by omega) (by omega)) (br_t rfl (nm_r (nI_1 k) hF))
      · obtain ⟨F, hF⟩ := Y1 post hp
        refine ⟨F + 1, br_f gk ⟨rd_in (by omega), ?_⟩⟩
        rw [ck, q2, rd_m12, nI_add]
        refine nm_e ⟨rd_in hi36, br_f (by rw [ci]; exact hs) ⟨rd_in hi36, ?_⟩⟩
        rw [ci]
        unfold wY_digest_98
        rw [ci, hyt]
        refine nm_e ⟨rd_in hi36, br_t hs2 ⟨rd_in hi36, nm_e ⟨1, br_f (by decide) ⟨rd_in hi36, br_f (by rw [ci]; exact hs) (nm_r (nI_1 k) hF)⟩⟩⟩⟩
end
def rd_OutL (k : Nat) (WX : (Int64 → SX → Prop) → Prop) (WY : (Int64 → SY → Prop) → Prop) : Prop := ∃ (r : Int64) (u' : SX) (v' : SY), i_Rel k u' v' ∧ (∀ post : Int64 → SX → Prop, post r u' → WX post) ∧ (∀ post : Int64 → SY → Prop, post r v' → WY post)
theorem rd_finL {k : Nat} {WX : (Int64 → SX → Prop) → Prop} {WY : (Int64 → SY → Prop) → Prop} (h : rd_OutL k WX WY) : WX (fun r u' => WY (fun r' v' => r' = r ∧ i_Rel k u' v')) := by
  obtain ⟨r, u', v', hR, hX, hY⟩ := h
  exact hX _ (hY _ ⟨rfl, hR⟩)
theorem i_vc_digest {k : Nat} {u : SX} {v : SY} (I : i_Rel k u v) (hk : k + 7 ≤ 3584) (v1 : Int32) (v2 : Int32) : wpX_digest (fun r u' => wpY_digest (fun r' v' => r' = r ∧ i_Rel (k + 7) u' v') v v1 v2) u v1 v2 := by
  refine rd_finL (WX := fun post => wpX_digest post u v1 v2) (WY := fun post => wpY_digest post v v1 v2) ?_
  obtain ⟨T, A, pa, ab, bl, d, c, c', t, t', w, o, o', ys, g, g', rfl, rfl, hpa, hD, hC, hR⟩ := I
  have hR7 := rd_OR_mono (show k ≤ k + 7 by omega) hR
  have rel : i_Rel (k + 7) (rd_X pa ab d c t w o g) (rd_Y pa bl d c' t' w o' ys g') := rd_mkrel hpa hD hC hR7
  rcases rd_slot v1 v2 with ⟨p, hp3, v, hv, rfl, rfl⟩ | ⟨hXs, hYs⟩
  case inr =>
    refine ⟨1099511627776, _, _, rel, fun post hp => ?_, fun post hp => ?_⟩
    · unfold wpX_digest rd_X
      dsimp only
      exact hXs _ (br_t rfl hp)
    · unfold wpY_digest rd_Y
      dsimp only
      exact hYs _ _ (br_t rfl hp)
  obtain ⟨fr, eva, hfr⟩ := (rd_va hR hp3 hv).1
  obtain ⟨N, P, sh, fl, sg, st, pr, kn⟩ := T
  obtain ⟨oc, tk, le, hm, gv, lm, tn⟩ := A
  obtain ⟨so, ho, ce, va, la, gi⟩ := w
  obtain ⟨li, nw, xC, xt, xL⟩ := o
  obtain ⟨tm, yC, yt, yL, ap⟩ := o'
  obtain ⟨dO, dP, dS, dF, dG, dR, dA⟩ := d
  obtain ⟨xB, xR, xK, xU, xH, xF, xG, xT⟩ := c
  obtain ⟨yN, yB, yR, yK, yO, yA, yH, yF, yG, yU, yT⟩ := c'
  obtain ⟨xc, xo, xl⟩ := t
  obtain ⟨yk, yb, yc, yl, yp⟩ := t'
  obtain ⟨gIt, gSk, gOd, gIo, gSo, gNa, gSh, gSr, gMa, gTi, gCe⟩ := g
  obtain ⟨hIt, hLi, hOp, hNa, hSh, hSr, hTi, hCe, hRe⟩ := g'
  have eva : va (4 * p + v) = rd_o fr := eva
  have e4v : 4 * nI p + nI v = nI (4 * p + v) := by rw [rd_m4, nI_add]
  have c4v : (nI (4 * p + v)).toNatClampNeg = 4 * p + v := rd_cl (by omega)
  rcases rd_visit (b := 0) hC hR (by omega) hp3 (by omega) hfr with ⟨m, od, sk, gOd1, gIo1, gSk1, hLi1, hOp1, hV, hbad, X1, Y1⟩ | ⟨z, _⟩
  · obtain ⟨hf, X2, Y2⟩ := rd_dig hC hR hp3 hV m 0 1 (by omega)
    refine ⟨hf, rd_X pa ab (dO, dP, dS, dF, dG, dR, dA) (xB, xR, xK, xU, xH, xF, xG, xT) (xc, xo, xl) (so, ho, ce, va, la, gi) (li, nw, xC, xt, xL) (nI m, gSk1, gOd1, gIo1, gSo, gNa, gSh, gSr, gMa, gTi, gCe), rd_Y pa bl (dO, dP, dS, dF, dG, dR, dA) (yN, yB, yR, yK, yO, yA, yH, yF, yG, yU, yT) (yk, yb, yc, yl, yp) (so, ho, ce, va, la, gi) (tm, yC, yt, yL, ap) ys (nI m, hLi1, hOp1, hNa, hSh, hSr, hTi, hCe, hRe), rd_mkrel hpa hD hC hR7, fun post hp => ?_, fun post hp => ?_⟩
    · unfold wpX_digest rd_X
      dsimp only
      refine xq_slot1 hp3 hv (br_f (by decide) ?_)
      rw [e4v, c4v, eva]
      exact ⟨rd_in (by omega), X1 _ (X2 post hp)⟩
    · unfold wpY_digest rd_Y
      dsimp only
      refine yq_var1 hp3 hv (br_f (by decide) ?_)
      rw [e4v, c4v, eva]
      exact ⟨rd_in (by omega), Y1 _ (Y2 post hp)⟩
  · omega
end
section
/-! owed: tick -/
/-- between the clock's step and the leases' end: Y's leases as they were at tc -/
def rd_OYm (tc : Nat) : rt_A → rt_W → rt_OY → Prop
  | (oc, tk, le, _, _, lm, t), (so, _, _, _, _, _), (tm, yC, yt, yL, ap) =>
    tm = nI t ∧
    (∀ i, i < 36 → so i = 1 → yC i = nI (oc i)) ∧
    (∀ i, i < 36 → ¬ so i = 0 → yt i = nI (tk i)) ∧
    (∀ i, i < 36 → so i = 1 → ∀ p, p < 3 → yL (3 * i + p) = nI (rd_lv tc (le (3 * i + p)))) ∧
    (∀ p, p < 3 → ∀ q, q < 3 → ap (3 * p + q) = nI (rd_ap lm p q))
def rd_ORm (tc K : Nat) (T : rt_T) (A : rt_A) (w : rt_W) (o : rt_OX) (o' : rt_OY) : Prop := rd_OI K T A w ∧ rd_OX T A w o ∧ rd_OYm tc A w o'
section
variable {K N p q k tt lm t : Nat} {P sh fl sg st oc tk le hm gv : Nat → Nat} {pr kn : Nat → Option Nat}
variable {li gIt pa ab yN yk tm hIt py bl : Int32} {dO dP dS dF dG dR dA xB xR xK xU xH xF xG xT xc xo xl so ho xC ce xt va la gi gSk gOd gIo gSo gNa gSh gSr gMa gTi gCe yB yR yK yO yA yH yF yG yU yT yb yc yl yp yC yt yL ap ys hLi hOp hNa hSh hSr hTi hCe hRe : Nat → Int32} {nw : Int64} {xL : Nat → Int64}
theorem rd_renewM {tc : Nat} (htc : tc ≤ t) (hR : rd_ORm tc K (N, P, sh, fl, sg, st, pr, kn) (oc, tk, le, hm, gv, lm, t) (so, ho, ce, va, la, gi) (li, nw, xC, xt, xL) (tm, yC, yt, yL, ap)) (hK : K ≤ 4000) (hp3 : p < 3) (hk : k < 12) (hs : so (12 * p + k) = 2) (eq : hm (12 * p + k) = q) (et : tk (12 * p + k) = tt) :
    ∃ (le' : Nat → Nat) (xL1 : Nat → Int64) (yL1 : rt_F), rd_ORm tc K (N, P, sh, fl, sg, st, pr, kn) (oc, tk, le', hm, gv, lm, t) (so, ho, ce, va, la, gi) (li, nw, xC, xt, xL1) (tm, yC, yt, yL1, ap) ∧
      (∀ post : SX → Prop, post (li, nw, gIt, pa, ab, dO, dP, dS, dF, dG, dR, dA, xB, xR, xK, xU, xH, xF, xG, xT, xc, xo, xl, so, ho, xC, ce, xt, xL1, va, la, gi, gSk, gOd, gIo, gSo, gNa, gSh, gSr, gMa, gTi, gCe) → wpX_renew post (li, nw, gIt, pa, ab, dO, dP, dS, dF, dG, dR, dA, xB, xR, xK, xU, xH, xF, xG, xT, xc, xo, xl, so, ho, xC, ce, xt, xL, va, la, gi, gSk, gOd, gIo, gSo, gNa, gSh, gSr, gMa, gTi, gCe) (nI p) (nI q) (nI tt)) ∧ (∀ post : SY → Prop, post (yN, yk, tm, hIt, py, bl, dO, dP, dS, dF, dG, dR, dA, yB, yR, yK, yO, yA, yH, yF, yG, yU, yT, yb, yc, yl, yp, so, yC, yt, ho, ce, yL1, va, la, gi, ap, ys, hLi, hOp, hNa, hSh, hSr, hTi, hCe, hRe) → wpY_renew post (yN, yk, tm, hIt, py, bl, dO, dP, dS, dF, dG, dR, dA, yB, yR, yK, yO, yA, yH, yF, yG, yU, yT, yb, yc, yl, yp, so, yC, yt, ho, ce, yL, va, la, gi, ap, ys, hLi, hOp, hNa, hSh, hSr, hTi, hCe, hRe) (nI p) (nI k)) := by
  obtain ⟨⟨a1, a2, a3, a4, a5, a6, a7, a8, a9⟩, ⟨b1, b2, b3, b4, b5⟩, ⟨d1, d2, d3, d4, d5⟩⟩ := hR
  obtain ⟨_, eh, hq, htK⟩ := a2 (12 * p + k) (by omega)
  rw [eq] at eh hq
  rw [et] at htK
  have ht1 := a4 (12 * p + k) (by omega) hs
  rw [et] at ht1
  have hyt := d3 (12 * p + k) (by omega) (by rw [hs]; decide)
  rw [et] at hyt
  obtain ⟨e, _, e2, e3, e4⟩ := rd_first (fun x => so (12 * q + x) = 1 ∧ tk (12 * q + x) = tt) 0 12 (by omega)
  have hX : ∀ x, x < 12 → ((so (12 * q + x) = 1 ∧ xt (12 * q + x) = nI tt) ↔ (so (12 * q + x) = 1 ∧ tk (12 * q + x) = tt)) := fun x hx => by
    constructor
    · rintro ⟨h1, h2⟩
      rw [b4 _ (by omega) (by rw [h1]; decide)] at h2
      exact ⟨h1, (nI_eq (by have := (a2 (12 * q + x) (by omega)).2.2.2; omega) (by omega)).mp h2⟩
    · rintro ⟨h1, h2⟩
      exact ⟨h1, by rw [b4 _ (by omega) (by rw [h1]; decide), h2]⟩
  have hY : ∀ x, x < 12 → ((so (12 * q + x) = 1 ∧ yt (12 * q + x) = nI tt) ↔ (so (12 * q + x) = 1 ∧ tk (12 * q + x) = tt)) := fun x hx => by
    constructor
    · rintro ⟨h1, h2⟩
      rw [d3 _ (by omega) (by rw [h1]; decide)] at h2
      exact ⟨h1, (nI_eq (by have := (a2 (12 * q + x) (by omega)).2.2.2; omega) (by omega)).mp h2⟩
    · rintro ⟨h1, h2⟩
      exact ⟨h1, by rw [d3 _ (by omega) (by rw [h1]; decide), h2]⟩
  have xE : ∀ post : Int32 → Prop, post (if e = 12 then -1 else nI e) → wpX_exported post (li, nw, gIt, pa, ab, dO, dP, dS, dF, dG, dR, dA, xB, xR, xK, xU, xH, xF, xG, xT, xc, xo, xl, so, ho, xC, ce, xt, xL, va, la, gi, gSk, gOd, gIo, gSo, gNa, gSh, gSr, gMa, gTi, gCe) (nI q) (nI tt) := fun post hp =>
    xq_exp hq e2 (fun x hx z => e3 x (Nat.zero_le _) hx ((hX x (by omega)).mp z)) (by
      rcases e4 with z | z
      · exact Or.inl z
      · by_cases c : e = 12
        · exact Or.inl c
        · exact Or.inr ((hX e (by omega)).mpr z)) hp
  have yE : ∀ post : Int32 → Prop, post (if e = 12 then -1 else nI (12 * q + e)) → wpY_exported post (yN, yk, tm, hIt, py, bl, dO, dP, dS, dF, dG, dR, dA, yB, yR, yK, yO, yA, yH, yF, yG, yU, yT, yb, yc, yl, yp, so, yC, yt, ho, ce, yL, va, la, gi, ap, ys, hLi, hOp, hNa, hSh, hSr, hTi, hCe, hRe) (nI q) (nI tt) := fun post hp =>
    yq_exp hq ht1 (by omega) e2 (fun x hx z => e3 x (Nat.zero_le _) hx ((hY x (by omega)).mp z)) (by
      rcases e4 with z | z
      · exact Or.inl z
      · by_cases c : e = 12
        · exact Or.inl c
        · exact Or.inr ((hY e (by omega)).mpr z)) hp
  have xLk : ∀ post : Int32 → Prop, post (nI (1 - rd_ap lm p q)) → wpX_isLinked post (li, nw, gIt, pa, ab, dO, dP, dS, dF, dG, dR, dA, xB, xR, xK, xU, xH, xF, xG, xT, xc, xo, xl, so, ho, xC, ce, xt, xL, va, la, gi, gSk, gOd, gIo, gSo, gNa, gSh, gSr, gMa, gTi, gCe) (nI p) (nI q) := fun post hp => xq_linked hp3 hq a1.1 b1 hp
  have e12 : 12 * nI p + nI k = nI (12 * p + k) := by rw [rd_m12, nI_add]
  have ecl : (nI (12 * p + k)).toNatClampNeg = 12 * p + k := rd_cl (by omega)
  have yRn : ∀ post : SY → Prop, wpY_exported (fun r_4 => (((r_4 < 0 → (post (yN, yk, tm, hIt, py, bl, dO, dP, dS, dF, dG, dR, dA, yB, yR, yK, yO, yA, yH, yF, yG, yU, yT, yb, yc, yl, yp, so, yC, yt, ho, ce, yL, va, la, gi, ap, ys, hLi, hOp, hNa, hSh, hSr, hTi, hCe, hRe))) ∧ (¬ r_4 < 0 → (vp_in ((3 * nI p) + nI q) 9 ∧ ((((ap ((3 * nI p) + nI q).toNatClampNeg) = 0 → (vp_in ((3 * r_4) + nI p) 108 ∧ ∀ L : Nat → Int32, L = upd yL ((3 * r_4) + nI p).toNatClampNeg (tm + 10) → (post (yN, yk, tm, hIt, py, bl, dO, dP, dS, dF, dG, dR, dA, yB, yR, yK, yO, yA, yH, yF, yG, yU, yT, yb, yc, yl, yp, so, yC, yt, ho, ce, L, va, la, gi, ap, ys, hLi, hOp, hNa, hSh, hSr, hTi, hCe, hRe)))) ∧ (¬ (ap ((3 * nI p) + nI q).toNatClampNeg) = 0 → (post (yN, yk, tm, hIt, py, bl, dO, dP, dS, dF, dG, dR, dA, yB, yR, yK, yO, yA, yH, yF, yG, yU, yT, yb, yc, yl, yp, so, yC, yt, ho, ce, yL, va, la, gi, ap, ys, hLi, hOp, hNa, hSh, hSr, hTi, hCe, hRe)))))))))) (yN, yk, tm, hIt, py, bl, dO, dP, dS, dF, dG, dR, dA, yB, yR, yK, yO, yA, yH, yF, yG, yU, yT, yb, yc, yl, yp, so, yC, yt, ho, ce, yL, va, la, gi, ap, ys, hLi, hOp, hNa, hSh, hSr, hTi, hCe, hRe) (nI q) (nI tt) → wpY_renew post (yN, yk, tm, hIt, py, bl, dO, dP, dS, dF, dG, dR, dA, yB, yR, yK, yO, yA, yH, yF, yG, yU, yT, yb, yc, yl, yp, so, yC, yt, ho, ce, yL, va, la, gi, ap, ys, hLi, hOp, hNa, hSh, hSr, hTi, hCe, hRe) (nI p) (nI k) := by
    intro post h
    unfold wpY_renew
    dsimp only
    rw [e12, ecl, eh, hyt]
    exact ⟨rd_in (by omega), nm_e ⟨rd_in (by omega), h⟩⟩
  by_cases c : e = 12
  · refine ⟨le, xL, yL, ⟨⟨a1, a2, a3, a4, a5, a6, a7, a8, a9⟩, ⟨b1, b2, b3, b4, b5⟩, ⟨d1, d2, d3, d4, d5⟩⟩, fun post hp => ?_, fun post hp => yRn post (yE _ ?_)⟩
    · unfold wpX_renew
      dsimp only
      refine xLk _ (br_c (fun _ => br_t rd_m1n hp) (fun _ => xE _ ?_))
      rw [if_pos c]; exact br_t rd_m1n hp
    · rw [if_pos c]; exact br_t rd_m1n hp
  · obtain ⟨f1, f2⟩ := e4.resolve_left c
    have ap3 : 3 * nI p + nI q = nI (3 * p + q) := by rw [rd_m3, nI_add]
    have hap := d5 p hp3 q hq
    have hap1 : rd_ap lm p q = 0 ∨ rd_ap lm p q = 1 := by
      unfold rd_ap
      split <;> omega
    by_cases lk : rd_ap lm p q = 0
    · -- linked: the lease is renewed
      have hix : 3 * (12 * q + e) + p < 108 := by omega
      refine ⟨rd_u le (3 * (12 * q + e) + p) (t + 10), vp_updL xL (3 * (12 * q + e) + p) (lN (t + 10)), upd yL (3 * (12 * q + e) + p) (nI (t + 10)), ⟨⟨a1, a2, a3, a4, a5, fun x hx y hy => ?_, a7, a8, a9⟩, ⟨b1, b2, b3, b4, fun x hx y hy => ?_⟩, ⟨d1, d2, d3, fun x hx h1 y hy => ?_, d5⟩⟩, fun post hp => ?_, fun post hp => yRn post (yE _ ?_)⟩
      · by_cases z : 3 * x + y = 3 * (12 * q + e) + p
        · rw [z, rd_us]
          refine ⟨Nat.le_refl _, fun h1 => ?_⟩
          have : x = 12 * q + e := by omega
          rw [this] at h1
          exact absurd f1 h1
        · rw [rd_un z]; exact a6 x hx y hy
      · by_cases z : 3 * x + y = 3 * (12 * q + e) + p
        · rw [z, rd_us, pk_uLs]
        · rw [rd_un z, pk_uLn z]; exact b5 x hx y hy
      · by_cases z : 3 * x + y = 3 * (12 * q + e) + p
        · rw [z, rd_us, pk_us]
          unfold rd_lv
          rw [if_pos (by omega)]
        · rw [rd_un z, pk_un z]; exact d4 x hx h1 y hy
      · unfold wpX_renew
        dsimp only
        refine xLk _ ?_
        rw [lk]
        refine br_f (by decide) (xE _ ?_)
        rw [if_neg c]
        refine br_f (nI_pos (by omega)) ?_
        rw [rd_m12, nI_add, rd_m3, nI_add, rd_cl (by omega)]
        exact ⟨rd_in hix, nm_r (by rw [b2, show lN t + 10 = lN (t + 10) from lN_add t 10]) hp⟩
      · rw [if_neg c]
        refine br_f (nI_pos (by omega)) ?_
        rw [ap3, rd_cl (by omega), hap, lk]
        refine ⟨rd_in (by omega), br_t rfl ?_⟩
        rw [rd_m3, nI_add, rd_cl (by omega)]
        exact ⟨rd_in hix, nm_r (by rw [d1, rd_a10]) hp⟩
    · have lk1 : rd_ap lm p q = 1 := hap1.resolve_left lk
      refine ⟨le, xL, yL, ⟨⟨a1, a2, a3, a4, a5, a6, a7, a8, a9⟩, ⟨b1, b2, b3, b4, b5⟩, ⟨d1, d2, d3, d4, d5⟩⟩, fun post hp => ?_, fun post hp => yRn post (yE _ ?_)⟩
      · unfold wpX_renew
        dsimp only
        refine xLk _ ?_
        rw [lk1]
        exact br_t rfl (br_t rd_m1n hp)
      · rw [if_neg c]
        refine br_f (nI_pos (by omega)) ?_
        rw [ap3, rd_cl (by omega), hap, lk1]
        exact ⟨rd_in (by omega), br_f (by decide) hp⟩
theorem rd_tk1 {tc : Nat} (htc : tc ≤ t) (hK : K ≤ 4000) (hmod : t % 4 = 0) : ∀ (e x : Nat) (le : Nat → Nat) (xL : Nat → Int64) (yL : rt_F), x + e = 36 → rd_ORm tc K (N, P, sh, fl, sg, st, pr, kn) (oc, tk, le, hm, gv, lm, t) (so, ho, ce, va, la, gi) (li, nw, xC, xt, xL) (tm, yC, yt, yL, ap) →
    ∃ (le' : Nat → Nat) (xL' : Nat → Int64) (yL' : rt_F), rd_ORm tc K (N, P, sh, fl, sg, st, pr, kn) (oc, tk, le', hm, gv, lm, t) (so, ho, ce, va, la, gi) (li, nw, xC, xt, xL') (tm, yC, yt, yL', ap) ∧
      (∀ (post : Int32 → SX → Prop) J (x1 x2 : Int32), J (x2 + 1) li nw gIt pa ab dO dP dS dF dG dR dA xB xR xK xU xH xF xG xT xc xo xl so ho xC ce xt xL' va la gi gSk gOd gIo gSo gNa gSh gSr gMa gTi gCe → ∃ f, wX_tick_32 post J x1 x2 f (nI x) li nw gIt pa ab dO dP dS dF dG dR dA xB xR xK xU xH xF xG xT xc xo xl so ho xC ce xt xL va la gi gSk gOd gIo gSo gNa gSh gSr gMa gTi gCe) ∧
      (∀ (post : Int32 → SY → Prop) J (x1 x2 : Int32), (∃ f, wY_tick_76 post J x1 x2 yN yk tm hIt py bl f 0 dO dP dS dF dG dR dA yB yR yK yO yA yH yF yG yU yT yb yc yl yp so yC yt ho ce yL' va la gi ap ys hLi hOp hNa hSh hSr hTi hCe hRe) → ∃ f, wY_tick_31 post J x1 x2 f (nI x) yN yk tm hIt py bl dO dP dS dF dG dR dA yB yR yK yO yA yH yF yG yU yT yb yc yl yp so yC yt ho ce yL va la gi ap ys hLi hOp hNa hSh hSr hTi hCe hRe) := by
  intro e
  induction e with
  | zero =>
    intro x le xL yL hx hR
    obtain rfl : x = 36 := by omega
    exact ⟨le, xL, yL, hR, fun post J x1 x2 h => ⟨1, br_t (Int32.le_refl _) (nm_e h)⟩, fun post J x1 x2 h => ⟨1, br_t (Int32.le_refl _) h⟩⟩
  | succ e ih =>
    intro x le xL yL hx hR
    have hx36 : x < 36 := by omega
    have g36 : ¬ 36 ≤ nI x := nI_ge (b := 36) hx36 (by omega)
    have cx : (nI x).toNatClampNeg = x := rd_cl (by omega)
    have htK := hR.1.1.2
    have eX : nw - nw / 4 * 4 = 0 := by
      rw [hR.2.1.2.1, show (4 : Int64) = lN 4 from rfl, pk_lRem (by omega) (by omega) (by omega), hmod]; rfl
    have eY : tm - tm / 4 * 4 = 0 := by
      rw [hR.2.2.1, show (4 : Int32) = nI 4 from rfl, pk_rem (by omega) (by omega) (by omega), hmod]; rfl
    by_cases hs : so x = 2
    · have hnf : ¬ so x = 0 := by rw [hs]; decide
      have hxx : 12 * (x / 12) + x % 12 = x := by omega
      have hho := (hR.1.2.1 x hx36).2.1
      have hxt := hR.2.1.2.2.2.1 x hx36 hnf
      obtain ⟨le1, xL1, yL1, hR1, X1, Y1⟩ := rd_renewM (p := x / 12) (k := x % 12) (q := hm x) (tt := tk x) (pa := pa) (ab := ab) (dO := dO) (dP := dP) (dS := dS) (dF := dF) (dG := dG) (dR := dR) (dA := dA) (xB := xB) (xR := xR) (xK := xK) (xU := xU) (xH := xH) (xF := xF) (xG := xG) (xT := xT) (xc := xc) (xo := xo) (xl := xl) (yN := yN) (yk := yk) (py := py) (bl := bl) (yB := yB) (yR := yR) (yK := yK) (yO := yO) (yA := yA) (yH := yH) (yF := yF) (yG := yG) (yU := yU) (yT := yT) (yb := yb) (yc := yc) (yl := yl) (yp := yp) (ys := ys) (gIt := gIt) (gSk := gSk) (gOd := gOd) (gIo := gIo) (gSo := gSo) (gNa := gNa) (gSh := gSh) (gSr := gSr) (gMa := gMa) (gTi := gTi) (gCe := gCe) (hIt := hIt) (hLi := hLi) (hOp := hOp) (hNa := hNa) (hSh := hSh) (hSr := hSr) (hTi := hTi) (hCe := hCe) (hRe := hRe) htc hR hK (by omega) (by omega) (by rw [hxx]; exact hs) (by rw [hxx]) (by rw [hxx])
      obtain ⟨le', xL', yL', hR2, X2, Y2⟩ := ih (x + 1) le1 xL1 yL1 (by omega) hR1
      have e12 : nI x / 12 = nI (x / 12) := by rw [show (12 : Int32) = nI 12 from rfl, pk_div (by omega) (by omega) (by omega)]
      have er : nI x - nI (x / 12) * 12 = nI (x % 12) := by rw [← e12, show (12 : Int32) = nI 12 from rfl, pk_rem (by omega) (by omega) (by omega)]
      refine ⟨le', xL', yL', hR2, fun post J x1 x2 h => ?_, fun post J x1 x2 h => ?_⟩
      · obtain ⟨F, hF⟩ := X2 post J x1 x2 h
        refine ⟨F + 1, br_f g36 ⟨by decide, br_t eX ⟨rd_in hx36, br_t (by rw [cx]; exact hs) ⟨by decide, rd_in hx36, rd_in hx36, ?_⟩⟩⟩⟩
        rw [cx, e12, hho, hxt]
        exact X1 _ (nm_r (nI_1 x) hF)
      · obtain ⟨F, hF⟩ := Y2 post J x1 x2 h
        refine ⟨F + 1, br_f g36 ⟨by decide, br_t eY ⟨rd_in hx36, br_t (by rw [cx]; exact hs) ⟨by decide, by decide, ?_⟩⟩⟩⟩
        rw [e12, er]
        exact Y1 _ (nm_r (nI_1 x) hF)
    · obtain ⟨le', xL', yL', hR2, X2, Y2⟩ := ih (x + 1) le xL yL (by omega) hR
      refine ⟨le', xL', yL', hR2, fun post J x1 x2 h => ?_, fun post J x1 x2 h => ?_⟩
      · obtain ⟨F, hF⟩ := X2 post J x1 x2 h
        exact ⟨F + 1, br_f g36 ⟨by decide, br_t eX ⟨rd_in hx36, br_f (by rw [cx]; exact hs) (nm_r (nI_1 x) hF)⟩⟩⟩
      · obtain ⟨F, hF⟩ := Y2 post J x1 x2 h
        exact ⟨F + 1, br_f g36 ⟨by decide, br_t eY ⟨rd_in hx36, br_f (by rw [cx]; exact hs) (nm_r (nI_1 x) hF)⟩⟩⟩
def rd_ex (t : Int32) (yL : rt_F) (j : Nat) : rt_F := fun x => if x < j ∧ ¬ t < yL x then 0 else yL x
theorem rd_ex0 {T : Int32} {yL : rt_F} : rd_ex T yL 0 = yL := by
  funext x
  exact if_neg (fun z => by omega)
theorem rd_ex1 {T : Int32} {yL : rt_F} {j : Nat} (h : T < yL j) : rd_ex T yL (j + 1) = rd_ex T yL j := by
  funext x
  unfold rd_ex
  by_cases c : x = j
  · subst c
    rw [if_neg (fun z => z.2 h), if_neg (fun z => z.2 h)]
  · by_cases c2 : x < j ∧ ¬ T < yL x
    · rw [if_pos c2, if_pos ⟨by omega, c2.2⟩]
    · rw [if_neg c2, if_neg (fun z => c2 ⟨by omega, z.2⟩)]
theorem rd_ex2 {T : Int32} {yL : rt_F} {j : Nat} (h : ¬ T < yL j) : rd_ex T yL (j + 1) = upd (rd_ex T yL j) j 0 := by
  funext x
  by_cases c : x = j
  · subst c
    rw [pk_us]
    exact if_pos ⟨by omega, h⟩
  · rw [pk_un c]
    unfold rd_ex
    by_cases c2 : x < j ∧ ¬ T < yL x
    · rw [if_pos c2, if_pos ⟨by omega, c2.2⟩]
    · rw [if_neg c2, if_neg (fun z => c2 ⟨by omega, z.2⟩)]
theorem yq_76 {post : Int32 → SY → Prop} {J} {x1 x2 : Int32} (h : J (x2 + 1) yN yk tm hIt py bl dO dP dS dF dG dR dA yB yR yK yO yA yH yF yG yU yT yb yc yl yp so yC yt ho ce (rd_ex tm yL 108) va la gi ap ys hLi hOp hNa hSh hSr hTi hCe hRe) : ∃ f, wY_tick_76 post J x1 x2 yN yk tm hIt py bl f 0 dO dP dS dF dG dR dA yB yR yK yO yA yH yF yG yU yT yb yc yl yp so yC yt ho ce yL va la gi ap ys hLi hOp hNa hSh hSr hTi hCe hRe := by
  have key := rd_run (fun f j => wY_tick_76 post J x1 x2 yN yk tm hIt py bl f (nI j) dO dP dS dF dG dR dA yB yR yK yO yA yH yF yG yU yT yb yc yl yp so yC yt ho ce (rd_ex tm yL j) va la gi ap ys hLi hOp hNa hSh hSr hTi hCe hRe) (i := 0) (k := 108) (by omega) ⟨1, br_t (Int32.le_refl _) (nm_e h)⟩ (fun f j _ hj W => by
    refine br_f (nI_ge (b := 108) hj (by omega)) ⟨rd_in hj, ?_⟩
    have ej : rd_ex tm yL j j = yL j := if_neg (fun z => by omega)
    rw [rd_cl (by omega), ej]
    by_cases c : tm < yL j
    · rw [rd_ex1 c] at W
      exact br_t c (nm_r (nI_1 j) W)
    · rw [rd_ex2 c] at W
      exact br_f c ⟨rd_in hj, nm_e (nm_r (nI_1 j) W)⟩)
  obtain ⟨f, hf⟩ := key
  rw [rd_ex0] at hf
  exact ⟨f, hf⟩
/-- one tick -/
theorem rd_tk2 (hK : K ≤ 4000) (ht : t + 1 ≤ 58 * K) (hR : rd_OR K (N, P, sh, fl, sg, st, pr, kn) (oc, tk, le, hm, gv, lm, t) (so, ho, ce, va, la, gi) (li, nw, xC, xt, xL) (tm, yC, yt, yL, ap)) :
    ∃ (le' : Nat → Nat) (xL' : Nat → Int64) (yL' : rt_F), rd_OR K (N, P, sh, fl, sg, st, pr, kn) (oc, tk, le', hm, gv, lm, t + 1) (so, ho, ce, va, la, gi) (li, lN (t + 1), xC, xt, xL') (nI (t + 1), yC, yt, yL', ap) ∧
      (∀ (post : Int32 → SX → Prop) J (x1 x2 : Int32), J (x2 + 1) li (lN (t + 1)) gIt pa ab dO dP dS dF dG dR dA xB xR xK xU xH xF xG xT xc xo xl so ho xC ce xt xL' va la gi gSk gOd gIo gSo gNa gSh gSr gMa gTi gCe → ∃ f, wX_tick_32 post J x1 x2 f 0 li (lN (t + 1)) gIt pa ab dO dP dS dF dG dR dA xB xR xK xU xH xF xG xT xc xo xl so ho xC ce xt xL va la gi gSk gOd gIo gSo gNa gSh gSr gMa gTi gCe) ∧
      (∀ (post : Int32 → SY → Prop) J (x1 x2 : Int32), J (x2 + 1) yN yk (nI (t + 1)) hIt py bl dO dP dS dF dG dR dA yB yR yK yO yA yH yF yG yU yT yb yc yl yp so yC yt ho ce yL' va la gi ap ys hLi hOp hNa hSh hSr hTi hCe hRe → ∃ f, wY_tick_31 post J x1 x2 f 0 yN yk (nI (t + 1)) hIt py bl dO dP dS dF dG dR dA yB yR yK yO yA yH yF yG yU yT yb yc yl yp so yC yt ho ce yL va la gi ap ys hLi hOp hNa hSh hSr hTi hCe hRe) := by
  obtain ⟨⟨a1, a2, a3, a4, a5, a6, a7, a8, a9⟩, ⟨b1, b2, b3, b4, b5⟩, ⟨d1, d2, d3, d4, d5⟩⟩ := hR
  have hM : rd_ORm t K (N, P, sh, fl, sg, st, pr, kn) (oc, tk, le, hm, gv, lm, t + 1) (so, ho, ce, va, la, gi) (li, lN (t + 1), xC, xt, xL) (nI (t + 1), yC, yt, yL, ap) :=
    ⟨⟨⟨a1.1, ht⟩, a2, a3, a4, a5, fun i hi p hp => ⟨by have := (a6 i hi p hp).1; omega, (a6 i hi p hp).2⟩, a7, a8, a9⟩, ⟨b1, rfl, b3, b4, b5⟩, ⟨rfl, d2, d3, d4, d5⟩⟩
  -- the leases end
  have fin : ∀ (le' : Nat → Nat) (xL' : Nat → Int64) (yL' : rt_F), rd_ORm t K (N, P, sh, fl, sg, st, pr, kn) (oc, tk, le', hm, gv, lm, t + 1) (so, ho, ce, va, la, gi) (li, lN (t + 1), xC, xt, xL') (nI (t + 1), yC, yt, yL', ap) → rd_OR K (N, P, sh, fl, sg, st, pr, kn) (oc, tk, le', hm, gv, lm, t + 1) (so, ho, ce, va, la, gi) (li, lN (t + 1), xC, xt, xL') (nI (t + 1), yC, yt, rd_ex (nI (t + 1)) yL' 108, ap) := by
    intro le' xL' yL' h
    obtain ⟨hI, hX, ⟨f1, f2, f3, f4, f5⟩⟩ := h
    refine ⟨hI, hX, ⟨f1, f2, f3, fun i hi h1 p hp => ?_, f5⟩⟩
    have hb := (hI.2.2.2.2.2.1 i hi p hp).1
    unfold rd_ex
    rw [f4 i hi h1 p hp]
    unfold rd_lv
    by_cases c : t + 1 < le' (3 * i + p)
    · rw [if_pos c, if_pos (show t < le' (3 * i + p) by omega), if_neg (fun z => z.2 (nI_lt c (by omega)))]
    · rw [if_neg c]
      by_cases c2 : t < le' (3 * i + p)
      · rw [if_pos c2, if_pos ⟨by omega, nI_nlt (by omega) (by omega)⟩]
        rfl
      · rw [if_neg c2, if_pos ⟨by omega, nI_nlt (by omega) (by omega)⟩]
        rfl
  by_cases hmod : (t + 1) % 4 = 0
  · obtain ⟨le', xL', yL', hR1, X1, Y1⟩ := rd_tk1 (pa := pa) (ab := ab) (dO := dO) (dP := dP) (dS := dS) (dF := dF) (dG := dG) (dR := dR) (dA := dA) (xB := xB) (xR := xR) (xK := xK) (xU := xU) (xH := xH) (xF := xF) (xG := xG) (xT := xT) (xc := xc) (xo := xo) (xl := xl) (yN := yN) (yk := yk) (py := py) (bl := bl) (yB := yB) (yR := yR) (yK := yK) (yO := yO) (yA := yA) (yH := yH) (yF := yF) (yG := yG) (yU := yU) (yT := yT) (yb := yb) (yc := yc) (yl := yl) (yp := yp) (ys := ys) (gIt := gIt) (gSk := gSk) (gOd := gOd) (gIo := gIo) (gSo := gSo) (gNa := gNa) (gSh := gSh) (gSr := gSr) (gMa := gMa) (gTi := gTi) (gCe := gCe) (hIt := hIt) (hLi := hLi) (hOp := hOp) (hNa := hNa) (hSh := hSh) (hSr := hSr) (hTi := hTi) (hCe := hCe) (hRe := hRe) (t := t + 1) (by omega) hK hmod 36 0 le xL yL (by omega) hM
    exact ⟨le', xL', _, fin le' xL' yL' hR1, fun post J x1 x2 h => X1 post J x1 x2 h, fun post J x1 x2 h => Y1 post J x1 x2 (yq_76 h)⟩
  · have eX : ¬ lN (t + 1) - lN (t + 1) / 4 * 4 = 0 := by
      rw [show (4 : Int64) = lN 4 from rfl, pk_lRem (by omega) (by omega) (by omega)]
      exact fun z => hmod ((lN_eq (b := 0) (by omega) (by omega)).mp z)
    have eY : ¬ nI (t + 1) - nI (t + 1) / 4 * 4 = 0 := by
      rw [show (4 : Int32) = nI 4 from rfl, pk_rem (by omega) (by omega) (by omega)]
      exact nI_ne0 (by omega) (by omega)
    exact ⟨le, xL, _, fin le xL yL hM, fun post J x1 x2 h => ⟨1, br_f (by decide) ⟨by decide, br_f eX (nm_e h)⟩⟩, fun post J x1 x2 h => ⟨1, br_f (by decide) ⟨by decide, br_f eY (yq_76 h)⟩⟩⟩
theorem rd_tk3 {n : Nat} (hn : n ≤ 400) (hK : K ≤ 4000) : ∀ (e j t : Nat) (le : Nat → Nat) (nw : Int64) (tm : Int32) (xL : Nat → Int64) (yL : rt_F), j + e = n → t + e ≤ 58 * K → rd_OR K (N, P, sh, fl, sg, st, pr, kn) (oc, tk, le, hm, gv, lm, t) (so, ho, ce, va, la, gi) (li, nw, xC, xt, xL) (tm, yC, yt, yL, ap) →
    ∃ (t' : Nat) (le' : Nat → Nat) (nw' : Int64) (tm' : Int32) (xL' : Nat → Int64) (yL' : rt_F), rd_OR K (N, P, sh, fl, sg, st, pr, kn) (oc, tk, le', hm, gv, lm, t') (so, ho, ce, va, la, gi) (li, nw', xC, xt, xL') (tm', yC, yt, yL', ap) ∧
      (∀ post : Int32 → SX → Prop, post (nI t') (li, nw', gIt, pa, ab, dO, dP, dS, dF, dG, dR, dA, xB, xR, xK, xU, xH, xF, xG, xT, xc, xo, xl, so, ho, xC, ce, xt, xL', va, la, gi, gSk, gOd, gIo, gSo, gNa, gSh, gSr, gMa, gTi, gCe) → ∃ f, wX_tick_15 post (nI n) f (nI j) li nw gIt pa ab dO dP dS dF dG dR dA xB xR xK xU xH xF xG xT xc xo xl so ho xC ce xt xL va la gi gSk gOd gIo gSo gNa gSh gSr gMa gTi gCe) ∧ (∀ post : Int32 → SY → Prop, post (nI t') (yN, yk, tm', hIt, py, bl, dO, dP, dS, dF, dG, dR, dA, yB, yR, yK, yO, yA, yH, yF, yG, yU, yT, yb, yc, yl, yp, so, yC, yt, ho, ce, yL', va, la, gi, ap, ys, hLi, hOp, hNa, hSh, hSr, hTi, hCe, hRe) → ∃ f, wY_tick_14 post (nI n) f (nI j) yN yk tm hIt py bl dO dP dS dF dG dR dA yB yR yK yO yA yH yF yG yU yT yb yc yl yp so yC yt ho ce yL va la gi ap ys hLi hOp hNa hSh hSr hTi hCe hRe) := by
  intro e
  induction e with
  | zero =>
    intro j t le nw tm xL yL hj ht hR
    obtain rfl : j = n := by omega
    have e1 := hR.2.1.2.1
    have e2 := hR.2.2.1
    refine ⟨t, le, nw, tm, xL, yL, hR, fun post hp => ⟨1, br_t (Int32.le_refl _) ?_⟩, fun post hp => ⟨1, br_t (Int32.le_refl _) ?_⟩⟩
    · have : nw.toInt32 = nI t := by rw [e1, lN_i]
      rw [this]; exact hp
    · have : post (nI t) (yN, yk, tm, hIt, py, bl, dO, dP, dS, dF, dG, dR, dA, yB, yR, yK, yO, yA, yH, yF, yG, yU, yT, yb, yc, yl, yp, so, yC, yt, ho, ce, yL, va, la, gi, ap, ys, hLi, hOp, hNa, hSh, hSr, hTi, hCe, hRe) := hp
      rw [← e2] at this; exact this
  | succ e ih =>
    intro j t le nw tm xL yL hj ht hR
    have e1 := hR.2.1.2.1
    have e2 := hR.2.2.1
    obtain ⟨le1, xL1, yL1, hR1, X1, Y1⟩ := rd_tk2 (pa := pa) (ab := ab) (dO := dO) (dP := dP) (dS := dS) (dF := dF) (dG := dG) (dR := dR) (dA := dA) (xB := xB) (xR := xR) (xK := xK) (xU := xU) (xH := xH) (xF := xF) (xG := xG) (xT := xT) (xc := xc) (xo := xo) (xl := xl) (yN := yN) (yk := yk) (py := py) (bl := bl) (yB := yB) (yR := yR) (yK := yK) (yO := yO) (yA := yA) (yH := yH) (yF := yF) (yG := yG) (yU := yU) (yT := yT) (yb := yb) (yc := yc) (yl := yl) (yp := yp) (ys := ys) (gIt := gIt) (gSk := gSk) (gOd := gOd) (gIo := gIo) (gSo := gSo) (gNa := gNa) (gSh := gSh) (gSr := gSr) (gMa := gMa) (gTi := gTi) (gCe := gCe) (hIt := hIt) (hLi := hLi) (hOp := hOp) (hNa := hNa) (hSh := hSh) (hSr := hSr) (hTi := hTi) (hCe := hCe) (hRe := hRe) (t := t) hK (by omega) hR
    obtain ⟨t', le', nw', tm', xL', yL', hR2, X2, Y2⟩ := ih (j + 1) (t + 1) le1 (lN (t + 1)) (nI (t + 1)) xL1 yL1 (by omega) (by omega) hR1
    refine ⟨t', le', nw', tm', xL', yL', hR2, fun post hp => ?_, fun post hp => ?_⟩
    · obtain ⟨F, hF⟩ := X2 post hp
      refine ⟨F + 1, br_f (nI_ge (by omega) (by omega)) (nm_r (e' := lN (t + 1)) (by rw [e1, lN_1]) (X1 post _ _ _ ?_))⟩
      rw [nI_1]; exact hF
    · obtain ⟨F, hF⟩ := Y2 post hp
      refine ⟨F + 1, br_f (nI_ge (by omega) (by omega)) (nm_r (e' := nI (t + 1)) (by rw [e2, nI_1]) (Y1 post _ _ _ ?_))⟩
      rw [nI_1]; exact hF
end
theorem i_vc_tick {k : Nat} {u : SX} {v : SY} (I : i_Rel k u v) (hk : k + 7 ≤ 3584) (v1 : Int32) : wpX_tick (fun r u' => wpY_tick (fun r' v' => r' = r ∧ i_Rel (k + 7) u' v') v v1) u v1 := by
  refine rd_fin (WX := fun post => wpX_tick post u v1) (WY := fun post => wpY_tick post v v1) ?_
  obtain ⟨T, A, pa, ab, bl, d, c, c', t, t', w, o, o', ys, g, g', rfl, rfl, hpa, hD, hC, hR⟩ := I
  have hR7 := rd_OR_mono (show k ≤ k + 7 by omega) hR
  have rel : i_Rel (k + 7) (rd_X pa ab d c t w o g) (rd_Y pa bl d c' t' w o' ys g') := rd_mkrel hpa hD hC hR7
  rcases rd_rng 400 (by decide) v1 with ⟨n, hn, rfl⟩ | ⟨hX, hY⟩
  case inr =>
    refine ⟨-1, _, _, rel, fun post hp => ?_, fun post hp => ?_⟩
    · unfold wpX_tick rd_X
      dsimp only
      exact hX _ (br_t rfl hp)
    · unfold wpY_tick rd_Y
      dsimp only
      exact hY _ (br_t rfl hp)
  obtain ⟨N, P, sh, fl, sg, st, pr, kn⟩ := T
  obtain ⟨oc, tk, le, hm, gv, lm, tn⟩ := A
  obtain ⟨so, ho, ce, va, la, gi⟩ := w
  obtain ⟨li, nw, xC, xt, xL⟩ := o
  obtain ⟨tm, yC, yt, yL, ap⟩ := o'
  obtain ⟨dO, dP, dS, dF, dG, dR, dA⟩ := d
  obtain ⟨xB, xR, xK, xU, xH, xF, xG, xT⟩ := c
  obtain ⟨yN, yB, yR, yK, yO, yA, yH, yF, yG, yU, yT⟩ := c'
  obtain ⟨xc, xo, xl⟩ := t
  obtain ⟨yk, yb, yc, yl, yp⟩ := t'
  obtain ⟨gIt, gSk, gOd, gIo, gSo, gNa, gSh, gSr, gMa, gTi, gCe⟩ := g
  obtain ⟨hIt, hLi, hOp, hNa, hSh, hSr, hTi, hCe, hRe⟩ := g'
  have htn := hR.1.1.2
  obtain ⟨t1, le1, nw1, tm1, xL1, yL1, hR1, X1, Y1⟩ := rd_tk3 (pa := pa) (ab := ab) (dO := dO) (dP := dP) (dS := dS) (dF := dF) (dG := dG) (dR := dR) (dA := dA) (xB := xB) (xR := xR) (xK := xK) (xU := xU) (xH := xH) (xF := xF) (xG := xG) (xT := xT) (xc := xc) (xo := xo) (xl := xl) (yN := yN) (yk := yk) (py := pa) (bl := bl) (yB := yB) (yR := yR) (yK := yK) (yO := yO) (yA := yA) (yH := yH) (yF := yF) (yG := yG) (yU := yU) (yT := yT) (yb := yb) (yc := yc) (yl := yl) (yp := yp) (ys := ys) (gIt := gIt) (gSk := gSk) (gOd := gOd) (gIo := gIo) (gSo := gSo) (gNa := gNa) (gSh := gSh) (gSr := gSr) (gMa := gMa) (gTi := gTi) (gCe := gCe) (hIt := hIt) (hLi := hLi) (hOp := hOp) (hNa := hNa) (hSh := hSh) (hSr := hSr) (hTi := hTi) (hCe := hCe) (hRe := hRe) hn (show k + 7 ≤ 4000 by omega) n 0 tn le nw tm xL yL (by omega) (by omega) hR7
  refine ⟨nI t1, rd_X pa ab (dO, dP, dS, dF, dG, dR, dA) (xB, xR, xK, xU, xH, xF, xG, xT) (xc, xo, xl) (so, ho, ce, va, la, gi) (li, nw1, xC, xt, xL1) (gIt, gSk, gOd, gIo, gSo, gNa, gSh, gSr, gMa, gTi, gCe), rd_Y pa bl (dO, dP, dS, dF, dG, dR, dA) (yN, yB, yR, yK, yO, yA, yH, yF, yG, yU, yT) (yk, yb, yc, yl, yp) (so, ho, ce, va, la, gi) (tm1, yC, yt, yL1, ap) ys (hIt, hLi, hOp, hNa, hSh, hSr, hTi, hCe, hRe), rd_mkrel hpa hD hC hR1, fun post hp => ?_, fun post hp => ?_⟩
  · unfold wpX_tick rd_X
    dsimp only
    exact xq_n1 (n := 400) hn (by omega) (br_f (by decide) (X1 post hp))
  · unfold wpY_tick rd_Y
    dsimp only
    exact yq_n1 (n := 401) (by omega) (by omega) (br_f (by decide) (Y1 post hp))
end
section
/-! what stays: X's set of bits, Y's array -/
def rd_BS (x : Int32) (f : Nat → Bool) : Prop := ∀ i, i < 32 → bt x i = (decide (i < 12) && f i)
def rd_YS (ys : rt_F) (f : Nat → Bool) : Prop := ∀ k, k < 12 → ys k = nI (rd_bn (f k))
def rd_ad (f : Nat → Bool) (mo : Option Nat) : Nat → Bool := fun k => f k || decide (mo = some k)
theorem rd_BS0 : rd_BS 0 (fun _ => false) := fun i hi => by rw [b_0, Bool.and_false]
theorem rd_b1 : ∀ i, i < 32 → bt (1 : Int32) i = decide (i = 0) := by decide +kernel
theorem rd_BSad {x : Int32} {f : Nat → Bool} {k : Nat} (h : rd_BS x f) (hk : k < 12) : rd_BS (x ||| ((1 : Int32) <<< (nI k &&& 31))) (rd_ad f (some k)) := by
  intro i hi
  rw [b_or, h i hi, b_shl k (by omega) 1 hi, rd_b1 (i - k) (by omega)]
  unfold rd_ad
  by_cases c : i = k
  · subst c
    rw [decide_eq_true (Nat.le_refl i), decide_eq_true (show i - i = 0 by omega), decide_eq_true (show i < 12 by omega), decide_eq_true (show some i = some i from rfl)]
    cases f i <;> rfl
  · have e : (decide (k ≤ i) && decide (i - k = 0)) = false := by
      by_cases c1 : k ≤ i
      · rw [decide_eq_false (show ¬ i - k = 0 by omega), Bool.and_false]
      · rw [decide_eq_false c1, Bool.false_and]
    rw [e, decide_eq_false (show ¬ some k = some i from fun z => c (Option.some.inj z).symm), Bool.or_false, Bool.or_false]
theorem rd_ad0 {f : Nat → Bool} : rd_ad f none = f := by
  funext k
  unfold rd_ad
  rw [decide_eq_false (show ¬ (none : Option Nat) = some k from fun z => nomatch z), Bool.or_false]
theorem rd_adt {f : Nat → Bool} {k : Nat} : rd_ad f (some k) k = true := by
  unfold rd_ad
  rw [decide_eq_true (show some k = some k from rfl), Bool.or_true]
theorem rd_adm {f : Nat → Bool} {mo : Option Nat} {k : Nat} (h : f k = true) : rd_ad f mo k = true := by
  unfold rd_ad
  rw [h, Bool.true_or]
theorem rd_YSad {ys : rt_F} {f : Nat → Bool} {k : Nat} (h : rd_YS ys f) : rd_YS (upd ys k 1) (rd_ad f (some k)) := by
  intro j hj
  by_cases c : j = k
  · subst c
    rw [pk_us, rd_adt]; rfl
  · rw [pk_un c, h j hj]
    unfold rd_ad
    rw [decide_eq_false (show ¬ some k = some j from fun z => c (Option.some.inj z).symm), Bool.or_false]
theorem rd_YSsame {ys : rt_F} {f g : Nat → Bool} (h : rd_YS ys f) (e : ∀ k, k < 12 → g k = f k) : rd_YS ys g := fun k hk => by rw [e k hk]; exact h k hk
theorem rd_BSsame {x : Int32} {f g : Nat → Bool} (h : rd_BS x f) (e : ∀ k, k < 12 → g k = f k) : rd_BS x g := fun i hi => by
  rw [h i hi]
  by_cases c : i < 12
  · rw [e i c]
  · rw [decide_eq_false c, Bool.false_and, Bool.false_and]
theorem rd_BSt {x : Int32} {f : Nat → Bool} {k : Nat} (h : rd_BS x f) (hk : k < 12) : ((x >>> (nI k &&& 31)) &&& 1) = nI (rd_bn (f k)) := by
  rw [rd_and1, b_sshr k (by omega) x (by omega), if_pos (by omega), Nat.add_zero, h k (by omega), decide_eq_true hk, Bool.true_and]
theorem rd_BSe {x y : Int32} {f g : Nat → Bool} (hx : rd_BS x f) (hy : rd_BS y g) : x = y ↔ ∀ k, k < 12 → f k = g k := by
  constructor
  · intro e k hk
    have a := hx k (by omega)
    have b := hy k (by omega)
    rw [decide_eq_true hk, Bool.true_and] at a b
    rw [← a, ← b, e]
  · intro e
    refine b_ext (fun i hi => ?_)
    rw [hx i hi, hy i hi]
    by_cases c : i < 12
    · rw [e i c]
    · rw [decide_eq_false c, Bool.false_and, Bool.false_and]
theorem rd_bn1 {b : Bool} : nI (rd_bn b) = 1 ↔ b = true := by cases b <;> decide
theorem rd_bn0 {b : Bool} : nI (rd_bn b) = 0 ↔ b = false := by cases b <;> decide
theorem rd_cn_lt {f g : Nat → Bool} {k : Nat} (hf : f k = false) (hg : g k = true) : ∀ n, k < n → (∀ i, i < n → f i = true → g i = true) → rd_cn f n < rd_cn g n := by
  have le : ∀ n, (∀ i, i < n → f i = true → g i = true) → rd_cn f n ≤ rd_cn g n := by
    intro n
    induction n with
    | zero => intro _; exact Nat.le_refl _
    | succ n ih =>
      intro h
      have := ih (fun i hi => h i (by omega))
      show rd_cn f n + (if f n = true then 1 else 0) ≤ rd_cn g n + (if g n = true then 1 else 0)
      by_cases c : f n = true
      · rw [if_pos c, if_pos (h n (by omega) c)]; omega
      · rw [if_neg c]; omega
  intro n
  induction n with
  | zero => intro h; omega
  | succ n ih =>
    intro hk h
    show rd_cn f n + (if f n = true then 1 else 0) < rd_cn g n + (if g n = true then 1 else 0)
    by_cases c : n = k
    · subst c
      have := le n (fun i hi => h i (by omega))
      rw [if_neg (by rw [hf]; decide), if_pos hg]; omega
    · have := ih (by omega) (fun i hi => h i (by omega))
      by_cases c2 : f n = true
      · rw [if_pos c2, if_pos (h n (by omega) c2)]; omega
      · rw [if_neg c2]; omega
/-- where cell j of a place leads -/
def rd_tg (so ce : rt_F) (sh oc : Nat → Nat) (p j : Nat) (u : Nat) : Prop := so (12 * p + j / 2) = 1 ∧ sh (oc (12 * p + j / 2)) / 2 ^ (j % 2) % 2 = 1 ∧ ce (24 * p + j) = nI u
section
variable {K N p lm t : Nat} {P sh fl sg st oc tk le hm gv : Nat → Nat} {pr kn : Nat → Option Nat}
variable {li gIt pa ab yN yk tm hIt py bl : Int32} {dO dP dS dF dG dR dA xB xR xK xU xH xF xG xT xc xo xl so ho xC ce xt va la gi gSk gOd gIo gSo gNa gSh gSr gMa gTi gCe yB yR yK yO yA yH yF yG yU yT yb yc yl yp yC yt yL ap ys hLi hOp hNa hSh hSr hTi hCe hRe : Nat → Int32} {nw : Int64} {xL : Nat → Int64}
/-- one pass over the cells of a place -/
theorem rd_pass {f0 : Nat → Bool} {x0 : Int32} (hC : rd_CR (N, P, sh, fl, sg, st, pr, kn) (xB, xR, xK, xU, xH, xF, xG, xT) (yN, yB, yR, yK, yO, yA, yH, yF, yG, yU, yT)) (hR : rd_OR K (N, P, sh, fl, sg, st, pr, kn) (oc, tk, le, hm, gv, lm, t) (so, ho, ce, va, la, gi) (li, nw, xC, xt, xL) (tm, yC, yt, yL, ap)) (hp3 : p < 3) :
    ∀ (e j : Nat) (f : Nat → Bool) (x : Int32) (ys : rt_F) (more : Nat), j + e = 24 → rd_BS x f → rd_YS ys f → (∀ k, k < 12 → f0 k = true → f k = true) → more < 2 → (more = 0 → ∀ k, k < 12 → f k = f0 k) → (more = 1 → ∃ k, k < 12 ∧ f0 k = false ∧ f k = true) → (∀ i, i < j → ∀ u, u < 12 → f0 (i / 2) = true → rd_tg so ce sh oc p i u → f u = true) →
    ∃ (f' : Nat → Bool) (x' : Int32) (ys' : rt_F) (more' : Nat), rd_BS x' f' ∧ rd_YS ys' f' ∧ (∀ k, k < 12 → f k = true → f' k = true) ∧ more' < 2 ∧ (more' = 0 → ∀ k, k < 12 → f' k = f0 k) ∧ (more' = 1 → ∃ k, k < 12 ∧ f0 k = false ∧ f' k = true) ∧ (∀ i, i < 24 → ∀ u, u < 12 → f0 (i / 2) = true → rd_tg so ce sh oc p i u → f' u = true) ∧
      (∀ (post : Int32 → Prop) J, ((x' = x0 → post x') ∧ (¬ x' = x0 → J x')) → ∃ n, wX_stays_126 post J (nI p) x0 li nw gIt pa ab dO dP dS dF dG dR dA xB xR xK xU xH xF xG xT xc xo xl so ho xC ce xt xL va la gi gSk gOd gIo gSo gNa gSh gSr gMa gTi gCe n x (nI (24 * p + j))) ∧
      (∀ (post : SY → Prop) J, J (nI more') dO dP dS dF dG dR dA yB yR yK yO yA yH yF yG yU yT yb yc yl yp so yC yt ho ce yL va la gi ap ys' hLi hOp hNa hSh hSr hTi hCe hRe → ∃ n, wY_keep_155 post J (nI p) yN yk tm hIt py bl n (nI more) (nI j) dO dP dS dF dG dR dA yB yR yK yO yA yH yF yG yU yT yb yc yl yp so yC yt ho ce yL va la gi ap ys hLi hOp hNa hSh hSr hTi hCe hRe) := by
  intro e
  induction e with
  | zero =>
    intro j f x ys more hj hB hY hmo hm2 hm0 hm1 hcl
    obtain rfl : j = 24 := by omega
    exact ⟨f, x, ys, more, hB, hY, fun _ _ h => h, hm2, hm0, hm1, hcl, fun post J h => ⟨1, br_t (by rw [rd_m24, rd_a24]; exact Int32.le_refl _) h⟩, fun post J h => ⟨1, br_t (Int32.le_refl _) h⟩⟩
  | succ e ih =>
    intro j f x ys more hj hB hY hmo hm2 hm0 hm1 hcl
    have hj24 : j < 24 := by omega
    have gX : ¬ 24 * nI p + 24 ≤ nI (24 * p + j) := by rw [rd_m24, rd_a24]; exact nI_ge (by omega) (by omega)
    have gY : ¬ 24 ≤ nI j := nI_ge (b := 24) hj24 (by omega)
    have d2X : nI (24 * p + j) / 2 = nI (12 * p + j / 2) := by rw [show (2 : Int32) = nI 2 from rfl, pk_div (by omega) (by omega) (by omega), show (24 * p + j) / 2 = 12 * p + j / 2 by omega]
    have d2Y : nI j / 2 = nI (j / 2) := by rw [show (2 : Int32) = nI 2 from rfl, pk_div (by omega) (by omega) (by omega)]
    have r2Y : nI j - nI (j / 2) * 2 = nI (j % 2) := by rw [← d2Y, show (2 : Int32) = nI 2 from rfl, pk_rem (by omega) (by omega) (by omega)]
    have aX : nI (24 * p + j) &&& 1 = nI (j % 2) := by rw [pk_andN (by omega) 1 (by decide), show (24 * p + j) % 2 ^ 1 = j % 2 by omega]
    have sX : nI (12 * p + j / 2) - 12 * nI p = nI (j / 2) := by rw [rd_m12, pk_sub (by omega), show 12 * p + j / 2 - 12 * p = j / 2 by omega]
    have iY : 12 * nI p + nI (j / 2) = nI (12 * p + j / 2) := by rw [rd_m12, nI_add]
    have ci : (nI (12 * p + j / 2)).toNatClampNeg = 12 * p + j / 2 := rd_cl (by omega)
    have cj : (nI (j / 2)).toNatClampNeg = j / 2 := rd_cl (by omega)
    have cc : (nI (24 * p + j)).toNatClampNeg = 24 * p + j := rd_cl (by omega)
    have e2 : 2 * nI (12 * p + j / 2) + nI (j % 2) = nI (24 * p + j) := by rw [rd_m2, nI_add, show 2 * (12 * p + j / 2) + j % 2 = 24 * p + j by omega]
    -- X's and Y's round
    have xr : ∀ (post : Int32 → Prop) J F, (((nI (rd_bn (f (j / 2))) = 1 → (¬ (2 : Int32) = 0 ∧ (wpX_isRef (fun r_12 => (((r_12 = 0 → (∀ x4_56 : Int32, x4_56 = nI (24 * p + j) + 1 → (wX_stays_126 post J (nI p) x0 li nw gIt pa ab dO dP dS dF dG dR dA xB xR xK xU xH xF xG xT xc xo xl so ho xC ce xt xL va la gi gSk gOd gIo gSo gNa gSh gSr gMa gTi gCe F x x4_56))) ∧ (¬ r_12 = 0 → (vp_in (nI (24 * p + j)) 72 ∧ ((((ce (24 * p + j)) < 0 → (∀ x4_59 : Int32, x4_59 = nI (24 * p + j) + 1 → (wX_stays_126 post J (nI p) x0 li nw gIt pa ab dO dP dS dF dG dR dA xB xR xK xU xH xF xG xT xc xo xl so ho xC ce xt xL va la gi gSk gOd gIo gSo gNa gSh gSr gMa gTi gCe F x x4_59))) ∧ (¬ (ce (24 * p + j)) < 0 → (vp_in (nI (24 * p + j)) 72 ∧ (∀ x2_61 : Int32, x2_61 = x ||| ((1 : Int32) <<< ((ce (24 * p + j)) &&& 31)) → (∀ x4_62 : Int32, x4_62 = nI (24 * p + j) + 1 → (wX_stays_126 post J (nI p) x0 li nw gIt pa ab dO dP dS dF dG dR dA xB xR xK xU xH xF xG xT xc xo xl so ho xC ce xt xL va la gi gSk gOd gIo gSo gNa gSh gSr gMa gTi gCe F x2_61 x4_62)))))))))))) (li, nw, gIt, pa, ab, dO, dP, dS, dF, dG, dR, dA, xB, xR, xK, xU, xH, xF, xG, xT, xc, xo, xl, so, ho, xC, ce, xt, xL, va, la, gi, gSk, gOd, gIo, gSo, gNa, gSh, gSr, gMa, gTi, gCe) (nI (12 * p + j / 2)) (nI (j % 2))))) ∧ (¬ nI (rd_bn (f (j / 2))) = 1 → (∀ x4_10 : Int32, x4_10 = nI (24 * p + j) + 1 → (wX_stays_126 post J (nI p) x0 li nw gIt pa ab dO dP dS dF dG dR dA xB xR xK xU xH xF xG xT xc xo xl so ho xC ce xt xL va la gi gSk gOd gIo gSo gNa gSh gSr gMa gTi gCe F x x4_10))))) → wX_stays_126 post J (nI p) x0 li nw gIt pa ab dO dP dS dF dG dR dA xB xR xK xU xH xF xG xT xc xo xl so ho xC ce xt xL va la gi gSk gOd gIo gSo gNa gSh gSr gMa gTi gCe (F + 1) x (nI (24 * p + j)) := by
      intro post J F h
      refine br_f gX ⟨by decide, ?_⟩
      rw [d2X, sX]
      refine nm_e ?_
      rw [rd_BSt hB (by omega), aX, cc]
      exact h
    have yr : ∀ (post : SY → Prop) J F, ((((nI (rd_bn (f (j / 2)))) = 0 → (wY_keep_221 post J (wY_keep_155 post J (nI p) yN yk tm hIt py bl F) (nI p) (nI more) (nI j) yN yk tm hIt py bl dO dP dS dF dG dR dA yB yR yK yO yA yH yF yG yU yT yb yc yl yp so yC yt ho ce yL va la gi ap ys hLi hOp hNa hSh hSr hTi hCe hRe)) ∧ (¬ (nI (rd_bn (f (j / 2)))) = 0 → (vp_in (nI (12 * p + j / 2)) 36 ∧ ((((so (12 * p + j / 2)) = 1 → (¬ (2 : Int32) = 0 ∧ (wpY_isRef (fun r_22 => (((r_22 = 0 → (wY_keep_221 post J (wY_keep_155 post J (nI p) yN yk tm hIt py bl F) (nI p) (nI more) (nI j) yN yk tm hIt py bl dO dP dS dF dG dR dA yB yR yK yO yA yH yF yG yU yT yb yc yl yp so yC yt ho ce yL va la gi ap ys hLi hOp hNa hSh hSr hTi hCe hRe)) ∧ (¬ r_22 = 0 → (¬ (2 : Int32) = 0 ∧ (vp_in (nI (24 * p + j)) 72 ∧ (wY_keep_222 post J (wY_keep_155 post J (nI p) yN yk tm hIt py bl F) (nI p) (nI more) (nI j) (ce (24 * p + j)) yN yk tm hIt py bl dO dP dS dF dG dR dA yB yR yK yO yA yH yF yG yU yT yb yc yl yp so yC yt ho ce yL va la gi ap ys hLi hOp hNa hSh hSr hTi hCe hRe))))))) (yN, yk, tm, hIt, py, bl, dO, dP, dS, dF, dG, dR, dA, yB, yR, yK, yO, yA, yH, yF, yG, yU, yT, yb, yc, yl, yp, so, yC, yt, ho, ce, yL, va, la, gi, ap, ys, hLi, hOp, hNa, hSh, hSr, hTi, hCe, hRe) (nI (12 * p + j / 2)) (nI (j % 2))))) ∧ (¬ (so (12 * p + j / 2)) = 1 → (wY_keep_221 post J (wY_keep_155 post J (nI p) yN yk tm hIt py bl F) (nI p) (nI more) (nI j) yN yk tm hIt py bl dO dP dS dF dG dR dA yB yR yK yO yA yH yF yG yU yT yb yc yl yp so yC yt ho ce yL va la gi ap ys hLi hOp hNa hSh hSr hTi hCe hRe)))))))) → wY_keep_155 post J (nI p) yN yk tm hIt py bl (F + 1) (nI more) (nI j) dO dP dS dF dG dR dA yB yR yK yO yA yH yF yG yU yT yb yc yl yp so yC yt ho ce yL va la gi ap ys hLi hOp hNa hSh hSr hTi hCe hRe := by
      intro post J F h
      refine br_f gY ⟨by decide, ?_⟩
      rw [d2Y, iY]
      refine nm_e ⟨by decide, rd_in (by omega), ?_⟩
      rw [cj, hY (j / 2) (by omega), ci, r2Y, e2, cc]
      exact h
    -- nothing new at this cell
    have stay : (∀ u, u < 12 → f0 (j / 2) = true → rd_tg so ce sh oc p j u → f u = true) →
        (∀ (post : Int32 → Prop) J F, wX_stays_126 post J (nI p) x0 li nw gIt pa ab dO dP dS dF dG dR dA xB xR xK xU xH xF xG xT xc xo xl so ho xC ce xt xL va la gi gSk gOd gIo gSo gNa gSh gSr gMa gTi gCe F x (nI (24 * p + (j + 1))) → wX_stays_126 post J (nI p) x0 li nw gIt pa ab dO dP dS dF dG dR dA xB xR xK xU xH xF xG xT xc xo xl so ho xC ce xt xL va la gi gSk gOd gIo gSo gNa gSh gSr gMa gTi gCe (F + 1) x (nI (24 * p + j))) →
        (∀ (post : SY → Prop) J F, wY_keep_155 post J (nI p) yN yk tm hIt py bl F (nI more) (nI (j + 1)) dO dP dS dF dG dR dA yB yR yK yO yA yH yF yG yU yT yb yc yl yp so yC yt ho ce yL va la gi ap ys hLi hOp hNa hSh hSr hTi hCe hRe → wY_keep_155 post J (nI p) yN yk tm hIt py bl (F + 1) (nI more) (nI j) dO dP dS dF dG dR dA yB yR yK yO yA yH yF yG yU yT yb yc yl yp so yC yt ho ce yL va la gi ap ys hLi hOp hNa hSh hSr hTi hCe hRe) →
        ∃ (f' : Nat → Bool) (x' : Int32) (ys' : rt_F) (more' : Nat), rd_BS x' f' ∧ rd_YS ys' f' ∧ (∀ k, k < 12 → f k = true → f' k = true) ∧ more' < 2 ∧ (more' = 0 → ∀ k, k < 12 → f' k = f0 k) ∧ (more' = 1 → ∃ k, k < 12 ∧ f0 k = false ∧ f' k = true) ∧ (∀ i, i < 24 → ∀ u, u < 12 → f0 (i / 2) = true → rd_tg so ce sh oc p i u → f' u = true) ∧
          (∀ (post : Int32 → Prop) J, ((x' = x0 → post x') ∧ (¬ x' = x0 → J x')) → ∃ n, wX_stays_126 post J (nI p) x0 li nw gIt pa ab dO dP dS dF dG dR dA xB xR xK xU xH xF xG xT xc xo xl so ho xC ce xt xL va la gi gSk gOd gIo gSo gNa gSh gSr gMa gTi gCe n x (nI (24 * p + j))) ∧
          (∀ (post : SY → Prop) J, J (nI more') dO dP dS dF dG dR dA yB yR yK yO yA yH yF yG yU yT yb yc yl yp so yC yt ho ce yL va la gi ap ys' hLi hOp hNa hSh hSr hTi hCe hRe → ∃ n, wY_keep_155 post J (nI p) yN yk tm hIt py bl n (nI more) (nI j) dO dP dS dF dG dR dA yB yR yK yO yA yH yF yG yU yT yb yc yl yp so yC yt ho ce yL va la gi ap ys hLi hOp hNa hSh hSr hTi hCe hRe) := by
      intro hc hx hy
      obtain ⟨f', x', ys', more', r1, r2, r3, r4, r5, r6, r7, X1, Y1⟩ := ih (j + 1) f x ys more (by omega) hB hY hmo hm2 hm0 hm1 (fun i hi u hu h1 h2 => by
        by_cases c : i = j
        · subst c; exact hc u hu h1 h2
        · exact hcl i (by omega) u hu h1 h2)
      refine ⟨f', x', ys', more', r1, r2, r3, r4, r5, r6, r7, fun post J h => ?_, fun post J h => ?_⟩
      · obtain ⟨F, hF⟩ := X1 post J h
        exact ⟨F + 1, hx post J F hF⟩
      · obtain ⟨F, hF⟩ := Y1 post J h
        exact ⟨F + 1, hy post J F hF⟩
    by_cases hf : f (j / 2) = true
    case neg =>
      have hf' : f (j / 2) = false := by cases h : f (j / 2) with | true => exact absurd h hf | false => rfl
      refine stay (fun u hu h1 _ => absurd (hmo (j / 2) (by omega) h1) hf) (fun post J F hF => xr post J F (br_f (fun z => hf (rd_bn1.mp z)) (nm_r (nI_1 _) hF))) (fun post J F hF => yr post J F (br_t (rd_bn0.mpr hf') ?_))
      unfold wY_keep_221 wY_keep_222
      exact br_t rd_m1n (nm_r (nI_1 j) hF)
    have nb0 : ¬ nI (rd_bn (f (j / 2))) = 0 := fun z => by rw [rd_bn0.mp z] at hf; exact absurd hf (by decide)
    by_cases hs : so (12 * p + j / 2) = 1
    case neg =>
      refine stay (fun u hu _ h2 => absurd h2.1 hs) (fun post J F hF => xr post J F (br_t (rd_bn1.mpr hf) ⟨by decide, xq_ref0 (by omega) hs (br_t rfl (nm_r (nI_1 _) hF))⟩)) (fun post J F hF => yr post J F (br_f nb0 ⟨rd_in (by omega), br_f hs ?_⟩))
      unfold wY_keep_221 wY_keep_222
      exact br_t rd_m1n (nm_r (nI_1 j) hF)
    obtain ⟨o1, o2, o3, o4, o5, o6, o7, o8, o9, o10, o11, o12⟩ := rd_obj hC hR (i := 12 * p + j / 2) (by omega) hs
    by_cases bit : sh (oc (12 * p + j / 2)) / 2 ^ (j % 2) % 2 = 1
    case neg =>
      have b0 : sh (oc (12 * p + j / 2)) / 2 ^ (j % 2) % 2 = 0 := by omega
      refine stay (fun u hu _ h2 => absurd h2.2.1 bit) (fun post J F hF => xr post J F (br_t (rd_bn1.mpr hf) ⟨by decide, xq_ref (by omega) (by omega) hs o3 o4 o5 o2 ?_⟩)) (fun post J F hF => yr post J F (br_f nb0 ⟨rd_in (by omega), br_t hs ⟨by decide, yq_ref (by omega) (by omega) o1 o7 o8 o2 ?_⟩⟩))
      · rw [b0]; exact br_t rfl (nm_r (nI_1 _) hF)
      · rw [b0]
        refine br_t rfl ?_
        unfold wY_keep_221 wY_keep_222
        exact br_t rd_m1n (nm_r (nI_1 j) hF)
    obtain ⟨mo, em, hmu⟩ := hR.1.2.2.2.2.2.2.2.2 (12 * p + j / 2) (by omega) hs (j % 2) (by omega) bit
    rw [show 2 * (12 * p + j / 2) + j % 2 = 24 * p + j by omega] at em
    rw [show (12 * p + j / 2) / 12 = p by omega] at hmu
    have xr2 : ∀ (post : Int32 → Prop) J F, ((((ce (24 * p + j)) < 0 → (∀ x4_59 : Int32, x4_59 = nI (24 * p + j) + 1 → (wX_stays_126 post J (nI p) x0 li nw gIt pa ab dO dP dS dF dG dR dA xB xR xK xU xH xF xG xT xc xo xl so ho xC ce xt xL va la gi gSk gOd gIo gSo gNa gSh gSr gMa gTi gCe F x x4_59))) ∧ (¬ (ce (24 * p + j)) < 0 → (vp_in (nI (24 * p + j)) 72 ∧ (∀ x2_61 : Int32, x2_61 = x ||| ((1 : Int32) <<< ((ce (24 * p + j)) &&& 31)) → (∀ x4_62 : Int32, x4_62 = nI (24 * p + j) + 1 → (wX_stays_126 post J (nI p) x0 li nw gIt pa ab dO dP dS dF dG dR dA xB xR xK xU xH xF xG xT xc xo xl so ho xC ce xt xL va la gi gSk gOd gIo gSo gNa gSh gSr gMa gTi gCe F x2_61 x4_62))))))) → wX_stays_126 post J (nI p) x0 li nw gIt pa ab dO dP dS dF dG dR dA xB xR xK xU xH xF xG xT xc xo xl so ho xC ce xt xL va la gi gSk gOd gIo gSo gNa gSh gSr gMa gTi gCe (F + 1) x (nI (24 * p + j)) := by
      intro post J F h
      refine xr post J F (br_t (rd_bn1.mpr hf) ⟨by decide, xq_ref (by omega) (by omega) hs o3 o4 o5 o2 ?_⟩)
      rw [bit]
      exact br_f (by decide) ⟨rd_in (by omega), h⟩
    have yr2 : ∀ (post : SY → Prop) J F, wY_keep_222 post J (wY_keep_155 post J (nI p) yN yk tm hIt py bl F) (nI p) (nI more) (nI j) (ce (24 * p + j)) yN yk tm hIt py bl dO dP dS dF dG dR dA yB yR yK yO yA yH yF yG yU yT yb yc yl yp so yC yt ho ce yL va la gi ap ys hLi hOp hNa hSh hSr hTi hCe hRe → wY_keep_155 post J (nI p) yN yk tm hIt py bl (F + 1) (nI more) (nI j) dO dP dS dF dG dR dA yB yR yK yO yA yH yF yG yU yT yb yc yl yp so yC yt ho ce yL va la gi ap ys hLi hOp hNa hSh hSr hTi hCe hRe := by
      intro post J F h
      refine yr post J F (br_f nb0 ⟨rd_in (by omega), br_t hs ⟨by decide, yq_ref (by omega) (by omega) o1 o7 o8 o2 ?_⟩⟩)
      rw [bit]
      exact br_f (by decide) ⟨by decide, rd_in (by omega), h⟩
    cases mo with
    | none =>
      refine stay (fun u hu _ h2 => ?_) (fun post J F hF => xr2 post J F (br_t (by rw [em]; exact rd_m1n) (nm_r (nI_1 _) hF))) (fun post J F hF => yr2 post J F ?_)
      · have := h2.2.2
        rw [em] at this
        exact absurd this.symm (rd_nm1 (by omega))
      · unfold wY_keep_222
        rw [em]
        exact br_t rd_m1n (nm_r (nI_1 j) hF)
    | some v =>
      have hv := (hmu v rfl).1
      have tgv : ∀ u, u < 12 → rd_tg so ce sh oc p j u → u = v := fun u hu h2 => by
        have := h2.2.2
        rw [em, rd_o1] at this
        exact ((nI_eq (by omega) (by omega)).mp this).symm
      have cv : (nI v).toNatClampNeg = v := rd_cl (by omega)
      have xr3 : ∀ (post : Int32 → Prop) J F, wX_stays_126 post J (nI p) x0 li nw gIt pa ab dO dP dS dF dG dR dA xB xR xK xU xH xF xG xT xc xo xl so ho xC ce xt xL va la gi gSk gOd gIo gSo gNa gSh gSr gMa gTi gCe F (x ||| ((1 : Int32) <<< (nI v &&& 31))) (nI (24 * p + (j + 1))) → wX_stays_126 post J (nI p) x0 li nw gIt pa ab dO dP dS dF dG dR dA xB xR xK xU xH xF xG xT xc xo xl so ho xC ce xt xL va la gi gSk gOd gIo gSo gNa gSh gSr gMa gTi gCe (F + 1) x (nI (24 * p + j)) := fun post J F hF => xr2 post J F (br_f (by rw [em]; exact nI_pos (by omega)) ⟨rd_in (by omega), nm_r (e' := x ||| ((1 : Int32) <<< (nI v &&& 31))) (by rw [em]; rfl) (nm_r (nI_1 _) hF)⟩)
      by_cases hfv : f v = true
      · -- it was there: X's set is the same
        have ex : x ||| ((1 : Int32) <<< (nI v &&& 31)) = x := (rd_BSe (rd_BSad hB hv) hB).mpr (fun k hk => by
          unfold rd_ad
          by_cases c : k = v
          · subst c; rw [hfv, Bool.true_or]
          · rw [decide_eq_false (show ¬ some v = some k from fun z => c (Option.some.inj z).symm), Bool.or_false])
        refine stay (fun u hu _ h2 => by rw [tgv u hu h2]; exact hfv) (fun post J F hF => xr3 post J F (by rw [ex]; exact hF)) (fun post J F hF => yr2 post J F ?_)
        unfold wY_keep_222
        rw [em, rd_o1, cv, hY v hv]
        exact br_f (nI_pos (by omega)) ⟨rd_in hv, br_f (fun z => by rw [rd_bn0.mp z] at hfv; exact absurd hfv (by decide)) (nm_r (nI_1 j) hF)⟩
      · have hfv' : f v = false := by cases h : f v with | true => exact absurd h hfv | false => rfl
        have f0v : f0 v = false := by cases h : f0 v with | true => exact absurd (hmo v hv h) hfv | false => rfl
        obtain ⟨f', x', ys', more', r1, r2, r3, r4, r5, r6, r7, X1, Y1⟩ := ih (j + 1) (rd_ad f (some v)) (x ||| ((1 : Int32) <<< (nI v &&& 31))) (upd ys v 1) 1 (by omega) (rd_BSad hB hv) (rd_YSad hY) (fun k hk h => rd_adm (hmo k hk h)) (by omega) (fun z => by omega) (fun _ => ⟨v, hv, f0v, rd_adt⟩) (fun i hi u hu h1 h2 => by
          by_cases c : i = j
          · subst c; rw [tgv u hu h2]; exact rd_adt
          · exact rd_adm (hcl i (by omega) u hu h1 h2))
        refine ⟨f', x', ys', more', r1, r2, fun k hk h => r3 k hk (rd_adm h), r4, r5, r6, r7, fun post J h => ?_, fun post J h => ?_⟩
        · obtain ⟨F, hF⟩ := X1 post J h
          exact ⟨F + 1, xr3 post J F hF⟩
        · obtain ⟨F, hF⟩ := Y1 post J h
          refine ⟨F + 1, yr2 post J F ?_⟩
          unfold wY_keep_222
          rw [em, rd_o1, cv, hY v hv, rd_nz1]
          exact br_f (nI_pos (by omega)) ⟨rd_in hv, br_t (rd_bn0.mpr hfv') ⟨rd_in hv, nm_e (nm_r (nI_1 j) hF)⟩⟩
/-- passes until nothing is added -/
theorem rd_clo (hC : rd_CR (N, P, sh, fl, sg, st, pr, kn) (xB, xR, xK, xU, xH, xF, xG, xT) (yN, yB, yR, yK, yO, yA, yH, yF, yG, yU, yT)) (hR : rd_OR K (N, P, sh, fl, sg, st, pr, kn) (oc, tk, le, hm, gv, lm, t) (so, ho, ce, va, la, gi) (li, nw, xC, xt, xL) (tm, yC, yt, yL, ap)) (hp3 : p < 3) :
    ∀ (μ : Nat) (f : Nat → Bool) (x : Int32) (ys : rt_F), 12 - rd_cn f 12 ≤ μ → rd_BS x f → rd_YS ys f →
    ∃ (f' : Nat → Bool) (x' : Int32) (ys' : rt_F), rd_BS x' f' ∧ rd_YS ys' f' ∧ (∀ k, k < 12 → f k = true → f' k = true) ∧ (∀ i, i < 24 → ∀ u, u < 12 → f' (i / 2) = true → rd_tg so ce sh oc p i u → f' u = true) ∧
      (∀ post : Int32 → Prop, post x' → ∃ n, wX_stays_118 post (nI p) li nw gIt pa ab dO dP dS dF dG dR dA xB xR xK xU xH xF xG xT xc xo xl so ho xC ce xt xL va la gi gSk gOd gIo gSo gNa gSh gSr gMa gTi gCe n x) ∧ (∀ post : SY → Prop, post (yN, yk, tm, hIt, py, bl, dO, dP, dS, dF, dG, dR, dA, yB, yR, yK, yO, yA, yH, yF, yG, yU, yT, yb, yc, yl, yp, so, yC, yt, ho, ce, yL, va, la, gi, ap, ys', hLi, hOp, hNa, hSh, hSr, hTi, hCe, hRe) → ∃ n, wY_keep_147 post (nI p) yN yk tm hIt py bl n 1 dO dP dS dF dG dR dA yB yR yK yO yA yH yF yG yU yT yb yc yl yp so yC yt ho ce yL va la gi ap ys hLi hOp hNa hSh hSr hTi hCe hRe) := by
  intro μ
  induction μ with
  | zero =>
    intro f x ys hμ hB hY
    obtain ⟨f', x', ys', more', r1, r2, r3, r4, r5, r6, r7, X1, Y1⟩ := rd_pass (f0 := f) (x0 := x) hC hR hp3 24 0 f x ys 0 (by omega) hB hY (fun _ _ h => h) (by omega) (fun _ _ _ => rfl) (fun z => by omega) (fun i hi => by omega)
    have hm : more' = 0 := by
      by_cases c : more' = 0
      · exact c
      · obtain ⟨k, k1, k2, k3⟩ := r6 (by omega)
        have a := rd_cn_lt k2 k3 12 k1 r3
        have b := rd_cn_le f' 12
        omega
    subst hm
    have he := (rd_BSe r1 hB).mpr (r5 rfl)
    refine ⟨f', x', ys', r1, r2, r3, fun i hi u hu h1 h2 => r7 i hi u hu (by rw [← r5 rfl (i / 2) (by omega)]; exact h1) h2, fun post hp => ⟨1, ?_⟩, fun post hp => ⟨2, ?_⟩⟩
    · refine nm_r (rd_m24 p) ?_
      exact X1 _ _ (br_t he hp)
    · exact br_f (by decide) (Y1 _ _ (br_t rfl hp))
  | succ μ ih =>
    intro f x ys hμ hB hY
    obtain ⟨f', x', ys', more', r1, r2, r3, r4, r5, r6, r7, X1, Y1⟩ := rd_pass (f0 := f) (x0 := x) hC hR hp3 24 0 f x ys 0 (by omega) hB hY (fun _ _ h => h) (by omega) (fun _ _ _ => rfl) (fun z => by omega) (fun i hi => by omega)
    by_cases hm : more' = 0
    · subst hm
      have he := (rd_BSe r1 hB).mpr (r5 rfl)
      refine ⟨f', x', ys', r1, r2, r3, fun i hi u hu h1 h2 => r7 i hi u hu (by rw [← r5 rfl (i / 2) (by omega)]; exact h1) h2, fun post hp => ⟨1, ?_⟩, fun post hp => ⟨2, ?_⟩⟩
      · refine nm_r (rd_m24 p) ?_
        exact X1 _ _ (br_t he hp)
      · exact br_f (by decide) (Y1 _ _ (br_t rfl hp))
    · have hm1 : more' = 1 := by omega
      subst hm1
      obtain ⟨k, k1, k2, k3⟩ := r6 rfl
      have a := rd_cn_lt k2 k3 12 k1 r3
      have b := rd_cn_le f' 12
      have hne : ¬ x' = x := fun z => by
        have := (rd_BSe r1 hB).mp z k k1
        rw [k2, k3] at this
        exact absurd this (by decide)
      obtain ⟨f2, x2, ys2, q1, q2, q3, q4, X2, Y2⟩ := ih f' x' ys' (by omega) r1 r2
      refine ⟨f2, x2, ys2, q1, q2, fun k hk h => q3 k hk (r3 k hk h), q4, fun post hp => ?_, fun post hp => ?_⟩
      · obtain ⟨F, hF⟩ := X2 post hp
        refine ⟨F + 1, ?_⟩
        refine nm_r (rd_m24 p) ?_
        exact X1 _ _ (br_f hne hF)
      · obtain ⟨F, hF⟩ := Y2 post hp
        exact ⟨F + 1, br_f (by decide) (Y1 _ _ hF)⟩
end
end
section
/-! the roots of what stays; stays and keep -/
theorem rd_fillF {g f : rt_F} {j : Nat} {x : Int32} (e : x = g j) : upd (fun v => if v < j then g v else f v) j x = fun v => if v < j + 1 then g v else f v := by
  funext v
  show (if v = j then x else if v < j then g v else f v) = if v < j + 1 then g v else f v
  by_cases c : v = j
  · rw [if_pos c, if_pos (by omega), c, e]
  · rw [if_neg c]
    by_cases c2 : v < j
    · rw [if_pos c2, if_pos (by omega)]
    · rw [if_neg c2, if_neg (by omega)]
def rd_eB (so : rt_F) (tk le : Nat → Nat) (t i : Nat) : Bool := decide (so i = 1 ∧ ¬ tk i = 0 ∧ (t < le (3 * i) ∨ t < le (3 * i + 1) ∨ t < le (3 * i + 2)))
def rd_rt (va la : rt_F) (p j k : Nat) : Prop := ∃ i, j ≤ i ∧ i < 4 ∧ (va (4 * p + i) = nI k ∨ la (4 * p + i) = nI k)
theorem rd_rt_s {va la : rt_F} {p j k : Nat} (hj : j < 4) : rd_rt va la p j k ↔ (va (4 * p + j) = nI k ∨ la (4 * p + j) = nI k) ∨ rd_rt va la p (j + 1) k := by
  constructor
  · rintro ⟨i, h1, h2, h3⟩
    by_cases c : i = j
    · subst c; exact Or.inl h3
    · exact Or.inr ⟨i, by omega, h2, h3⟩
  · rintro (h | ⟨i, h1, h2, h3⟩)
    · exact ⟨j, by omega, hj, h⟩
    · exact ⟨i, by omega, h2, h3⟩
theorem rd_ad_iff {f : Nat → Bool} {mo : Option Nat} {k : Nat} : rd_ad f mo k = true ↔ f k = true ∨ mo = some k := by
  unfold rd_ad
  rw [Bool.or_eq_true, decide_eq_true_iff]
theorem rd_o_nI {mo : Option Nat} {k : Nat} (hk : k < 12) (hm : ∀ v, mo = some v → v < 12) : rd_o mo = nI k ↔ mo = some k := by
  cases mo with
  | none => exact ⟨fun z => absurd z.symm (rd_nm1 (by omega)), fun z => nomatch z⟩
  | some v => exact ⟨fun z => by rw [(nI_eq (by have := hm v rfl; omega) (by omega)).mp z], fun z => by cases z; rfl⟩
section
variable {K N p lm t : Nat} {P sh fl sg st oc tk le hm gv : Nat → Nat} {pr kn : Nat → Option Nat}
variable {li gIt pa ab yN yk tm hIt py bl : Int32} {dO dP dS dF dG dR dA xB xR xK xU xH xF xG xT xc xo xl so ho xC ce xt va la gi gSk gOd gIo gSo gNa gSh gSr gMa gTi gCe yB yR yK yO yA yH yF yG yU yT yb yc yl yp yC yt yL ap ys hLi hOp hNa hSh hSr hTi hCe hRe : Nat → Int32} {nw : Int64} {xL : Nat → Int64}
/-- X: variables and labels -/
theorem xq_st7 (hR : rd_OR K (N, P, sh, fl, sg, st, pr, kn) (oc, tk, le, hm, gv, lm, t) (so, ho, ce, va, la, gi) (li, nw, xC, xt, xL) (tm, yC, yt, yL, ap)) (hp3 : p < 3) : ∀ (e j : Nat) (f : Nat → Bool) (x : Int32), j + e = 4 → rd_BS x f →
    ∃ (f' : Nat → Bool) (x' : Int32), rd_BS x' f' ∧ (∀ k, k < 12 → (f' k = true ↔ f k = true ∨ rd_rt va la p j k)) ∧ (∀ post : Int32 → Prop, (∃ n, wX_stays_70 post (nI p) li nw gIt pa ab dO dP dS dF dG dR dA xB xR xK xU xH xF xG xT xc xo xl so ho xC ce xt xL va la gi gSk gOd gIo gSo gNa gSh gSr gMa gTi gCe n x' 0) → ∃ n, wX_stays_7 post (nI p) li nw gIt pa ab dO dP dS dF dG dR dA xB xR xK xU xH xF xG xT xc xo xl so ho xC ce xt xL va la gi gSk gOd gIo gSo gNa gSh gSr gMa gTi gCe n x (nI (4 * p + j))) := by
  intro e
  induction e with
  | zero =>
    intro j f x hj hB
    obtain rfl : j = 4 := by omega
    exact ⟨f, x, hB, fun k hk => ⟨Or.inl, fun z => z.elim id (fun ⟨i, h1, h2, _⟩ => by omega)⟩, fun post h => ⟨1, br_t (by rw [rd_m4, rd_a4]; exact Int32.le_refl _) h⟩⟩
  | succ e ih =>
    intro j f x hj hB
    have hj4 : j < 4 := by omega
    obtain ⟨⟨mv, ev, hv⟩, ⟨ml, el, hl⟩⟩ := hR.1.2.2.2.2.2.2.2.1 p hp3 j hj4
    have cj : (nI (4 * p + j)).toNatClampNeg = 4 * p + j := rd_cl (by omega)
    obtain ⟨x1, hB1, X1⟩ : ∃ x1, rd_BS x1 (rd_ad f mv) ∧ ∀ (post : Int32 → Prop) F, wX_stays_39 post (wX_stays_7 post (nI p) li nw gIt pa ab dO dP dS dF dG dR dA xB xR xK xU xH xF xG xT xc xo xl so ho xC ce xt xL va la gi gSk gOd gIo gSo gNa gSh gSr gMa gTi gCe F) (nI p) x1 (nI (4 * p + j)) li nw gIt pa ab dO dP dS dF dG dR dA xB xR xK xU xH xF xG xT xc xo xl so ho xC ce xt xL va la gi gSk gOd gIo gSo gNa gSh gSr gMa gTi gCe → wX_stays_7 post (nI p) li nw gIt pa ab dO dP dS dF dG dR dA xB xR xK xU xH xF xG xT xc xo xl so ho xC ce xt xL va la gi gSk gOd gIo gSo gNa gSh gSr gMa gTi gCe (F + 1) x (nI (4 * p + j)) := by
      have g : ¬ 4 * nI p + 4 ≤ nI (4 * p + j) := by rw [rd_m4, rd_a4]; exact nI_ge (by omega) (by omega)
      cases mv with
      | none => exact ⟨x, by rw [rd_ad0]; exact hB, fun post F h => br_f g ⟨rd_in (by omega), br_t (by rw [cj, ev]; exact rd_m1n) h⟩⟩
      | some v =>
        have hv12 := (hv v rfl).1
        exact ⟨_, rd_BSad hB hv12, fun post F h => br_f g ⟨rd_in (by omega), br_f (by rw [cj, ev]; exact nI_pos (by omega)) ⟨rd_in (by omega), nm_r (e' := x ||| ((1 : Int32) <<< (nI v &&& 31))) (by rw [cj, ev]; rfl) h⟩⟩⟩
    obtain ⟨x2, hB2, X2⟩ : ∃ x2, rd_BS x2 (rd_ad (rd_ad f mv) ml) ∧ ∀ (post : Int32 → Prop) F, wX_stays_7 post (nI p) li nw gIt pa ab dO dP dS dF dG dR dA xB xR xK xU xH xF xG xT xc xo xl so ho xC ce xt xL va la gi gSk gOd gIo gSo gNa gSh gSr gMa gTi gCe F x2 (nI (4 * p + (j + 1))) → wX_stays_39 post (wX_stays_7 post (nI p) li nw gIt pa ab dO dP dS dF dG dR dA xB xR xK xU xH xF xG xT xc xo xl so ho xC ce xt xL va la gi gSk gOd gIo gSo gNa gSh gSr gMa gTi gCe F) (nI p) x1 (nI (4 * p + j)) li nw gIt pa ab dO dP dS dF dG dR dA xB xR xK xU xH xF xG xT xc xo xl so ho xC ce xt xL va la gi gSk gOd gIo gSo gNa gSh gSr gMa gTi gCe := by
      cases ml with
      | none => exact ⟨x1, by rw [rd_ad0]; exact hB1, fun post F h => ⟨rd_in (by omega), br_t (by rw [cj, el]; exact rd_m1n) (nm_r (nI_1 _) h)⟩⟩
      | some v =>
        have hv12 := (hl v rfl).1
        exact ⟨_, rd_BSad hB1 hv12, fun post F h => ⟨rd_in (by omega), br_f (by rw [cj, el]; exact nI_pos (by omega)) ⟨rd_in (by omega), nm_r (e' := x1 ||| ((1 : Int32) <<< (nI v &&& 31))) (by rw [cj, el]; rfl) (nm_r (nI_1 _) h)⟩⟩⟩
    obtain ⟨f', x', r1, r2, X3⟩ := ih (j + 1) _ x2 (by omega) hB2
    refine ⟨f', x', r1, fun k hk => ?_, fun post h => ?_⟩
    · rw [r2 k hk, rd_ad_iff, rd_ad_iff, rd_rt_s hj4, ev, el, rd_o_nI hk (fun v e => (hv v e).1), rd_o_nI hk (fun v e => (hl v e).1), or_assoc, or_assoc, or_assoc]
    · obtain ⟨F, hF⟩ := X3 post h
      exact ⟨F + 1, X1 post F (X2 post F hF)⟩
theorem xq_leased {post : Int32 → Prop} {i : Nat} (hR : rd_OR K (N, P, sh, fl, sg, st, pr, kn) (oc, tk, le, hm, gv, lm, t) (so, ho, ce, va, la, gi) (li, nw, xC, xt, xL) (tm, yC, yt, yL, ap)) (hK : K ≤ 4000) (hi : i < 36)
    (h1 : (t < le (3 * i) ∨ t < le (3 * i + 1) ∨ t < le (3 * i + 2)) → post 1) (h0 : ¬ (t < le (3 * i) ∨ t < le (3 * i + 1) ∨ t < le (3 * i + 2)) → post 0) : wpX_isLeased post (li, nw, gIt, pa, ab, dO, dP, dS, dF, dG, dR, dA, xB, xR, xK, xU, xH, xF, xG, xT, xc, xo, xl, so, ho, xC, ce, xt, xL, va, la, gi, gSk, gOd, gIo, gSo, gNa, gSh, gSr, gMa, gTi, gCe) (nI i) := by
  have hb := hR.1.1.2
  have hx : ∀ q, q < 3 → (xL (3 * i + q) ≤ nw ↔ ¬ t < le (3 * i + q)) := fun q hq => by
    have := (hR.1.2.2.2.2.2.1 i hi q hq).1
    rw [hR.2.1.2.2.2.2 i hi q hq, hR.2.1.2.1, lN_le (by omega) (by omega)]
    omega
  have e3 : 3 * nI i + 3 = nI (3 * i + 3) := by rw [rd_m3, rd_a3]
  obtain ⟨k, k1, k2, k3, k4⟩ := rd_first (fun q => t < le (3 * i + q)) 0 3 (by omega)
  unfold wpX_isLeased
  dsimp only
  refine nm_r (rd_m3 i) ?_
  refine rd_run (fun f j => wX_isLeased_4 post (nI i) li nw gIt pa ab dO dP dS dF dG dR dA xB xR xK xU xH xF xG xT xc xo xl so ho xC ce xt xL va la gi gSk gOd gIo gSo gNa gSh gSr gMa gTi gCe f (nI (3 * i + j))) (i := 0) (k := k) k1 ⟨1, ?_⟩ (fun f j _ hj W => ?_)
  · by_cases c : k = 3
    · subst c
      refine br_t (by rw [e3]; exact Int32.le_refl _) (h0 ?_)
      rintro (z | z | z)
      · exact k3 0 (by omega) (by omega) z
      · exact k3 1 (by omega) (by omega) z
      · exact k3 2 (by omega) (by omega) z
    · have hk := k4.resolve_left c
      refine br_f (by rw [e3]; exact nI_ge (by omega) (by omega)) ⟨rd_in (by omega), ?_⟩
      rw [rd_cl (by omega)]
      refine br_f (fun z => (hx k (by omega)).mp z hk) (h1 ?_)
      have : k = 0 ∨ k = 1 ∨ k = 2 := by omega
      rcases this with rfl | rfl | rfl
      · exact Or.inl hk
      · exact Or.inr (Or.inl hk)
      · exact Or.inr (Or.inr hk)
  · refine br_f (by rw [e3]; exact nI_ge (by omega) (by omega)) ⟨rd_in (by omega), ?_⟩
    rw [rd_cl (by omega)]
    exact br_t ((hx j (by omega)).mpr (k3 j (by omega) hj)) (nm_r (nI_1 _) W)
/-- X: exported and leased -/
theorem xq_st70 (hR : rd_OR K (N, P, sh, fl, sg, st, pr, kn) (oc, tk, le, hm, gv, lm, t) (so, ho, ce, va, la, gi) (li, nw, xC, xt, xL) (tm, yC, yt, yL, ap)) (hK : K ≤ 4000) (hp3 : p < 3) : ∀ (e j : Nat) (f : Nat → Bool) (x : Int32), j + e = 12 → rd_BS x f →
    ∃ (f' : Nat → Bool) (x' : Int32), rd_BS x' f' ∧ (∀ k, k < 12 → (f' k = true ↔ f k = true ∨ (j ≤ k ∧ rd_eB so tk le t (12 * p + k) = true))) ∧ (∀ post : Int32 → Prop, (∃ n, wX_stays_118 post (nI p) li nw gIt pa ab dO dP dS dF dG dR dA xB xR xK xU xH xF xG xT xc xo xl so ho xC ce xt xL va la gi gSk gOd gIo gSo gNa gSh gSr gMa gTi gCe n x') → ∃ n, wX_stays_70 post (nI p) li nw gIt pa ab dO dP dS dF dG dR dA xB xR xK xU xH xF xG xT xc xo xl so ho xC ce xt xL va la gi gSk gOd gIo gSo gNa gSh gSr gMa gTi gCe n x (nI j)) := by
  intro e
  induction e with
  | zero =>
    intro j f x hj hB
    obtain rfl : j = 12 := by omega
    exact ⟨f, x, hB, fun k hk => ⟨Or.inl, fun z => z.elim id (fun z => by omega)⟩, fun post h => ⟨1, br_t (Int32.le_refl _) h⟩⟩
  | succ e ih =>
    intro j f x hj hB
    have g : ¬ 12 ≤ nI j := nI_ge (b := 12) (by omega) (by omega)
    have e12 : 12 * nI p + nI j = nI (12 * p + j) := by rw [rd_m12, nI_add]
    have ci : (nI (12 * p + j)).toNatClampNeg = 12 * p + j := rd_cl (by omega)
    have htK := (hR.1.2.1 (12 * p + j) (by omega)).2.2.2
    have skip : rd_eB so tk le t (12 * p + j) = false → (∀ (post : Int32 → Prop) F, wX_stays_70 post (nI p) li nw gIt pa ab dO dP dS dF dG dR dA xB xR xK xU xH xF xG xT xc xo xl so ho xC ce xt xL va la gi gSk gOd gIo gSo gNa gSh gSr gMa gTi gCe F x (nI (j + 1)) → wX_stays_70 post (nI p) li nw gIt pa ab dO dP dS dF dG dR dA xB xR xK xU xH xF xG xT xc xo xl so ho xC ce xt xL va la gi gSk gOd gIo gSo gNa gSh gSr gMa gTi gCe (F + 1) x (nI j)) → ∃ (f' : Nat → Bool) (x' : Int32), rd_BS x' f' ∧ (∀ k, k < 12 → (f' k = true ↔ f k = true ∨ (j ≤ k ∧ rd_eB so tk le t (12 * p + k) = true))) ∧ (∀ post : Int32 → Prop, (∃ n, wX_stays_118 post (nI p) li nw gIt pa ab dO dP dS dF dG dR dA xB xR xK xU xH xF xG xT xc xo xl so ho xC ce xt xL va la gi gSk gOd gIo gSo gNa gSh gSr gMa gTi gCe n x') → ∃ n, wX_stays_70 post (nI p) li nw gIt pa ab dO dP dS dF dG dR dA xB xR xK xU xH xF xG xT xc xo xl so ho xC ce xt xL va la gi gSk gOd gIo gSo gNa gSh gSr gMa gTi gCe n x (nI j)) := by
      intro hE hx
      obtain ⟨f', x', r1, r2, X1⟩ := ih (j + 1) f x (by omega) hB
      refine ⟨f', x', r1, fun k hk => ?_, fun post h => ?_⟩
      · rw [r2 k hk]
        constructor
        · rintro (z | ⟨z1, z2⟩)
          · exact Or.inl z
          · exact Or.inr ⟨by omega, z2⟩
        · rintro (z | ⟨z1, z2⟩)
          · exact Or.inl z
          · by_cases c : k = j
            · subst c; rw [hE] at z2; exact absurd z2 (by decide)
            · exact Or.inr ⟨by omega, z2⟩
      · obtain ⟨F, hF⟩ := X1 post h
        exact ⟨F + 1, hx post F hF⟩
    by_cases c1 : so (12 * p + j) = 1
    case neg =>
      refine skip (decide_eq_false (fun z => c1 z.1)) (fun post F hF => br_f g ?_)
      rw [e12]
      unfold wpX_isExported
      dsimp only
      rw [ci]
      exact ⟨rd_in (by omega), br_f c1 (br_t rfl (nm_r (nI_1 j) hF))⟩
    have hxt := hR.2.1.2.2.2.1 (12 * p + j) (by omega) (by rw [c1]; decide)
    by_cases c2 : tk (12 * p + j) = 0
    · refine skip (decide_eq_false (fun z => z.2.1 c2)) (fun post F hF => br_f g ?_)
      rw [e12]
      unfold wpX_isExported
      dsimp only
      rw [ci, hxt, c2]
      exact ⟨rd_in (by omega), br_t c1 ⟨rd_in (by omega), br_t (Int32.le_refl _) (br_t rfl (nm_r (nI_1 j) hF))⟩⟩
    have xh : ∀ (post : Int32 → Prop) F, wpX_isLeased (fun r_108 => (((r_108 = 0 → (∀ x4_152 : Int32, x4_152 = nI j + 1 → (wX_stays_70 post (nI p) li nw gIt pa ab dO dP dS dF dG dR dA xB xR xK xU xH xF xG xT xc xo xl so ho xC ce xt xL va la gi gSk gOd gIo gSo gNa gSh gSr gMa gTi gCe F x x4_152))) ∧ (¬ r_108 = 0 → (∀ x2_153 : Int32, x2_153 = x ||| ((1 : Int32) <<< (nI j &&& 31)) → (∀ x4_154 : Int32, x4_154 = nI j + 1 → (wX_stays_70 post (nI p) li nw gIt pa ab dO dP dS dF dG dR dA xB xR xK xU xH xF xG xT xc xo xl so ho xC ce xt xL va la gi gSk gOd gIo gSo gNa gSh gSr gMa gTi gCe F x2_153 x4_154))))))) (li, nw, gIt, pa, ab, dO, dP, dS, dF, dG, dR, dA, xB, xR, xK, xU, xH, xF, xG, xT, xc, xo, xl, so, ho, xC, ce, xt, xL, va, la, gi, gSk, gOd, gIo, gSo, gNa, gSh, gSr, gMa, gTi, gCe) (nI (12 * p + j)) → wX_stays_70 post (nI p) li nw gIt pa ab dO dP dS dF dG dR dA xB xR xK xU xH xF xG xT xc xo xl so ho xC ce xt xL va la gi gSk gOd gIo gSo gNa gSh gSr gMa gTi gCe (F + 1) x (nI j) := by
      intro post F h
      refine br_f g ?_
      rw [e12]
      unfold wpX_isExported
      dsimp only
      rw [ci, hxt]
      exact ⟨rd_in (by omega), br_t c1 ⟨rd_in (by omega), br_f (nI_nle (by omega) (by omega)) (br_f (by decide) h)⟩⟩
    by_cases c3 : t < le (3 * (12 * p + j)) ∨ t < le (3 * (12 * p + j) + 1) ∨ t < le (3 * (12 * p + j) + 2)
    case neg => exact skip (decide_eq_false (fun z => c3 z.2.2)) (fun post F hF => xh post F (xq_leased hR hK (by omega) (fun z => absurd z c3) (fun _ => br_t rfl (nm_r (nI_1 j) hF))))
    have hE : rd_eB so tk le t (12 * p + j) = true := decide_eq_true ⟨c1, c2, c3⟩
    obtain ⟨f', x', r1, r2, X1⟩ := ih (j + 1) _ _ (by omega) (rd_BSad hB (show j < 12 by omega))
    refine ⟨f', x', r1, fun k hk => ?_, fun post h => ?_⟩
    · rw [r2 k hk, rd_ad_iff]
      constructor
      · rintro ((z | z) | ⟨z1, z2⟩)
        · exact Or.inl z
        · cases z; exact Or.inr ⟨Nat.le_refl _, hE⟩
        · exact Or.inr ⟨by omega, z2⟩
      · rintro (z | ⟨z1, z2⟩)
        · exact Or.inl (Or.inl z)
        · by_cases c : k = j
          · subst c; exact Or.inl (Or.inr rfl)
          · exact Or.inr ⟨by omega, z2⟩
    · obtain ⟨F, hF⟩ := X1 post h
      exact ⟨F + 1, xh post F (xq_leased hR hK (by omega) (fun _ => br_f (by decide) (nm_e (nm_r (nI_1 j) hF))) (fun z => absurd c3 z))⟩
/-- Y: exported and leased -/
theorem yq_kp2 {post : SY → Prop} (hR : rd_OR K (N, P, sh, fl, sg, st, pr, kn) (oc, tk, le, hm, gv, lm, t) (so, ho, ce, va, la, gi) (li, nw, xC, xt, xL) (tm, yC, yt, yL, ap)) (hK : K ≤ 4000) (hp3 : p < 3) (h : ∃ n, wY_keep_88 post (nI p) yN yk tm hIt py bl n (nI (4 * p)) dO dP dS dF dG dR dA yB yR yK yO yA yH yF yG yU yT yb yc yl yp so yC yt ho ce yL va la gi ap (fun k => if k < 12 then nI (rd_bn (rd_eB so tk le t (12 * p + k))) else ys k) hLi hOp hNa hSh hSr hTi hCe hRe) : wpY_keep post (yN, yk, tm, hIt, py, bl, dO, dP, dS, dF, dG, dR, dA, yB, yR, yK, yO, yA, yH, yF, yG, yU, yT, yb, yc, yl, yp, so, yC, yt, ho, ce, yL, va, la, gi, ap, ys, hLi, hOp, hNa, hSh, hSr, hTi, hCe, hRe) (nI p) := by
  have hb := hR.1.1.2
  refine rd_run (fun f j => wY_keep_2 post (nI p) yN yk tm hIt py bl f (nI j) dO dP dS dF dG dR dA yB yR yK yO yA yH yF yG yU yT yb yc yl yp so yC yt ho ce yL va la gi ap (fun k => if k < j then nI (rd_bn (rd_eB so tk le t (12 * p + k))) else ys k) hLi hOp hNa hSh hSr hTi hCe hRe) (i := 0) (k := 12) (by omega) ⟨1, br_t (Int32.le_refl _) (nm_r (rd_m4 p) h)⟩ (fun f j _ hj W => ?_)
  have ci : (nI (12 * p + j)).toNatClampNeg = 12 * p + j := rd_cl (by omega)
  have cj : (nI j).toNatClampNeg = j := rd_cl (by omega)
  refine br_f (nI_ge (b := 12) hj (by omega)) ?_
  rw [rd_m12, nI_add]
  refine nm_e ⟨rd_in (by omega), ?_⟩
  rw [ci, cj, rd_nz0, rd_nz1]
  have out : rd_eB so tk le t (12 * p + j) = false → (vp_in (nI j) 12 ∧ ∀ S : Nat → Int32, S = upd (fun k => if k < j then nI (rd_bn (rd_eB so tk le t (12 * p + k))) else ys k) j 0 → ∀ x2 : Int32, x2 = nI j + 1 → wY_keep_2 post (nI p) yN yk tm hIt py bl f x2 dO dP dS dF dG dR dA yB yR yK yO yA yH yF yG yU yT yb yc yl yp so yC yt ho ce yL va la gi ap S hLi hOp hNa hSh hSr hTi hCe hRe) := fun hE => ⟨rd_in hj, nm_r (rd_fillF (x := 0) (g := fun k => nI (rd_bn (rd_eB so tk le t (12 * p + k)))) (by rw [hE]; rfl)) (nm_r (nI_1 j) W)⟩
  by_cases c1 : so (12 * p + j) = 1
  case neg => exact br_f c1 (out (decide_eq_false (fun z => c1 z.1)))
  have hyt := hR.2.2.2.2.1 (12 * p + j) (by omega) (by rw [c1]; decide)
  have htK := (hR.1.2.1 (12 * p + j) (by omega)).2.2.2
  rw [hyt]
  refine br_t c1 ⟨rd_in (by omega), ?_⟩
  by_cases c2 : tk (12 * p + j) = 0
  · exact br_t (by rw [c2]; exact Int32.le_refl _) (out (decide_eq_false (fun z => z.2.1 c2)))
  refine br_f (nI_nle (by omega) (by omega)) ?_
  have y0 := hR.2.2.2.2.2.1 (12 * p + j) (by omega) c1 0 (by omega)
  have y1 := hR.2.2.2.2.2.1 (12 * p + j) (by omega) c1 1 (by omega)
  have y2 := hR.2.2.2.2.2.1 (12 * p + j) (by omega) c1 2 (by omega)
  have b0 := (hR.1.2.2.2.2.2.1 (12 * p + j) (by omega) 0 (by omega)).1
  have b1 := (hR.1.2.2.2.2.2.1 (12 * p + j) (by omega) 1 (by omega)).1
  have b2 := (hR.1.2.2.2.2.2.1 (12 * p + j) (by omega) 2 (by omega)).1
  rw [Nat.add_zero] at y0 b0
  have lv : ∀ a, a ≤ t + 10 → rd_lv t a ≤ t + 10 ∧ (rd_lv t a = 0 ↔ ¬ t < a) := fun a ha => by
    unfold rd_lv
    by_cases c : t < a
    · rw [if_pos c]; omega
    · rw [if_neg c]; omega
  obtain ⟨l0, m0⟩ := lv _ b0
  obtain ⟨l1, m1⟩ := lv _ b1
  obtain ⟨l2, m2⟩ := lv _ b2
  rw [rd_m3, nI_1, rd_a2, rd_cl (show 3 * (12 * p + j) < 3000 by omega), rd_cl (show 3 * (12 * p + j) + 1 < 3000 by omega), rd_cl (show 3 * (12 * p + j) + 2 < 3000 by omega), y0, y1, y2, nI_add, nI_add]
  refine ⟨rd_in (by omega), rd_in (by omega), rd_in (by omega), ?_⟩
  by_cases c3 : t < le (3 * (12 * p + j)) ∨ t < le (3 * (12 * p + j) + 1) ∨ t < le (3 * (12 * p + j) + 2)
  · have hE : rd_eB so tk le t (12 * p + j) = true := decide_eq_true ⟨c1, c2, c3⟩
    exact br_f (nI_nle (by omega) (by omega)) ⟨rd_in hj, nm_r (rd_fillF (x := 1) (g := fun k => nI (rd_bn (rd_eB so tk le t (12 * p + k)))) (by rw [hE]; rfl)) (nm_r (nI_1 j) W)⟩
  · refine br_t ?_ (out (decide_eq_false (fun z => c3 z.2.2)))
    rw [show rd_lv t (le (3 * (12 * p + j))) + rd_lv t (le (3 * (12 * p + j) + 1)) + rd_lv t (le (3 * (12 * p + j) + 2)) = 0 by omega]
    exact Int32.le_refl _
/-- Y: variables and labels -/
theorem yq_kp88 (hR : rd_OR K (N, P, sh, fl, sg, st, pr, kn) (oc, tk, le, hm, gv, lm, t) (so, ho, ce, va, la, gi) (li, nw, xC, xt, xL) (tm, yC, yt, yL, ap)) (hp3 : p < 3) : ∀ (e j : Nat) (f : Nat → Bool) (ys : rt_F), j + e = 4 → rd_YS ys f →
    ∃ (f' : Nat → Bool) (ys' : rt_F), rd_YS ys' f' ∧ (∀ k, k < 12 → (f' k = true ↔ f k = true ∨ rd_rt va la p j k)) ∧ (∀ post : SY → Prop, (∃ n, wY_keep_147 post (nI p) yN yk tm hIt py bl n 1 dO dP dS dF dG dR dA yB yR yK yO yA yH yF yG yU yT yb yc yl yp so yC yt ho ce yL va la gi ap ys' hLi hOp hNa hSh hSr hTi hCe hRe) → ∃ n, wY_keep_88 post (nI p) yN yk tm hIt py bl n (nI (4 * p + j)) dO dP dS dF dG dR dA yB yR yK yO yA yH yF yG yU yT yb yc yl yp so yC yt ho ce yL va la gi ap ys hLi hOp hNa hSh hSr hTi hCe hRe) := by
  intro e
  induction e with
  | zero =>
    intro j f ys hj hY
    obtain rfl : j = 4 := by omega
    exact ⟨f, ys, hY, fun k hk => ⟨Or.inl, fun z => z.elim id (fun ⟨i, h1, h2, _⟩ => by omega)⟩, fun post h => ⟨1, br_t (by rw [rd_m4, rd_a4]; exact Int32.le_refl _) h⟩⟩
  | succ e ih =>
    intro j f ys hj hY
    have hj4 : j < 4 := by omega
    obtain ⟨⟨mv, ev, hv⟩, ⟨ml, el, hl⟩⟩ := hR.1.2.2.2.2.2.2.2.1 p hp3 j hj4
    have cj : (nI (4 * p + j)).toNatClampNeg = 4 * p + j := rd_cl (by omega)
    obtain ⟨ys1, hY1, X1⟩ : ∃ ys1, rd_YS ys1 (rd_ad f mv) ∧ ∀ (post : SY → Prop) F, wY_keep_118 post (wY_keep_88 post (nI p) yN yk tm hIt py bl F) (nI p) (nI (4 * p + j)) yN yk tm hIt py bl dO dP dS dF dG dR dA yB yR yK yO yA yH yF yG yU yT yb yc yl yp so yC yt ho ce yL va la gi ap ys1 hLi hOp hNa hSh hSr hTi hCe hRe → wY_keep_88 post (nI p) yN yk tm hIt py bl (F + 1) (nI (4 * p + j)) dO dP dS dF dG dR dA yB yR yK yO yA yH yF yG yU yT yb yc yl yp so yC yt ho ce yL va la gi ap ys hLi hOp hNa hSh hSr hTi hCe hRe := by
      have g : ¬ 4 * nI p + 4 ≤ nI (4 * p + j) := by rw [rd_m4, rd_a4]; exact nI_ge (by omega) (by omega)
      cases mv with
      | none => exact ⟨ys, by rw [rd_ad0]; exact hY, fun post F h => br_f g ⟨rd_in (by omega), br_t (by rw [cj, ev]; exact rd_m1n) h⟩⟩
      | some v =>
        have hv12 := (hv v rfl).1
        refine ⟨_, rd_YSad (k := v) hY, fun post F h => br_f g ⟨rd_in (by omega), br_f (by rw [cj, ev]; exact nI_pos (by omega)) ⟨rd_in (by omega), ?_⟩⟩⟩
        rw [cj, ev, rd_o1, rd_nz1, rd_cl (show v < 3000 by omega)]
        exact ⟨rd_in hv12, nm_e h⟩
    obtain ⟨ys2, hY2, X2⟩ : ∃ ys2, rd_YS ys2 (rd_ad (rd_ad f mv) ml) ∧ ∀ (post : SY → Prop) F, wY_keep_88 post (nI p) yN yk tm hIt py bl F (nI (4 * p + (j + 1))) dO dP dS dF dG dR dA yB yR yK yO yA yH yF yG yU yT yb yc yl yp so yC yt ho ce yL va la gi ap ys2 hLi hOp hNa hSh hSr hTi hCe hRe → wY_keep_118 post (wY_keep_88 post (nI p) yN yk tm hIt py bl F) (nI p) (nI (4 * p + j)) yN yk tm hIt py bl dO dP dS dF dG dR dA yB yR yK yO yA yH yF yG yU yT yb yc yl yp so yC yt ho ce yL va la gi ap ys1 hLi hOp hNa hSh hSr hTi hCe hRe := by
      cases ml with
      | none => exact ⟨ys1, by rw [rd_ad0]; exact hY1, fun post F h => ⟨rd_in (by omega), br_t (by rw [cj, el]; exact rd_m1n) (nm_r (nI_1 _) h)⟩⟩
      | some v =>
        have hv12 := (hl v rfl).1
        refine ⟨_, rd_YSad (k := v) hY1, fun post F h => ⟨rd_in (by omega), br_f (by rw [cj, el]; exact nI_pos (by omega)) ⟨rd_in (by omega), ?_⟩⟩⟩
        rw [cj, el, rd_o1, rd_nz1, rd_cl (show v < 3000 by omega)]
        exact ⟨rd_in hv12, nm_e (nm_r (nI_1 _) h)⟩
    obtain ⟨f', ys', r1, r2, X3⟩ := ih (j + 1) _ ys2 (by omega) hY2
    refine ⟨f', ys', r1, fun k hk => ?_, fun post h => ?_⟩
    · rw [r2 k hk, rd_ad_iff, rd_ad_iff, rd_rt_s hj4, ev, el, rd_o_nI hk (fun v e => (hv v e).1), rd_o_nI hk (fun v e => (hl v e).1), or_assoc, or_assoc, or_assoc]
    · obtain ⟨F, hF⟩ := X3 post h
      exact ⟨F + 1, X1 post F (X2 post F hF)⟩
/-- what stays, on both sides -/
theorem rd_keep (hC : rd_CR (N, P, sh, fl, sg, st, pr, kn) (xB, xR, xK, xU, xH, xF, xG, xT) (yN, yB, yR, yK, yO, yA, yH, yF, yG, yU, yT)) (hR : rd_OR K (N, P, sh, fl, sg, st, pr, kn) (oc, tk, le, hm, gv, lm, t) (so, ho, ce, va, la, gi) (li, nw, xC, xt, xL) (tm, yC, yt, yL, ap)) (hK : K ≤ 4000) (hp3 : p < 3) :
    ∃ (ff : Nat → Bool) (x' : Int32) (ys' : rt_F), rd_BS x' ff ∧ rd_YS ys' ff ∧ (∀ k, k < 12 → rd_rt va la p 0 k → ff k = true) ∧ (∀ i, i < 24 → ∀ u, u < 12 → ff (i / 2) = true → rd_tg so ce sh oc p i u → ff u = true) ∧
      (∀ post : Int32 → Prop, post x' → wpX_stays post (li, nw, gIt, pa, ab, dO, dP, dS, dF, dG, dR, dA, xB, xR, xK, xU, xH, xF, xG, xT, xc, xo, xl, so, ho, xC, ce, xt, xL, va, la, gi, gSk, gOd, gIo, gSo, gNa, gSh, gSr, gMa, gTi, gCe) (nI p)) ∧ (∀ post : SY → Prop, post (yN, yk, tm, hIt, py, bl, dO, dP, dS, dF, dG, dR, dA, yB, yR, yK, yO, yA, yH, yF, yG, yU, yT, yb, yc, yl, yp, so, yC, yt, ho, ce, yL, va, la, gi, ap, ys', hLi, hOp, hNa, hSh, hSr, hTi, hCe, hRe) → wpY_keep post (yN, yk, tm, hIt, py, bl, dO, dP, dS, dF, dG, dR, dA, yB, yR, yK, yO, yA, yH, yF, yG, yU, yT, yb, yc, yl, yp, so, yC, yt, ho, ce, yL, va, la, gi, ap, ys, hLi, hOp, hNa, hSh, hSr, hTi, hCe, hRe) (nI p)) := by
  obtain ⟨f1, x1, a1, a2, X1⟩ := xq_st7 (pa := pa) (ab := ab) (dO := dO) (dP := dP) (dS := dS) (dF := dF) (dG := dG) (dR := dR) (dA := dA) (xB := xB) (xR := xR) (xK := xK) (xU := xU) (xH := xH) (xF := xF) (xG := xG) (xT := xT) (xc := xc) (xo := xo) (xl := xl) (gIt := gIt) (gSk := gSk) (gOd := gOd) (gIo := gIo) (gSo := gSo) (gNa := gNa) (gSh := gSh) (gSr := gSr) (gMa := gMa) (gTi := gTi) (gCe := gCe) hR hp3 4 0 (fun _ => false) 0 (by omega) rd_BS0
  obtain ⟨f2, x2, b1, b2, X2⟩ := xq_st70 (pa := pa) (ab := ab) (dO := dO) (dP := dP) (dS := dS) (dF := dF) (dG := dG) (dR := dR) (dA := dA) (xB := xB) (xR := xR) (xK := xK) (xU := xU) (xH := xH) (xF := xF) (xG := xG) (xT := xT) (xc := xc) (xo := xo) (xl := xl) (gIt := gIt) (gSk := gSk) (gOd := gOd) (gIo := gIo) (gSo := gSo) (gNa := gNa) (gSh := gSh) (gSr := gSr) (gMa := gMa) (gTi := gTi) (gCe := gCe) hR hK hp3 12 0 f1 x1 (by omega) a1
  obtain ⟨f3, ys3, c1, c2, Y3⟩ := yq_kp88 (py := py) (bl := bl) (dO := dO) (dP := dP) (dS := dS) (dF := dF) (dG := dG) (dR := dR) (dA := dA) (yN := yN) (yB := yB) (yR := yR) (yK := yK) (yO := yO) (yA := yA) (yH := yH) (yF := yF) (yG := yG) (yU := yU) (yT := yT) (yk := yk) (yb := yb) (yc := yc) (yl := yl) (yp := yp) (hIt := hIt) (hLi := hLi) (hOp := hOp) (hNa := hNa) (hSh := hSh) (hSr := hSr) (hTi := hTi) (hCe := hCe) (hRe := hRe) hR hp3 4 0 (fun k => rd_eB so tk le t (12 * p + k)) (fun k => if k < 12 then nI (rd_bn (rd_eB so tk le t (12 * p + k))) else ys k) (by omega) (fun k hk => if_pos hk)
  have same : ∀ k, k < 12 → f2 k = f3 k := fun k hk => by
    have h1 : f2 k = true ↔ f3 k = true := by
      rw [b2 k hk, a2 k hk, c2 k hk]
      constructor
      · rintro ((z | z) | ⟨_, z⟩)
        · exact absurd z (by decide)
        · exact Or.inr z
        · exact Or.inl z
      · rintro (z | z)
        · exact Or.inr ⟨Nat.zero_le _, z⟩
        · exact Or.inl (Or.inr z)
    cases h : f2 k with
    | true => exact (h1.mp h).symm
    | false =>
      cases h' : f3 k with
      | true => rw [h1.mpr h'] at h; exact nomatch h
      | false => rfl
  obtain ⟨ff, x', ys', d1, d2, d3, d4, X4, Y4⟩ := rd_clo (pa := pa) (ab := ab) (py := py) (bl := bl) (dO := dO) (dP := dP) (dS := dS) (dF := dF) (dG := dG) (dR := dR) (dA := dA) (xc := xc) (xo := xo) (xl := xl) (gIt := gIt) (gSk := gSk) (gOd := gOd) (gIo := gIo) (gSo := gSo) (gNa := gNa) (gSh := gSh) (gSr := gSr) (gMa := gMa) (gTi := gTi) (gCe := gCe) (yk := yk) (yb := yb) (yc := yc) (yl := yl) (yp := yp) (hIt := hIt) (hLi := hLi) (hOp := hOp) (hNa := hNa) (hSh := hSh) (hSr := hSr) (hTi := hTi) (hCe := hCe) (hRe := hRe) hC hR hp3 12 f2 x2 ys3 (by omega) b1 (rd_YSsame c1 same)
  refine ⟨ff, x', ys', d1, d2, fun k hk hr => d3 k hk ((b2 k hk).mpr (Or.inl ((a2 k hk).mpr (Or.inr hr)))), d4, fun post hp => ?_, fun post hp => ?_⟩
  · unfold wpX_stays
    dsimp only
    exact nm_r (rd_m4 p) (X1 post (X2 post (X4 post hp)))
  · exact yq_kp2 hR hK hp3 (Y3 post (Y4 post hp))
end
end
section
/-! collect: what goes -/
def rd_kl (so : rt_F) (p : Nat) (ff : Nat → Bool) (j : Nat) : rt_F := fun x => if 12 * p ≤ x ∧ x < 12 * p + j ∧ ff (x - 12 * p) = false then 0 else so x
theorem rd_kl0 {so : rt_F} {p : Nat} {ff : Nat → Bool} : rd_kl so p ff 0 = so := by
  funext x
  exact if_neg (fun z => by omega)
theorem rd_kl_i {so : rt_F} {p j x : Nat} {ff : Nat → Bool} (h : 12 * p + j ≤ x) : rd_kl so p ff j x = so x := if_neg (fun z => by omega)
theorem rd_kl_s1 {so : rt_F} {p j : Nat} {ff : Nat → Bool} (h : ff j = true ∨ so (12 * p + j) = 0) : rd_kl so p ff (j + 1) = rd_kl so p ff j := by
  funext x
  unfold rd_kl
  by_cases c : x = 12 * p + j
  · subst c
    rw [if_neg (show ¬ (12 * p ≤ 12 * p + j ∧ 12 * p + j < 12 * p + j ∧ ff (12 * p + j - 12 * p) = false) from fun z => by omega)]
    by_cases c2 : 12 * p ≤ 12 * p + j ∧ 12 * p + j < 12 * p + (j + 1) ∧ ff (12 * p + j - 12 * p) = false
    · rw [if_pos c2]
      rcases h with h | h
      · have := c2.2.2
        rw [show 12 * p + j - 12 * p = j by omega, h] at this
        exact nomatch this
      · exact h.symm
    · rw [if_neg c2]
  · by_cases c2 : 12 * p ≤ x ∧ x < 12 * p + j ∧ ff (x - 12 * p) = false
    · rw [if_pos c2, if_pos ⟨c2.1, by omega, c2.2.2⟩]
    · rw [if_neg c2, if_neg (fun z => c2 ⟨z.1, by omega, z.2.2⟩)]
theorem rd_kl_s2 {so : rt_F} {p j : Nat} {ff : Nat → Bool} (h : ff j = false) : rd_kl so p ff (j + 1) = upd (rd_kl so p ff j) (12 * p + j) 0 := by
  funext x
  by_cases c : x = 12 * p + j
  · subst c
    rw [pk_us]
    exact if_pos ⟨by omega, by omega, by rw [show 12 * p + j - 12 * p = j by omega]; exact h⟩
  · rw [pk_un c]
    unfold rd_kl
    by_cases c2 : 12 * p ≤ x ∧ x < 12 * p + j ∧ ff (x - 12 * p) = false
    · rw [if_pos c2, if_pos ⟨c2.1, by omega, c2.2.2⟩]
    · rw [if_neg c2, if_neg (fun z => c2 ⟨z.1, by omega, z.2.2⟩)]
theorem rd_kl_z {so : rt_F} {p j x : Nat} {ff : Nat → Bool} : rd_kl so p ff j x = 0 ∨ rd_kl so p ff j x = so x := by
  unfold rd_kl
  by_cases c : 12 * p ≤ x ∧ x < 12 * p + j ∧ ff (x - 12 * p) = false
  · rw [if_pos c]; exact Or.inl rfl
  · rw [if_neg c]; exact Or.inr rfl
def rd_bs (so : rt_F) (p : Nat) (ff : Nat → Bool) (j k : Nat) : Bool := decide (k < j ∧ so (12 * p + k) = 2 ∧ ff k = false)
def rd_ct (so : rt_F) (p : Nat) (ff : Nat → Bool) (k : Nat) : Bool := decide (¬ so (12 * p + k) = 0 ∧ ff k = false)
def rd_xf (so xt : rt_F) (le : Nat → Nat) (p j : Nat) (ff : Nat → Bool) (xt1 : rt_F) (xL1 : Nat → Int64) : Prop :=
  (∀ x, x < 36 → (so x = 2 ∨ ¬ rd_kl so p ff j x = 0) → xt1 x = xt x) ∧ (∀ x, x < 36 → ∀ q, q < 3 → xL1 (3 * x + q) = lN (if rd_kl so p ff j x = 1 then le (3 * x + q) else 0))
section
variable {K N p lm t : Nat} {P sh fl sg st oc tk le hm gv : Nat → Nat} {pr kn : Nat → Option Nat} {ff : Nat → Bool} {set : Int32}
variable {li gIt pa ab yN yk tm hIt py bl : Int32} {dO dP dS dF dG dR dA xB xR xK xU xH xF xG xT xc xo xl so ho xC ce xt va la gi gSk gOd gIo gSo gNa gSh gSr gMa gTi gCe yB yR yK yO yA yH yF yG yU yT yb yc yl yp yC yt yL ap ys hLi hOp hNa hSh hSr hTi hCe hRe : Nat → Int32} {nw : Int64} {xL : Nat → Int64}
/-- X: the first loop -/
theorem xq_c23 (hR : rd_OR K (N, P, sh, fl, sg, st, pr, kn) (oc, tk, le, hm, gv, lm, t) (so, ho, ce, va, la, gi) (li, nw, xC, xt, xL) (tm, yC, yt, yL, ap)) (hp3 : p < 3) (hS : rd_BS set ff) : ∀ (e j : Nat) (xt1 : rt_F) (xL1 : Nat → Int64) (x4 : Int32), j + e = 12 → rd_BS x4 (rd_bs so p ff j) → rd_xf so xt le p j ff xt1 xL1 →
    ∃ (xt2 : rt_F) (xL2 : Nat → Int64) (x4' : Int32), rd_BS x4' (rd_bs so p ff 12) ∧ rd_xf so xt le p 12 ff xt2 xL2 ∧
      (∀ post : Int32 → SX → Prop, (∃ n, wX_collect_115 post (nI p) (nI (rd_cn (rd_ct so p ff) 12)) n x4' 0 li nw gIt pa ab dO dP dS dF dG dR dA xB xR xK xU xH xF xG xT xc xo xl (rd_kl so p ff 12) ho xC ce xt2 xL2 va la gi gSk gOd gIo gSo gNa gSh gSr gMa gTi gCe) → ∃ n, wX_collect_23 post (nI p) set n (nI (rd_cn (rd_ct so p ff) j)) x4 (nI j) li nw gIt pa ab dO dP dS dF dG dR dA xB xR xK xU xH xF xG xT xc xo xl (rd_kl so p ff j) ho xC ce xt1 xL1 va la gi gSk gOd gIo gSo gNa gSh gSr gMa gTi gCe) := by
  intro e
  induction e with
  | zero =>
    intro j xt1 xL1 x4 hj hB hF
    obtain rfl : j = 12 := by omega
    exact ⟨xt1, xL1, x4, hB, hF, fun post h => ⟨1, br_t (Int32.le_refl _) h⟩⟩
  | succ e ih =>
    intro j xt1 xL1 x4 hj hB hF
    have hj12 : j < 12 := by omega
    have g : ¬ 12 ≤ nI j := nI_ge (b := 12) hj12 (by omega)
    have e12 : 12 * nI p + nI j = nI (12 * p + j) := by rw [rd_m12, nI_add]
    have ci : (nI (12 * p + j)).toNatClampNeg = 12 * p + j := rd_cl (by omega)
    have ki : rd_kl so p ff j (12 * p + j) = so (12 * p + j) := rd_kl_i (by omega)
    have hct : rd_cn (rd_ct so p ff) (j + 1) = rd_cn (rd_ct so p ff) j + (if rd_ct so p ff j = true then 1 else 0) := rfl
    have hso := (hR.1.2.1 (12 * p + j) (by omega)).1
    -- nothing goes here
    have skip : (ff j = true ∨ so (12 * p + j) = 0) → (∀ (post : Int32 → SX → Prop) F, wX_collect_23 post (nI p) set F (nI (rd_cn (rd_ct so p ff) j)) x4 (nI (j + 1)) li nw gIt pa ab dO dP dS dF dG dR dA xB xR xK xU xH xF xG xT xc xo xl (rd_kl so p ff j) ho xC ce xt1 xL1 va la gi gSk gOd gIo gSo gNa gSh gSr gMa gTi gCe → wX_collect_23 post (nI p) set (F + 1) (nI (rd_cn (rd_ct so p ff) j)) x4 (nI j) li nw gIt pa ab dO dP dS dF dG dR dA xB xR xK xU xH xF xG xT xc xo xl (rd_kl so p ff j) ho xC ce xt1 xL1 va la gi gSk gOd gIo gSo gNa gSh gSr gMa gTi gCe) →
        ∃ (xt2 : rt_F) (xL2 : Nat → Int64) (x4' : Int32), rd_BS x4' (rd_bs so p ff 12) ∧ rd_xf so xt le p 12 ff xt2 xL2 ∧
          (∀ post : Int32 → SX → Prop, (∃ n, wX_collect_115 post (nI p) (nI (rd_cn (rd_ct so p ff) 12)) n x4' 0 li nw gIt pa ab dO dP dS dF dG dR dA xB xR xK xU xH xF xG xT xc xo xl (rd_kl so p ff 12) ho xC ce xt2 xL2 va la gi gSk gOd gIo gSo gNa gSh gSr gMa gTi gCe) → ∃ n, wX_collect_23 post (nI p) set n (nI (rd_cn (rd_ct so p ff) j)) x4 (nI j) li nw gIt pa ab dO dP dS dF dG dR dA xB xR xK xU xH xF xG xT xc xo xl (rd_kl so p ff j) ho xC ce xt1 xL1 va la gi gSk gOd gIo gSo gNa gSh gSr gMa gTi gCe) := by
      intro hc hx
      have ek := rd_kl_s1 hc
      have hB' : rd_BS x4 (rd_bs so p ff (j + 1)) := rd_BSsame hB (fun k hk => by
        unfold rd_bs
        by_cases c : k = j
        · subst c
          have : ¬ (so (12 * p + k) = 2 ∧ ff k = false) := by
            rintro ⟨z1, z2⟩
            rcases hc with h | h
            · rw [h] at z2; exact nomatch z2
            · rw [h] at z1; exact absurd z1 (by decide)
          rw [decide_eq_false (fun z => this z.2), decide_eq_false (fun z => this z.2)]
        · exact decide_eq_decide.mpr ⟨fun z => ⟨by omega, z.2⟩, fun z => ⟨by omega, z.2⟩⟩)
      have hF' : rd_xf so xt le p (j + 1) ff xt1 xL1 := by unfold rd_xf; rw [ek]; exact hF
      have hc0 : rd_ct so p ff j = false := decide_eq_false (fun z => by
        rcases hc with h | h
        · rw [h] at z; exact nomatch z.2
        · exact z.1 h)
      obtain ⟨xt2, xL2, x4', r1, r2, X1⟩ := ih (j + 1) xt1 xL1 x4 (by omega) hB' hF'
      refine ⟨xt2, xL2, x4', r1, r2, fun post h => ?_⟩
      obtain ⟨F, hG⟩ := X1 post h
      rw [ek, hct, hc0, if_neg (by decide), Nat.add_zero] at hG
      exact ⟨F + 1, hx post F hG⟩
    by_cases c0 : so (12 * p + j) = 0
    · refine skip (Or.inr c0) (fun post F hG => br_f g ?_)
      rw [e12]
      refine nm_e ⟨rd_in (by omega), ?_⟩
      rw [ci, ki]
      exact br_t c0 (nm_r (nI_1 j) hG)
    by_cases cf : ff j = true
    · refine skip (Or.inl cf) (fun post F hG => br_f g ?_)
      rw [e12]
      refine nm_e ⟨rd_in (by omega), ?_⟩
      rw [ci, ki, rd_BSt hS hj12]
      exact br_f c0 (br_t (rd_bn1.mpr cf) (nm_r (nI_1 j) hG))
    have cf' : ff j = false := by cases h : ff j with | true => exact absurd h cf | false => rfl
    have ek := rd_kl_s2 (so := so) (p := p) cf'
    have hc1 : rd_ct so p ff j = true := decide_eq_true ⟨c0, cf'⟩
    have kx : ∀ x, x ≠ 12 * p + j → rd_kl so p ff (j + 1) x = rd_kl so p ff j x := fun x hx => by rw [ek, pk_un hx]
    have kz : rd_kl so p ff (j + 1) (12 * p + j) = 0 := by rw [ek, pk_us]
    obtain ⟨cn1, hcn⟩ : ∃ cn1, cn1 = nI (rd_cn (rd_ct so p ff) (j + 1)) := ⟨_, rfl⟩
    have xh : ∀ (post : Int32 → SX → Prop) F, ((so (12 * p + j) = 2 → (∀ x4_150 : Int32, x4_150 = x4 ||| ((1 : Int32) <<< (nI j &&& 31)) → (vp_in (nI (12 * p + j)) 36 ∧ ∀ S : Nat → Int32, S = upd (rd_kl so p ff j) (12 * p + j) (vp_nar .byte 0) → (∀ x5_153 : Int32, x5_153 = nI j + 1 → (wX_collect_23 post (nI p) set F cn1 x4_150 x5_153 li nw gIt pa ab dO dP dS dF dG dR dA xB xR xK xU xH xF xG xT xc xo xl S ho xC ce xt1 xL1 va la gi gSk gOd gIo gSo gNa gSh gSr gMa gTi gCe))))) ∧ (¬ so (12 * p + j) = 2 → (wpX_forget (fun u => match u with | (li, nw, gIt, pa, ab, dO, dP, dS, dF, dG, dR, dA, xB, xR, xK, xU, xH, xF, xG, xT, xc, xo, xl, so, ho, xC, ce, xt, xL, va, la, gi, gSk, gOd, gIo, gSo, gNa, gSh, gSr, gMa, gTi, gCe) => (vp_in (nI (12 * p + j)) 36 ∧ ∀ S : Nat → Int32, S = upd so (12 * p + j) (vp_nar .byte 0) → (∀ x5_149 : Int32, x5_149 = nI j + 1 → (wX_collect_23 post (nI p) set F cn1 x4 x5_149 li nw gIt pa ab dO dP dS dF dG dR dA xB xR xK xU xH xF xG xT xc xo xl S ho xC ce xt xL va la gi gSk gOd gIo gSo gNa gSh gSr gMa gTi gCe)))) (li, nw, gIt, pa, ab, dO, dP, dS, dF, dG, dR, dA, xB, xR, xK, xU, xH, xF, xG, xT, xc, xo, xl, rd_kl so p ff j, ho, xC, ce, xt1, xL1, va, la, gi, gSk, gOd, gIo, gSo, gNa, gSh, gSr, gMa, gTi, gCe) (nI (12 * p + j))))) → wX_collect_23 post (nI p) set (F + 1) (nI (rd_cn (rd_ct so p ff) j)) x4 (nI j) li nw gIt pa ab dO dP dS dF dG dR dA xB xR xK xU xH xF xG xT xc xo xl (rd_kl so p ff j) ho xC ce xt1 xL1 va la gi gSk gOd gIo gSo gNa gSh gSr gMa gTi gCe := by
      intro post F h
      refine br_f g ?_
      rw [e12]
      refine nm_e ⟨rd_in (by omega), ?_⟩
      rw [ci, ki, rd_BSt hS hj12]
      refine br_f c0 (br_f (fun z => cf (rd_bn1.mp z)) (nm_r (e' := cn1) (by rw [hcn, hct, hc1, if_pos rfl, nI_1]) ⟨rd_in (by omega), ?_⟩))
      exact h
    by_cases c2 : so (12 * p + j) = 2
    · have hB' : rd_BS (x4 ||| ((1 : Int32) <<< (nI j &&& 31))) (rd_bs so p ff (j + 1)) := rd_BSsame (rd_BSad hB hj12) (fun k hk => by
        unfold rd_ad rd_bs
        by_cases c : k = j
        · subst c
          rw [decide_eq_true (show k < k + 1 ∧ so (12 * p + k) = 2 ∧ ff k = false from ⟨by omega, c2, cf'⟩), decide_eq_true (show some k = some k from rfl), Bool.or_true]
        · rw [decide_eq_false (show ¬ some j = some k from fun z => c (Option.some.inj z).symm), Bool.or_false]
          exact decide_eq_decide.mpr ⟨fun z => ⟨by omega, z.2⟩, fun z => ⟨by omega, z.2⟩⟩)
      have hF' : rd_xf so xt le p (j + 1) ff xt1 xL1 := by
        refine ⟨fun x hx h => hF.1 x hx (h.imp id (fun z => ?_)), fun x hx q hq => ?_⟩
        · by_cases e : x = 12 * p + j
          · rw [e] at z; exact absurd kz z
          · rw [kx x e] at z; exact z
        · rw [hF.2 x hx q hq]
          by_cases e : x = 12 * p + j
          · rw [e, kz, ki, c2]; rfl
          · rw [kx x e]
      obtain ⟨xt2, xL2, x4', r1, r2, X1⟩ := ih (j + 1) xt1 xL1 _ (by omega) hB' hF'
      refine ⟨xt2, xL2, x4', r1, r2, fun post h => ?_⟩
      obtain ⟨F, hG⟩ := X1 post h
      rw [ek, ← hcn] at hG
      exact ⟨F + 1, xh post F (br_t c2 (nm_e ⟨rd_in (by omega), nm_r (by rw [show vp_nar .byte 0 = 0 from rd_nb (n := 0) (by omega)]) (nm_r (nI_1 j) hG)⟩))⟩
    · have c1 : so (12 * p + j) = 1 := (hso.resolve_left c0).resolve_right c2
      have hB' : rd_BS x4 (rd_bs so p ff (j + 1)) := rd_BSsame hB (fun k hk => by
        unfold rd_bs
        by_cases c : k = j
        · subst c
          rw [decide_eq_false (fun z => c2 z.2.1), decide_eq_false (fun z => c2 z.2.1)]
        · exact decide_eq_decide.mpr ⟨fun z => ⟨by omega, z.2⟩, fun z => ⟨by omega, z.2⟩⟩)
      have hF' : rd_xf so xt le p (j + 1) ff (upd xt1 (12 * p + j) 0) (rd_zL xL1 (12 * p + j)) := by
        refine ⟨fun x hx h => ?_, fun x hx q hq => ?_⟩
        · by_cases e : x = 12 * p + j
          · rw [e] at h
            rcases h with h | h
            · exact absurd h c2
            · exact absurd kz h
          · rw [pk_un e]
            exact hF.1 x hx (h.imp id (fun z => by rw [kx x e] at z; exact z))
        · by_cases e : x = 12 * p + j
          · rw [e, rd_zLs hq, kz]; rfl
          · rw [rd_zLn (by omega), kx x e]; exact hF.2 x hx q hq
      obtain ⟨xt2, xL2, x4', r1, r2, X1⟩ := ih (j + 1) _ _ x4 (by omega) hB' hF'
      refine ⟨xt2, xL2, x4', r1, r2, fun post h => ?_⟩
      obtain ⟨F, hG⟩ := X1 post h
      rw [ek, ← hcn] at hG
      refine ⟨F + 1, xh post F (br_f c2 (xq_forget (by omega) ⟨rd_in (by omega), nm_r ?_ (nm_r (nI_1 j) hG)⟩))⟩
      rw [show vp_nar .byte 0 = 0 from rd_nb (n := 0) (by omega)]
/-- Y: the last loop -/
theorem yq_c84 {post : Int32 → SY → Prop} {x2 : Int32} (hp3 : p < 3) (hYS : rd_YS ys ff) (h : post x2 (yN, yk, tm, hIt, py, bl, dO, dP, dS, dF, dG, dR, dA, yB, yR, yK, yO, yA, yH, yF, yG, yU, yT, yb, yc, yl, yp, rd_kl so p ff 12, yC, yt, ho, ce, yL, va, la, gi, ap, ys, hLi, hOp, hNa, hSh, hSr, hTi, hCe, hRe)) : ∃ n, wY_collect_84 post (nI p) x2 yN yk tm hIt py bl n 0 dO dP dS dF dG dR dA yB yR yK yO yA yH yF yG yU yT yb yc yl yp so yC yt ho ce yL va la gi ap ys hLi hOp hNa hSh hSr hTi hCe hRe := by
  have key := rd_run (fun f j => wY_collect_84 post (nI p) x2 yN yk tm hIt py bl f (nI j) dO dP dS dF dG dR dA yB yR yK yO yA yH yF yG yU yT yb yc yl yp (rd_kl so p ff j) yC yt ho ce yL va la gi ap ys hLi hOp hNa hSh hSr hTi hCe hRe) (i := 0) (k := 12) (by omega) ⟨1, br_t (Int32.le_refl _) h⟩ (fun f j _ hj W => by
    refine br_f (nI_ge (b := 12) hj (by omega)) ⟨rd_in hj, ?_⟩
    rw [rd_cl (show j < 3000 by omega), hYS j hj, rd_m12, nI_add, rd_cl (by omega)]
    by_cases c : ff j = true
    · rw [rd_kl_s1 (Or.inl c)] at W
      exact br_f (fun z => by rw [rd_bn0.mp z] at c; exact nomatch c) (nm_r (nI_1 j) W)
    · have c' : ff j = false := by cases h : ff j with | true => exact absurd h c | false => rfl
      rw [rd_kl_s2 c'] at W
      exact br_t (rd_bn0.mpr c') ⟨rd_in (by omega), nm_e (nm_r (nI_1 j) W)⟩)
  obtain ⟨f, hf⟩ := key
  rw [rd_kl0] at hf
  exact ⟨f, hf⟩
end
end
section
/-! collect: a stub goes -/
def rd_M (s1 : rt_F) (t : Nat) (le : Nat → Nat) (xL : Nat → Int64) (yL : rt_F) : Prop :=
  (∀ x, x < 36 → ∀ q, q < 3 → xL (3 * x + q) = lN (le (3 * x + q)) ∧ le (3 * x + q) ≤ t + 10 ∧ (¬ s1 x = 1 → le (3 * x + q) = 0)) ∧ (∀ x, x < 36 → s1 x = 1 → ∀ q, q < 3 → yL (3 * x + q) = nI (rd_lv t (le (3 * x + q))))
section
variable {K N p k lm t : Nat} {P sh fl sg st oc tk le hm gv : Nat → Nat} {pr kn : Nat → Option Nat} {ff : Nat → Bool} {xt1 : rt_F}
variable {li gIt pa ab yN yk tm hIt py bl : Int32} {dO dP dS dF dG dR dA xB xR xK xU xH xF xG xT xc xo xl so ho xC ce xt va la gi gSk gOd gIo gSo gNa gSh gSr gMa gTi gCe yB yR yK yO yA yH yF yG yU yT yb yc yl yp yC yt yL ap ys hLi hOp hNa hSh hSr hTi hCe hRe : Nat → Int32} {nw : Int64} {xL : Nat → Int64}
theorem rd_kl_p {o : Nat} (ho12 : o < 12) : rd_kl so p ff 12 (12 * p + o) = if ff o = false then 0 else so (12 * p + o) := by
  unfold rd_kl
  by_cases c : ff o = false
  · rw [if_pos c, if_pos ⟨by omega, by omega, by rw [show 12 * p + o - 12 * p = o by omega]; exact c⟩]
  · rw [if_neg c, if_neg (fun z => c (by have := z.2.2; rw [show 12 * p + o - 12 * p = o by omega] at this; exact this))]
theorem rd_drop (hR : rd_OR K (N, P, sh, fl, sg, st, pr, kn) (oc, tk, le, hm, gv, lm, t) (so, ho, ce, va, la, gi) (li, nw, xC, xt, xL) (tm, yC, yt, yL, ap)) (hK : K ≤ 4000) (hp3 : p < 3) (hYS : rd_YS ys ff) (hxt1 : ∀ x, x < 36 → (so x = 2 ∨ ¬ rd_kl so p ff 12 x = 0) → xt1 x = xt x) (hk : k < 12) (hsk : so (12 * p + k) = 2)
    {le1 : Nat → Nat} {xL1 : Nat → Int64} {yL1 : rt_F} (hM : rd_M (rd_kl so p ff 12) t le1 xL1 yL1) :
    ∃ (le2 : Nat → Nat) (xL2 : Nat → Int64) (yL2 : rt_F), rd_M (rd_kl so p ff 12) t le2 xL2 yL2 ∧
      (∀ post : SX → Prop, post (li, nw, gIt, pa, ab, dO, dP, dS, dF, dG, dR, dA, xB, xR, xK, xU, xH, xF, xG, xT, xc, xo, xl, rd_kl so p ff 12, ho, xC, ce, xt1, xL2, va, la, gi, gSk, gOd, gIo, gSo, gNa, gSh, gSr, gMa, gTi, gCe) → wpX_clean post (li, nw, gIt, pa, ab, dO, dP, dS, dF, dG, dR, dA, xB, xR, xK, xU, xH, xF, xG, xT, xc, xo, xl, rd_kl so p ff 12, ho, xC, ce, xt1, xL1, va, la, gi, gSk, gOd, gIo, gSo, gNa, gSh, gSr, gMa, gTi, gCe) (nI p) (nI (12 * p + k))) ∧
      (∀ post : SY → Prop, post (yN, yk, tm, hIt, py, bl, dO, dP, dS, dF, dG, dR, dA, yB, yR, yK, yO, yA, yH, yF, yG, yU, yT, yb, yc, yl, yp, so, yC, yt, ho, ce, yL2, va, la, gi, ap, ys, hLi, hOp, hNa, hSh, hSr, hTi, hCe, hRe) → wpY_drop post (yN, yk, tm, hIt, py, bl, dO, dP, dS, dF, dG, dR, dA, yB, yR, yK, yO, yA, yH, yF, yG, yU, yT, yb, yc, yl, yp, so, yC, yt, ho, ce, yL1, va, la, gi, ap, ys, hLi, hOp, hNa, hSh, hSr, hTi, hCe, hRe) (nI p) (nI (12 * p + k))) := by
  obtain ⟨⟨a1, a2, a3, a4, a5, a6, a7, a8, a9⟩, ⟨b1, b2, b3, b4, b5⟩, ⟨d1, d2, d3, d4, d5⟩⟩ := hR
  have hi36 : 12 * p + k < 36 := by omega
  obtain ⟨_, eho, hh, htK⟩ := a2 _ hi36
  have ht1 := a4 _ hi36 hsk
  have ext : xt1 (12 * p + k) = nI (tk (12 * p + k)) := by rw [hxt1 _ hi36 (Or.inl hsk)]; exact b4 _ hi36 (by rw [hsk]; decide)
  have eyt := d3 _ hi36 (by rw [hsk]; decide)
  have ci : (nI (12 * p + k)).toNatClampNeg = 12 * p + k := rd_cl (by omega)
  -- tickets and homes of the others
  have xtk : ∀ x, x < 36 → ¬ rd_kl so p ff 12 x = 0 → xt1 x = nI (tk x) := fun x hx hz => by
    rw [hxt1 x hx (Or.inr hz)]
    refine b4 x hx (fun z => hz ?_)
    rcases rd_kl_z (so := so) (p := p) (ff := ff) (j := 12) (x := x) with e | e
    · exact e
    · rw [e]; exact z
  have kone : ∀ x, rd_kl so p ff 12 x = 1 → so x = 1 := fun x hx => by
    rcases rd_kl_z (so := so) (p := p) (ff := ff) (j := 12) (x := x) with e | e
    · rw [e] at hx; exact absurd hx (by decide)
    · rw [← e]; exact hx
  generalize hhe : hm (12 * p + k) = h at eho hh
  generalize hte : tk (12 * p + k) = tt at htK ht1 ext eyt
  -- the first exported ones, before and after
  obtain ⟨eX, _, x2, x3, x4⟩ := rd_first (fun j => rd_kl so p ff 12 (12 * h + j) = 1 ∧ tk (12 * h + j) = tt) 0 12 (by omega)
  obtain ⟨eY, _, y2, y3, y4⟩ := rd_first (fun j => so (12 * h + j) = 1 ∧ tk (12 * h + j) = tt) 0 12 (by omega)
  have hXY : eX < 12 → eY = eX := by
    intro hx
    obtain ⟨f1, f2⟩ := x4.resolve_left (by omega)
    have g1 := kone _ f1
    have hy : ¬ eY = 12 := fun z => y3 eX (by omega) (by omega) ⟨g1, f2⟩
    obtain ⟨g3, g4⟩ := y4.resolve_left hy
    have := a5 (12 * h + eY) (by omega) (12 * h + eX) (by omega) (by omega) g3 g1 (by rw [g4, f2]) (by rw [g4]; omega)
    omega
  have xE : ∀ post : Int32 → Prop, post (if eX = 12 then -1 else nI eX) → wpX_exported post (li, nw, gIt, pa, ab, dO, dP, dS, dF, dG, dR, dA, xB, xR, xK, xU, xH, xF, xG, xT, xc, xo, xl, rd_kl so p ff 12, ho, xC, ce, xt1, xL1, va, la, gi, gSk, gOd, gIo, gSo, gNa, gSh, gSr, gMa, gTi, gCe) (nI h) (nI tt) := fun post hp => by
    have hx : ∀ j, j < 12 → ((rd_kl so p ff 12 (12 * h + j) = 1 ∧ xt1 (12 * h + j) = nI tt) ↔ (rd_kl so p ff 12 (12 * h + j) = 1 ∧ tk (12 * h + j) = tt)) := fun j hj => by
      constructor
      · rintro ⟨z1, z2⟩
        rw [xtk _ (by omega) (by rw [z1]; decide)] at z2
        exact ⟨z1, (nI_eq (by have := (a2 (12 * h + j) (by omega)).2.2.2; omega) (by omega)).mp z2⟩
      · rintro ⟨z1, z2⟩
        exact ⟨z1, by rw [xtk _ (by omega) (by rw [z1]; decide), z2]⟩
    refine xq_exp hh x2 (fun j hj z => x3 j (by omega) hj ((hx j (by omega)).mp z)) ?_ hp
    by_cases c : eX = 12
    · exact Or.inl c
    · exact Or.inr ((hx eX (by omega)).mpr (x4.resolve_left c))
  have yE : ∀ post : Int32 → Prop, post (if eY = 12 then -1 else nI (12 * h + eY)) → wpY_exported post (yN, yk, tm, hIt, py, bl, dO, dP, dS, dF, dG, dR, dA, yB, yR, yK, yO, yA, yH, yF, yG, yU, yT, yb, yc, yl, yp, so, yC, yt, ho, ce, yL1, va, la, gi, ap, ys, hLi, hOp, hNa, hSh, hSr, hTi, hCe, hRe) (nI h) (nI tt) := fun post hp => by
    have hy : ∀ j, j < 12 → ((so (12 * h + j) = 1 ∧ yt (12 * h + j) = nI tt) ↔ (so (12 * h + j) = 1 ∧ tk (12 * h + j) = tt)) := fun j hj => by
      constructor
      · rintro ⟨z1, z2⟩
        rw [d3 _ (by omega) (by rw [z1]; decide)] at z2
        exact ⟨z1, (nI_eq (by have := (a2 (12 * h + j) (by omega)).2.2.2; omega) (by omega)).mp z2⟩
      · rintro ⟨z1, z2⟩
        exact ⟨z1, by rw [d3 _ (by omega) (by rw [z1]; decide), z2]⟩
    refine yq_exp hh ht1 (by omega) y2 (fun j hj z => y3 j (by omega) hj ((hy j (by omega)).mp z)) ?_ hp
    by_cases c : eY = 12
    · exact Or.inl c
    · exact Or.inr ((hy eY (by omega)).mpr (y4.resolve_left c))
  have hap := d5 p hp3 h hh
  have hap1 : rd_ap lm p h = 0 ∨ rd_ap lm p h = 1 := by
    unfold rd_ap
    split <;> omega
  -- another one like it
  obtain ⟨oX, _, o2, o3, o4⟩ := rd_first (fun o => ff o = true ∧ so (12 * p + o) = 2 ∧ hm (12 * p + o) = h ∧ tk (12 * p + o) = tt) 0 12 (by omega)
  have k2 : ∀ o, o < 12 → (rd_kl so p ff 12 (12 * p + o) = 2 ↔ ff o = true ∧ so (12 * p + o) = 2) := fun o ho12 => by
    rw [rd_kl_p ho12]
    cases hf : ff o with
    | true => rw [if_neg (by decide)]; exact ⟨fun z => ⟨rfl, z⟩, fun z => z.2⟩
    | false => rw [if_pos rfl]; exact ⟨fun z => absurd z (by decide), fun z => nomatch z.1⟩
  have hhm : ∀ o, o < 12 → (ho (12 * p + o) = nI h ↔ hm (12 * p + o) = h) := fun o ho12 => by
    obtain ⟨_, e1, e2, _⟩ := a2 (12 * p + o) (by omega)
    rw [e1]
    exact nI_eq (by omega) (by omega)
  have htk : ∀ o, o < 12 → (nI (tk (12 * p + o)) = nI tt ↔ tk (12 * p + o) = tt) := fun o ho12 => nI_eq (by have := (a2 (12 * p + o) (by omega)).2.2.2; omega) (by omega)
  -- X's clean
  have xC' : ∀ post : SX → Prop, (oX < 12 → post (li, nw, gIt, pa, ab, dO, dP, dS, dF, dG, dR, dA, xB, xR, xK, xU, xH, xF, xG, xT, xc, xo, xl, rd_kl so p ff 12, ho, xC, ce, xt1, xL1, va, la, gi, gSk, gOd, gIo, gSo, gNa, gSh, gSr, gMa, gTi, gCe)) → (oX = 12 → wpX_isLinked (fun r_4 => (((r_4 = 0 → (wX_clean_97 post (nI p) (nI (12 * p + k)) (-1) li nw gIt pa ab dO dP dS dF dG dR dA xB xR xK xU xH xF xG xT xc xo xl (rd_kl so p ff 12) ho xC ce xt1 xL1 va la gi gSk gOd gIo gSo gNa gSh gSr gMa gTi gCe)) ∧ (¬ r_4 = 0 → (vp_in (nI (12 * p + k)) 36 ∧ (vp_in (nI (12 * p + k)) 36 ∧ (wpX_exported (fun r_54 => (wX_clean_97 post (nI p) (nI (12 * p + k)) r_54 li nw gIt pa ab dO dP dS dF dG dR dA xB xR xK xU xH xF xG xT xc xo xl (rd_kl so p ff 12) ho xC ce xt1 xL1 va la gi gSk gOd gIo gSo gNa gSh gSr gMa gTi gCe)) (li, nw, gIt, pa, ab, dO, dP, dS, dF, dG, dR, dA, xB, xR, xK, xU, xH, xF, xG, xT, xc, xo, xl, rd_kl so p ff 12, ho, xC, ce, xt1, xL1, va, la, gi, gSk, gOd, gIo, gSo, gNa, gSh, gSr, gMa, gTi, gCe) (nI h) (nI tt)))))))) (li, nw, gIt, pa, ab, dO, dP, dS, dF, dG, dR, dA, xB, xR, xK, xU, xH, xF, xG, xT, xc, xo, xl, rd_kl so p ff 12, ho, xC, ce, xt1, xL1, va, la, gi, gSk, gOd, gIo, gSo, gNa, gSh, gSr, gMa, gTi, gCe) (nI p) (nI h)) → wpX_clean post (li, nw, gIt, pa, ab, dO, dP, dS, dF, dG, dR, dA, xB, xR, xK, xU, xH, xF, xG, xT, xc, xo, xl, rd_kl so p ff 12, ho, xC, ce, xt1, xL1, va, la, gi, gSk, gOd, gIo, gSo, gNa, gSh, gSr, gMa, gTi, gCe) (nI p) (nI (12 * p + k)) := by
    intro post hf hn
    have e12 : 12 * nI p + 12 = nI (12 * p + 12) := by rw [rd_m12, rd_a12]
    unfold wpX_clean
    dsimp only
    refine nm_r (rd_m12 p) ?_
    refine rd_run (fun f j => wX_clean_5 post (nI p) (nI (12 * p + k)) li nw gIt pa ab dO dP dS dF dG dR dA xB xR xK xU xH xF xG xT xc xo xl (rd_kl so p ff 12) ho xC ce xt1 xL1 va la gi gSk gOd gIo gSo gNa gSh gSr gMa gTi gCe f (nI (12 * p + j))) (i := 0) (k := oX) (by omega) ⟨1, ?_⟩ (fun f j _ hj W => ?_)
    · by_cases c : oX = 12
      · subst c
        refine br_t (by rw [e12]; exact Int32.le_refl _) ⟨rd_in hi36, ?_⟩
        rw [ci, eho, ext]
        exact hn rfl
      · obtain ⟨q1, q2, q3, q4⟩ := o4.resolve_left c
        have ho12 : oX < 12 := by omega
        refine br_f (by rw [e12]; exact nI_ge (by omega) (by omega)) ⟨rd_in (by omega), ?_⟩
        rw [rd_cl (show 12 * p + oX < 3000 by omega), ci, eho, ext]
        have hz : rd_kl so p ff 12 (12 * p + oX) = 2 := (k2 oX ho12).mpr ⟨q1, q2⟩
        exact br_t hz ⟨rd_in (by omega), rd_in hi36, br_t ((hhm oX ho12).mpr q3) ⟨rd_in (by omega), rd_in hi36, br_t (by rw [xtk _ (by omega) (by rw [hz]; decide), q4]) (hf ho12)⟩⟩
    · have hj12 : j < 12 := by omega
      refine br_f (by rw [e12]; exact nI_ge (by omega) (by omega)) ⟨rd_in (by omega), ?_⟩
      rw [rd_cl (show 12 * p + j < 3000 by omega), ci, eho, ext]
      by_cases z1 : rd_kl so p ff 12 (12 * p + j) = 2
      · refine br_t z1 ⟨rd_in (by omega), rd_in hi36, ?_⟩
        by_cases z2 : ho (12 * p + j) = nI h
        · refine br_t z2 ⟨rd_in (by omega), rd_in hi36, br_f (fun z3 => ?_) (nm_r (nI_1 _) W)⟩
          rw [xtk _ (by omega) (by rw [z1]; decide), htk j hj12] at z3
          obtain ⟨w1, w2⟩ := (k2 j hj12).mp z1
          exact o3 j (by omega) hj ⟨w1, w2, (hhm j hj12).mp z2, z3⟩
        · exact br_f z2 (nm_r (nI_1 _) W)
      · exact br_f z1 (nm_r (nI_1 _) W)
  -- Y's hasOther
  have yO' : ∀ post : Int32 → Prop, post (if oX = 12 then 0 else 1) → wpY_hasOther post (yN, yk, tm, hIt, py, bl, dO, dP, dS, dF, dG, dR, dA, yB, yR, yK, yO, yA, yH, yF, yG, yU, yT, yb, yc, yl, yp, so, yC, yt, ho, ce, yL1, va, la, gi, ap, ys, hLi, hOp, hNa, hSh, hSr, hTi, hCe, hRe) (nI p) (nI (12 * p + k)) := by
    intro post hp
    refine rd_run (fun f j => wY_hasOther_2 post (nI p) (nI (12 * p + k)) yN yk tm hIt py bl dO dP dS dF dG dR dA yB yR yK yO yA yH yF yG yU yT yb yc yl yp so yC yt ho ce yL1 va la gi ap ys hLi hOp hNa hSh hSr hTi hCe hRe f (nI j)) (i := 0) (k := oX) (by omega) ⟨1, ?_⟩ (fun f j _ hj W => ?_)
    · by_cases c : oX = 12
      · rw [if_pos c] at hp; subst c
        exact br_t (Int32.le_refl _) hp
      · rw [if_neg c] at hp
        obtain ⟨q1, q2, q3, q4⟩ := o4.resolve_left c
        have ho12 : oX < 12 := by omega
        refine br_f (nI_ge (b := 12) ho12 (by omega)) ⟨rd_in ho12, ?_⟩
        rw [rd_cl (show oX < 3000 by omega), hYS oX ho12, q1, rd_m12, nI_add, rd_cl (show 12 * p + oX < 3000 by omega), ci, eho, eyt]
        exact br_f (by decide) ⟨rd_in (by omega), br_t q2 ⟨rd_in (by omega), rd_in hi36, br_t ((hhm oX ho12).mpr q3) ⟨rd_in (by omega), rd_in hi36, br_t (by rw [d3 _ (by omega) (by rw [q2]; decide), q4]) hp⟩⟩⟩
    · have hj12 : j < 12 := by omega
      refine br_f (nI_ge (b := 12) hj12 (by omega)) ⟨rd_in hj12, ?_⟩
      rw [rd_cl (show j < 3000 by omega), hYS j hj12, rd_m12, nI_add, rd_cl (show 12 * p + j < 3000 by omega), ci, eho, eyt]
      by_cases z0 : ff j = true
      · refine br_f (fun z => by rw [rd_bn0.mp z] at z0; exact nomatch z0) ⟨rd_in (by omega), ?_⟩
        by_cases z1 : so (12 * p + j) = 2
        · refine br_t z1 ⟨rd_in (by omega), rd_in hi36, ?_⟩
          by_cases z2 : ho (12 * p + j) = nI h
          · refine br_t z2 ⟨rd_in (by omega), rd_in hi36, br_f (fun z3 => ?_) (nm_r (nI_1 _) W)⟩
            rw [d3 _ (by omega) (by rw [z1]; decide), htk j hj12] at z3
            exact o3 j (by omega) hj ⟨z0, z1, (hhm j hj12).mp z2, z3⟩
          · exact br_f z2 (nm_r (nI_1 _) W)
        · exact br_f z1 (nm_r (nI_1 _) W)
      · have z0' : ff j = false := by cases h : ff j with | true => exact absurd h z0 | false => rfl
        exact br_t (rd_bn0.mpr z0') (nm_r (nI_1 _) W)
  have e3 : 3 * nI p + nI h = nI (3 * p + h) := by rw [rd_m3, nI_add]
  have c3 : (nI (3 * p + h)).toNatClampNeg = 3 * p + h := rd_cl (by omega)
  -- Y's drop
  have yD : ∀ post : SY → Prop, ((oX = 12 ∧ rd_ap lm p h = 0 ∧ eY < 12) → post (yN, yk, tm, hIt, py, bl, dO, dP, dS, dF, dG, dR, dA, yB, yR, yK, yO, yA, yH, yF, yG, yU, yT, yb, yc, yl, yp, so, yC, yt, ho, ce, upd yL1 (3 * (12 * h + eY) + p) 0, va, la, gi, ap, ys, hLi, hOp, hNa, hSh, hSr, hTi, hCe, hRe)) → (¬ (oX = 12 ∧ rd_ap lm p h = 0 ∧ eY < 12) → post (yN, yk, tm, hIt, py, bl, dO, dP, dS, dF, dG, dR, dA, yB, yR, yK, yO, yA, yH, yF, yG, yU, yT, yb, yc, yl, yp, so, yC, yt, ho, ce, yL1, va, la, gi, ap, ys, hLi, hOp, hNa, hSh, hSr, hTi, hCe, hRe)) → wpY_drop post (yN, yk, tm, hIt, py, bl, dO, dP, dS, dF, dG, dR, dA, yB, yR, yK, yO, yA, yH, yF, yG, yU, yT, yb, yc, yl, yp, so, yC, yt, ho, ce, yL1, va, la, gi, ap, ys, hLi, hOp, hNa, hSh, hSr, hTi, hCe, hRe) (nI p) (nI (12 * p + k)) := by
    intro post h1 h0
    unfold wpY_drop
    dsimp only
    rw [ci, eho, eyt]
    refine ⟨rd_in hi36, rd_in hi36, yE _ ?_⟩
    by_cases c : eY = 12
    · rw [if_pos c]
      exact br_t rd_m1n (h0 (fun z => by omega))
    · rw [if_neg c, e3, c3, hap]
      refine br_f (nI_pos (by omega)) ⟨rd_in hi36, rd_in (by omega), ?_⟩
      rcases hap1 with lk | lk
      · rw [lk]
        refine br_t rfl (yO' _ ?_)
        by_cases co : oX = 12
        · rw [if_pos co, rd_m3, nI_add, rd_cl (by omega)]
          exact br_t rfl ⟨rd_in (by omega), nm_e (h1 ⟨co, lk, by omega⟩)⟩
        · rw [if_neg co]
          exact br_f (by decide) (h0 (fun z => co z.1))
      · rw [lk]
        exact br_f (by decide) (h0 (fun z => by omega))
  have xD : ∀ post : SX → Prop, ((oX = 12 ∧ rd_ap lm p h = 0 ∧ eX < 12) → post (li, nw, gIt, pa, ab, dO, dP, dS, dF, dG, dR, dA, xB, xR, xK, xU, xH, xF, xG, xT, xc, xo, xl, rd_kl so p ff 12, ho, xC, ce, xt1, vp_updL xL1 (3 * (12 * h + eX) + p) 0, va, la, gi, gSk, gOd, gIo, gSo, gNa, gSh, gSr, gMa, gTi, gCe)) → (¬ (oX = 12 ∧ rd_ap lm p h = 0 ∧ eX < 12) → post (li, nw, gIt, pa, ab, dO, dP, dS, dF, dG, dR, dA, xB, xR, xK, xU, xH, xF, xG, xT, xc, xo, xl, rd_kl so p ff 12, ho, xC, ce, xt1, xL1, va, la, gi, gSk, gOd, gIo, gSo, gNa, gSh, gSr, gMa, gTi, gCe)) → wpX_clean post (li, nw, gIt, pa, ab, dO, dP, dS, dF, dG, dR, dA, xB, xR, xK, xU, xH, xF, xG, xT, xc, xo, xl, rd_kl so p ff 12, ho, xC, ce, xt1, xL1, va, la, gi, gSk, gOd, gIo, gSo, gNa, gSh, gSr, gMa, gTi, gCe) (nI p) (nI (12 * p + k)) := by
    intro post h1 h0
    refine xC' post (fun z => h0 (fun q => by omega)) (fun co => xq_linked hp3 hh a1.1 b1 ?_)
    rcases hap1 with lk | lk
    · rw [lk]
      refine br_f (by decide) ⟨rd_in hi36, rd_in hi36, xE _ ?_⟩
      unfold wX_clean_97
      by_cases c : eX = 12
      · rw [if_pos c]
        exact br_t rd_m1n (h0 (fun z => by omega))
      · rw [if_neg c, ci, eho, rd_m12, nI_add, rd_m3, nI_add, rd_cl (by omega)]
        exact br_f (nI_pos (by omega)) ⟨rd_in hi36, rd_in (by omega), nm_e (h1 ⟨co, lk, by omega⟩)⟩
    · rw [lk]
      refine br_t rfl ?_
      unfold wX_clean_97
      exact br_t rd_m1n (h0 (fun z => by omega))
  by_cases go : oX = 12 ∧ rd_ap lm p h = 0 ∧ eX < 12
  · have eYX := hXY go.2.2
    obtain ⟨f1, f2⟩ := x4.resolve_left (by omega)
    refine ⟨rd_u le1 (3 * (12 * h + eX) + p) 0, vp_updL xL1 (3 * (12 * h + eX) + p) 0, upd yL1 (3 * (12 * h + eX) + p) 0, ⟨fun x hx q hq => ?_, fun x hx h1 q hq => ?_⟩, fun post hp => xD post (fun _ => hp) (fun z => absurd go z), fun post hp => yD post (fun _ => by rw [eYX]; exact hp) (fun z => absurd ⟨go.1, go.2.1, by omega⟩ z)⟩
    · by_cases z : 3 * x + q = 3 * (12 * h + eX) + p
      · rw [z, rd_us, pk_uLs]
        exact ⟨rfl, Nat.zero_le _, fun _ => rfl⟩
      · rw [rd_un z, pk_uLn z]; exact hM.1 x hx q hq
    · by_cases z : 3 * x + q = 3 * (12 * h + eX) + p
      · rw [z, rd_us, pk_us]; rfl
      · rw [rd_un z, pk_un z]; exact hM.2 x hx h1 q hq
  · by_cases goY : oX = 12 ∧ rd_ap lm p h = 0 ∧ eY < 12
    · obtain ⟨g1, g2⟩ := y4.resolve_left (by omega)
      have hno : ¬ rd_kl so p ff 12 (12 * h + eY) = 1 := fun z => by
        by_cases c : eX = 12
        · exact x3 eY (by omega) (by omega) ⟨z, g2⟩
        · exact go ⟨goY.1, goY.2.1, by omega⟩
      refine ⟨le1, xL1, upd yL1 (3 * (12 * h + eY) + p) 0, ⟨hM.1, fun x hx h1 q hq => ?_⟩, fun post hp => xD post (fun z => absurd z go) (fun _ => hp), fun post hp => yD post (fun _ => hp) (fun z => absurd goY z)⟩
      rw [pk_un (fun z => hno (by rw [← show x = 12 * h + eY by omega]; exact h1))]
      exact hM.2 x hx h1 q hq
    · exact ⟨le1, xL1, yL1, hM, fun post hp => xD post (fun z => absurd z go) (fun _ => hp), fun post hp => yD post (fun z => absurd z goY) (fun _ => hp)⟩
end
end
section
/-! owed: collect -/
section
variable {K N p lm t : Nat} {P sh fl sg st oc tk le hm gv : Nat → Nat} {pr kn : Nat → Option Nat} {ff : Nat → Bool} {xt1 : rt_F}
variable {li gIt pa ab yN yk tm hIt py bl : Int32} {dO dP dS dF dG dR dA xB xR xK xU xH xF xG xT xc xo xl so ho xC ce xt va la gi gSk gOd gIo gSo gNa gSh gSr gMa gTi gCe yB yR yK yO yA yH yF yG yU yT yb yc yl yp yC yt yL ap ys hLi hOp hNa hSh hSr hTi hCe hRe : Nat → Int32} {nw : Int64} {xL : Nat → Int64}
theorem yq_19n {post : Int32 → SY → Prop} {F k : Nat} (hR : rd_OR K (N, P, sh, fl, sg, st, pr, kn) (oc, tk, le, hm, gv, lm, t) (so, ho, ce, va, la, gi) (li, nw, xC, xt, xL) (tm, yC, yt, yL, ap)) (hp3 : p < 3) (hYS : rd_YS ys ff) (hk : k < 12) (hb : rd_bs so p ff 12 k = false) {yL1 : rt_F} (W : wY_collect_19 post (nI p) F (nI (rd_cn (rd_ct so p ff) (k + 1))) (nI (k + 1)) yN yk tm hIt py bl dO dP dS dF dG dR dA yB yR yK yO yA yH yF yG yU yT yb yc yl yp so yC yt ho ce yL1 va la gi ap ys hLi hOp hNa hSh hSr hTi hCe hRe) : wY_collect_19 post (nI p) (F + 1) (nI (rd_cn (rd_ct so p ff) k)) (nI k) yN yk tm hIt py bl dO dP dS dF dG dR dA yB yR yK yO yA yH yF yG yU yT yb yc yl yp so yC yt ho ce yL1 va la gi ap ys hLi hOp hNa hSh hSr hTi hCe hRe := by
  have ci : (nI (12 * p + k)).toNatClampNeg = 12 * p + k := rd_cl (by omega)
  have hct : rd_cn (rd_ct so p ff) (k + 1) = rd_cn (rd_ct so p ff) k + (if rd_ct so p ff k = true then 1 else 0) := rfl
  refine br_f (nI_ge (b := 12) hk (by omega)) ?_
  rw [rd_m12, nI_add]
  refine nm_e ⟨rd_in hk, ?_⟩
  rw [rd_cl (show k < 3000 by omega), hYS k hk, ci]
  by_cases c : ff k = true
  · rw [hct, if_neg (by rw [show rd_ct so p ff k = false from decide_eq_false (fun z => by rw [c] at z; exact nomatch z.2)]; decide), Nat.add_zero] at W
    exact br_f (fun z => by rw [rd_bn0.mp z] at c; exact nomatch c) (nm_r (nI_1 k) W)
  · have c' : ff k = false := by cases h : ff k with | true => exact absurd h c | false => rfl
    refine br_t (rd_bn0.mpr c') ⟨rd_in (by omega), ?_⟩
    by_cases c0 : so (12 * p + k) = 0
    · rw [hct, if_neg (by rw [show rd_ct so p ff k = false from decide_eq_false (fun z => z.1 c0)]; decide), Nat.add_zero] at W
      exact br_t c0 (nm_r (nI_1 k) W)
    · rw [hct, if_pos (show rd_ct so p ff k = true from decide_eq_true ⟨c0, c'⟩)] at W
      have c2 : ¬ so (12 * p + k) = 2 := fun z => by
        have := of_decide_eq_false hb
        exact this ⟨hk, z, c'⟩
      exact br_f c0 (nm_r (nI_1 _) ⟨rd_in (by omega), br_f c2 (nm_r (nI_1 k) W)⟩)
theorem rd_19Y (hR : rd_OR K (N, P, sh, fl, sg, st, pr, kn) (oc, tk, le, hm, gv, lm, t) (so, ho, ce, va, la, gi) (li, nw, xC, xt, xL) (tm, yC, yt, yL, ap)) (hp3 : p < 3) (hYS : rd_YS ys ff) {yL1 : rt_F} : ∀ (e k : Nat), k + e = 12 → (∀ i, k ≤ i → i < 12 → rd_bs so p ff 12 i = false) →
    (∀ post : Int32 → SY → Prop, (∃ n, wY_collect_84 post (nI p) (nI (rd_cn (rd_ct so p ff) 12)) yN yk tm hIt py bl n 0 dO dP dS dF dG dR dA yB yR yK yO yA yH yF yG yU yT yb yc yl yp so yC yt ho ce yL1 va la gi ap ys hLi hOp hNa hSh hSr hTi hCe hRe) → ∃ n, wY_collect_19 post (nI p) n (nI (rd_cn (rd_ct so p ff) k)) (nI k) yN yk tm hIt py bl dO dP dS dF dG dR dA yB yR yK yO yA yH yF yG yU yT yb yc yl yp so yC yt ho ce yL1 va la gi ap ys hLi hOp hNa hSh hSr hTi hCe hRe) := by
  intro e
  induction e with
  | zero =>
    intro k hk _ post h
    obtain rfl : k = 12 := by omega
    exact ⟨1, br_t (Int32.le_refl _) h⟩
  | succ e ih =>
    intro k hk hb post h
    obtain ⟨F, hF⟩ := ih (k + 1) (by omega) (fun i h1 h2 => hb i (by omega) h2) post h
    exact ⟨F + 1, yq_19n hR hp3 hYS (by omega) (hb k (Nat.le_refl _) (by omega)) hF⟩
theorem rd_19 {C : Int32} (hR : rd_OR K (N, P, sh, fl, sg, st, pr, kn) (oc, tk, le, hm, gv, lm, t) (so, ho, ce, va, la, gi) (li, nw, xC, xt, xL) (tm, yC, yt, yL, ap)) (hK : K ≤ 4000) (hp3 : p < 3) (hYS : rd_YS ys ff) (hxt1 : ∀ x, x < 36 → (so x = 2 ∨ ¬ rd_kl so p ff 12 x = 0) → xt1 x = xt x) :
    ∀ (e k : Nat) (le1 : Nat → Nat) (xL1 : Nat → Int64) (yL1 : rt_F) (rest : Int32), k + e = 12 → rd_M (rd_kl so p ff 12) t le1 xL1 yL1 → (∀ i, i < 32 → bt rest i = (decide (k + i < 12) && rd_bs so p ff 12 (k + i))) →
    ∃ (le2 : Nat → Nat) (xL2 : Nat → Int64) (yL2 : rt_F), rd_M (rd_kl so p ff 12) t le2 xL2 yL2 ∧
      (∀ post : Int32 → SX → Prop, post C (li, nw, gIt, pa, ab, dO, dP, dS, dF, dG, dR, dA, xB, xR, xK, xU, xH, xF, xG, xT, xc, xo, xl, rd_kl so p ff 12, ho, xC, ce, xt1, xL2, va, la, gi, gSk, gOd, gIo, gSo, gNa, gSh, gSr, gMa, gTi, gCe) → ∃ n, wX_collect_115 post (nI p) C n rest (nI k) li nw gIt pa ab dO dP dS dF dG dR dA xB xR xK xU xH xF xG xT xc xo xl (rd_kl so p ff 12) ho xC ce xt1 xL1 va la gi gSk gOd gIo gSo gNa gSh gSr gMa gTi gCe) ∧
      (∀ post : Int32 → SY → Prop, (∃ n, wY_collect_84 post (nI p) (nI (rd_cn (rd_ct so p ff) 12)) yN yk tm hIt py bl n 0 dO dP dS dF dG dR dA yB yR yK yO yA yH yF yG yU yT yb yc yl yp so yC yt ho ce yL2 va la gi ap ys hLi hOp hNa hSh hSr hTi hCe hRe) → ∃ n, wY_collect_19 post (nI p) n (nI (rd_cn (rd_ct so p ff) k)) (nI k) yN yk tm hIt py bl dO dP dS dF dG dR dA yB yR yK yO yA yH yF yG yU yT yb yc yl yp so yC yt ho ce yL1 va la gi ap ys hLi hOp hNa hSh hSr hTi hCe hRe) := by
  intro e
  induction e with
  | zero =>
    intro k le1 xL1 yL1 rest hk hM hb
    obtain rfl : k = 12 := by omega
    have hr : rest = 0 := b_ext (fun i hi => by rw [hb i hi, decide_eq_false (by omega), Bool.false_and, b_0])
    exact ⟨le1, xL1, yL1, hM, fun post hp => ⟨1, br_t hr hp⟩, fun post h => ⟨1, br_t (Int32.le_refl _) h⟩⟩
  | succ e ih =>
    intro k le1 xL1 yL1 rest hk hM hb
    have hk12 : k < 12 := by omega
    have hb0 := hb 0 (by omega)
    rw [Nat.add_zero, decide_eq_true hk12, Bool.true_and] at hb0
    have hand : rest &&& 1 = nI (rd_bn (rd_bs so p ff 12 k)) := by rw [rd_and1, hb0]
    have hb' : ∀ i, i < 32 → bt ((rest.toUInt32 >>> ((1 : Int32).toUInt32 &&& Int32.toUInt32 31)).toInt32) i = (decide (k + 1 + i < 12) && rd_bs so p ff 12 (k + 1 + i)) := by
      intro i hi
      rw [show (1 : Int32) = nI 1 from rfl, b_ushr 1 (by omega) rest i]
      by_cases c : 1 + i < 32
      · rw [hb (1 + i) c, show k + (1 + i) = k + 1 + i by omega]
      · rw [b_big (by omega), decide_eq_false (by omega), Bool.false_and]
    cases hbk : rd_bs so p ff 12 k with
    | true =>
      obtain ⟨_, hsk, hfk⟩ := of_decide_eq_true hbk
      rw [hbk] at hand
      have hr : ¬ rest = 0 := fun z => by
        rw [z, b_0, hbk] at hb0
        exact nomatch hb0
      obtain ⟨le2, xL2, yL2, hM2, X1, Y1⟩ := rd_drop (pa := pa) (ab := ab) (py := py) (bl := bl) (dO := dO) (dP := dP) (dS := dS) (dF := dF) (dG := dG) (dR := dR) (dA := dA) (xB := xB) (xR := xR) (xK := xK) (xU := xU) (xH := xH) (xF := xF) (xG := xG) (xT := xT) (xc := xc) (xo := xo) (xl := xl) (gIt := gIt) (gSk := gSk) (gOd := gOd) (gIo := gIo) (gSo := gSo) (gNa := gNa) (gSh := gSh) (gSr := gSr) (gMa := gMa) (gTi := gTi) (gCe := gCe) (yN := yN) (yB := yB) (yR := yR) (yK := yK) (yO := yO) (yA := yA) (yH := yH) (yF := yF) (yG := yG) (yU := yU) (yT := yT) (yk := yk) (yb := yb) (yc := yc) (yl := yl) (yp := yp) (hIt := hIt) (hLi := hLi) (hOp := hOp) (hNa := hNa) (hSh := hSh) (hSr := hSr) (hTi := hTi) (hCe := hCe) (hRe := hRe) hR hK hp3 hYS hxt1 hk12 hsk hM
      obtain ⟨le3, xL3, yL3, hM3, X2, Y2⟩ := ih (k + 1) le2 xL2 yL2 _ (by omega) hM2 hb'
      have e12 : 12 * nI p + nI k = nI (12 * p + k) := by rw [rd_m12, nI_add]
      have ci : (nI (12 * p + k)).toNatClampNeg = 12 * p + k := rd_cl (by omega)
      have n0 : ¬ so (12 * p + k) = 0 := by rw [hsk]; decide
      have hct : rd_cn (rd_ct so p ff) (k + 1) = rd_cn (rd_ct so p ff) k + 1 := by
        show rd_cn (rd_ct so p ff) k + (if rd_ct so p ff k = true then 1 else 0) = _
        rw [if_pos (show rd_ct so p ff k = true from decide_eq_true ⟨n0, hfk⟩)]
      refine ⟨le3, xL3, yL3, hM3, fun post hp => ?_, fun post h => ?_⟩
      · obtain ⟨F, hF⟩ := X2 post hp
        refine ⟨F + 1, br_f hr (br_t (by rw [hand]; rfl) ?_)⟩
        rw [e12]
        exact X1 _ (nm_e (nm_r (nI_1 k) hF))
      · obtain ⟨F, hF⟩ := Y2 post h
        rw [hct] at hF
        refine ⟨F + 1, br_f (nI_ge (b := 12) hk12 (by omega)) ?_⟩
        rw [e12]
        refine nm_e ⟨rd_in hk12, ?_⟩
        rw [rd_cl (show k < 3000 by omega), hYS k hk12, ci]
        exact br_t (rd_bn0.mpr hfk) ⟨rd_in (by omega), br_f n0 (nm_r (nI_1 _) ⟨rd_in (by omega), br_t hsk (Y1 _ (nm_r (nI_1 k) hF))⟩)⟩
    | false =>
      rw [hbk] at hand
      by_cases hr : rest = 0
      · have none : ∀ i, k ≤ i → i < 12 → rd_bs so p ff 12 i = false := fun i h1 h2 => by
          have := hb (i - k) (by omega)
          rw [hr, b_0, show k + (i - k) = i by omega, decide_eq_true h2, Bool.true_and] at this
          exact this.symm
        exact ⟨le1, xL1, yL1, hM, fun post hp => ⟨1, br_t hr hp⟩, rd_19Y hR hp3 hYS (e + 1) k hk none⟩
      · obtain ⟨le3, xL3, yL3, hM3, X2, Y2⟩ := ih (k + 1) le1 xL1 yL1 _ (by omega) hM hb'
        refine ⟨le3, xL3, yL3, hM3, fun post hp => ?_, fun post h => ?_⟩
        · obtain ⟨F, hF⟩ := X2 post hp
          exact ⟨F + 1, br_f hr (br_f (by rw [hand]; decide) (nm_e (nm_r (nI_1 k) hF)))⟩
        · obtain ⟨F, hF⟩ := Y2 post h
          exact ⟨F + 1, yq_19n hR hp3 hYS hk12 hbk hF⟩
/-- the relation after it -/
theorem rd_colR {le2 : Nat → Nat} {xL2 : Nat → Int64} {yL2 : rt_F} (hR : rd_OR K (N, P, sh, fl, sg, st, pr, kn) (oc, tk, le, hm, gv, lm, t) (so, ho, ce, va, la, gi) (li, nw, xC, xt, xL) (tm, yC, yt, yL, ap)) (hp3 : p < 3) (hxt1 : ∀ x, x < 36 → (so x = 2 ∨ ¬ rd_kl so p ff 12 x = 0) → xt1 x = xt x) (hM : rd_M (rd_kl so p ff 12) t le2 xL2 yL2) (hrt : ∀ k, k < 12 → rd_rt va la p 0 k → ff k = true) (hcl : ∀ i, i < 24 → ∀ u, u < 12 → ff (i / 2) = true → rd_tg so ce sh oc p i u → ff u = true) :
    rd_OR K (N, P, sh, fl, sg, st, pr, kn) (oc, tk, le2, hm, gv, lm, t) (rd_kl so p ff 12, ho, ce, va, la, gi) (li, nw, xC, xt1, xL2) (tm, yC, yt, yL2, ap) := by
  obtain ⟨⟨a1, a2, a3, a4, a5, a6, a7, a8, a9⟩, ⟨b1, b2, b3, b4, b5⟩, ⟨d1, d2, d3, d4, d5⟩⟩ := hR
  have kz : ∀ x, rd_kl so p ff 12 x = 0 ∨ rd_kl so p ff 12 x = so x := fun x => rd_kl_z
  have k1 : ∀ x, rd_kl so p ff 12 x = 1 → so x = 1 := fun x hx => by
    rcases kz x with e | e
    · rw [e] at hx; exact absurd hx (by decide)
    · rw [← e]; exact hx
  have k2 : ∀ x, rd_kl so p ff 12 x = 2 → so x = 2 := fun x hx => by
    rcases kz x with e | e
    · rw [e] at hx; exact absurd hx (by decide)
    · rw [← e]; exact hx
  have kn0 : ∀ x, ¬ rd_kl so p ff 12 x = 0 → ¬ so x = 0 := fun x hx z => hx (by
    rcases kz x with e | e
    · exact e
    · rw [e]; exact z)
  have kk : ∀ q u, q < 3 → u < 12 → (q = p → ff u = true) → rd_kl so p ff 12 (12 * q + u) = so (12 * q + u) := fun q u hq hu hf => by
    refine if_neg (fun z => ?_)
    have e : q = p := by omega
    have := z.2.2
    rw [show 12 * q + u - 12 * p = u by omega, hf e] at this
    exact nomatch this
  refine ⟨⟨a1, fun x hx => ?_, fun x hx h1 => a3 x hx (k1 x h1), fun x hx h2 => a4 x hx (k2 x h2), fun x hx y hy hxy h1 h2 h3 h4 => a5 x hx y hy hxy (k1 x h1) (k1 y h2) h3 h4, fun x hx q hq => ⟨(hM.1 x hx q hq).2.1, (hM.1 x hx q hq).2.2⟩, a7, fun q hq v hv => ⟨?_, ?_⟩, fun x hx h1 j hj hbit => ?_⟩,
    ⟨b1, b2, fun x hx h1 => b3 x hx (k1 x h1), fun x hx h0 => ?_, fun x hx q hq => (hM.1 x hx q hq).1⟩, ⟨d1, fun x hx h1 => d2 x hx (k1 x h1), fun x hx h0 => d3 x hx (kn0 x h0), hM.2, d5⟩⟩
  · obtain ⟨e1, e2, e3, e4⟩ := a2 x hx
    refine ⟨?_, e2, e3, e4⟩
    rcases kz x with e | e
    · exact Or.inl e
    · rw [e]; exact e1
  · obtain ⟨m, em, hm'⟩ := (a8 q hq v hv).1
    refine ⟨m, em, fun u eu => ⟨(hm' u eu).1, ?_⟩⟩
    rw [kk q u hq (hm' u eu).1 (fun e => hrt u (hm' u eu).1 ⟨v, by omega, hv, Or.inl (by rw [← e, em, eu]; rfl)⟩)]
    exact (hm' u eu).2
  · obtain ⟨m, em, hm'⟩ := (a8 q hq v hv).2
    refine ⟨m, em, fun u eu => ⟨(hm' u eu).1, ?_⟩⟩
    rw [kk q u hq (hm' u eu).1 (fun e => hrt u (hm' u eu).1 ⟨v, by omega, hv, Or.inr (by rw [← e, em, eu]; rfl)⟩)]
    exact (hm' u eu).2
  · obtain ⟨m, em, hm'⟩ := a9 x hx (k1 x h1) j hj hbit
    refine ⟨m, em, fun u eu => ⟨(hm' u eu).1, ?_⟩⟩
    rw [kk (x / 12) u (by omega) (hm' u eu).1 (fun e => ?_)]
    · exact (hm' u eu).2
    · have hx12 : 12 * p + x % 12 = x := by omega
      have hff : ff (x % 12) = true := by
        have := rd_kl_p (so := so) (p := p) (ff := ff) (o := x % 12) (by omega)
        rw [hx12, h1] at this
        cases hf : ff (x % 12) with
        | true => rfl
        | false => rw [hf, if_pos rfl] at this; exact absurd this (by decide)
      refine hcl (2 * (x % 12) + j) (by omega) u (hm' u eu).1 (by rw [show (2 * (x % 12) + j) / 2 = x % 12 by omega]; exact hff) ⟨?_, ?_, ?_⟩
      · rw [show (2 * (x % 12) + j) / 2 = x % 12 by omega, hx12]; exact k1 x h1
      · rw [show (2 * (x % 12) + j) / 2 = x % 12 by omega, show (2 * (x % 12) + j) % 2 = j by omega, hx12]; exact hbit
      · rw [show 24 * p + (2 * (x % 12) + j) = 2 * x + j by omega, em, eu]; rfl
  · rw [hxt1 x hx (Or.inr h0)]; exact b4 x hx (kn0 x h0)
end
theorem i_vc_collect {k : Nat} {u : SX} {v : SY} (I : i_Rel k u v) (hk : k + 7 ≤ 3584) (v1 : Int32) : wpX_collect (fun r u' => wpY_collect (fun r' v' => r' = r ∧ i_Rel (k + 7) u' v') v v1) u v1 := by
  refine rd_fin (WX := fun post => wpX_collect post u v1) (WY := fun post => wpY_collect post v v1) ?_
  obtain ⟨T, A, pa, ab, bl, d, c, c', t, t', w, o, o', ys, g, g', rfl, rfl, hpa, hD, hC, hR⟩ := I
  have hR7 := rd_OR_mono (show k ≤ k + 7 by omega) hR
  have rel : i_Rel (k + 7) (rd_X pa ab d c t w o g) (rd_Y pa bl d c' t' w o' ys g') := rd_mkrel hpa hD hC hR7
  rcases rd_place v1 with ⟨p, hp3, rfl⟩ | ⟨hX, hY⟩
  case inr =>
    refine ⟨-1, _, _, rel, fun post hp => ?_, fun post hp => ?_⟩
    · unfold wpX_collect rd_X
      dsimp only
      exact hX _ (br_t rfl hp)
    · unfold wpY_collect rd_Y
      dsimp only
      exact hY _ (br_t rfl hp)
  obtain ⟨N, P, sh, fl, sg, st, pr, kn⟩ := T
  obtain ⟨oc, tk, le, hm, gv, lm, tn⟩ := A
  obtain ⟨so, ho, ce, va, la, gi⟩ := w
  obtain ⟨li, nw, xC, xt, xL⟩ := o
  obtain ⟨tm, yC, yt, yL, ap⟩ := o'
  obtain ⟨dO, dP, dS, dF, dG, dR, dA⟩ := d
  obtain ⟨xB, xR, xK, xU, xH, xF, xG, xT⟩ := c
  obtain ⟨yN, yB, yR, yK, yO, yA, yH, yF, yG, yU, yT⟩ := c'
  obtain ⟨xc, xo, xl⟩ := t
  obtain ⟨yk, yb, yc, yl, yp⟩ := t'
  obtain ⟨gIt, gSk, gOd, gIo, gSo, gNa, gSh, gSr, gMa, gTi, gCe⟩ := g
  obtain ⟨hIt, hLi, hOp, hNa, hSh, hSr, hTi, hCe, hRe⟩ := g'
  obtain ⟨ff, set, ys1, k1, k2, k3, k4, X1, Y1⟩ := rd_keep (ys := ys) (pa := pa) (ab := ab) (py := pa) (bl := bl) (dO := dO) (dP := dP) (dS := dS) (dF := dF) (dG := dG) (dR := dR) (dA := dA) (xc := xc) (xo := xo) (xl := xl) (gIt := gIt) (gSk := gSk) (gOd := gOd) (gIo := gIo) (gSo := gSo) (gNa := gNa) (gSh := gSh) (gSr := gSr) (gMa := gMa) (gTi := gTi) (gCe := gCe) (yk := yk) (yb := yb) (yc := yc) (yl := yl) (yp := yp) (hIt := hIt) (hLi := hLi) (hOp := hOp) (hNa := hNa) (hSh := hSh) (hSr := hSr) (hTi := hTi) (hCe := hCe) (hRe := hRe) hC hR7 (by omega) hp3
  have hle : ∀ x, x < 36 → ∀ q, q < 3 → (if so x = 1 then le (3 * x + q) else 0) = le (3 * x + q) := fun x hx q hq => by
    by_cases c : so x = 1
    · rw [if_pos c]
    · rw [if_neg c, (hR.1.2.2.2.2.2.1 x hx q hq).2 c]
  obtain ⟨xt2, xL2, x4, f1, f2, X2⟩ := xq_c23 (p := p) (pa := pa) (ab := ab) (dO := dO) (dP := dP) (dS := dS) (dF := dF) (dG := dG) (dR := dR) (dA := dA) (xB := xB) (xR := xR) (xK := xK) (xU := xU) (xH := xH) (xF := xF) (xG := xG) (xT := xT) (xc := xc) (xo := xo) (xl := xl) (gIt := gIt) (gSk := gSk) (gOd := gOd) (gIo := gIo) (gSo := gSo) (gNa := gNa) (gSh := gSh) (gSr := gSr) (gMa := gMa) (gTi := gTi) (gCe := gCe) hR7 hp3 k1 12 0 xt xL 0 (by omega) (rd_BSsame rd_BS0 (fun k _ => decide_eq_false (fun z => by omega))) ⟨fun _ _ _ => rfl, fun x hx q hq => by rw [rd_kl0, hle x hx q hq]; exact hR.2.1.2.2.2.2 x hx q hq⟩
  have hM : rd_M (rd_kl so p ff 12) tn (fun y => if rd_kl so p ff 12 (y / 3) = 1 then le y else 0) xL2 yL := by
    refine ⟨fun x hx q hq => ?_, fun x hx h1 q hq => ?_⟩
    · have hb := (hR.1.2.2.2.2.2.1 x hx q hq).1
      refine ⟨?_, ?_, fun h1 => ?_⟩
      · rw [f2.2 x hx q hq]
        show _ = lN (if rd_kl so p ff 12 ((3 * x + q) / 3) = 1 then le (3 * x + q) else 0)
        rw [show (3 * x + q) / 3 = x by omega]
      · show (if rd_kl so p ff 12 ((3 * x + q) / 3) = 1 then le (3 * x + q) else 0) ≤ tn + 10
        by_cases c : rd_kl so p ff 12 ((3 * x + q) / 3) = 1
        · rw [if_pos c]; exact hb
        · rw [if_neg c]; exact Nat.zero_le _
      · show (if rd_kl so p ff 12 ((3 * x + q) / 3) = 1 then le (3 * x + q) else 0) = 0
        rw [show (3 * x + q) / 3 = x by omega, if_neg h1]
    · show yL (3 * x + q) = nI (rd_lv tn (if rd_kl so p ff 12 ((3 * x + q) / 3) = 1 then le (3 * x + q) else 0))
      rw [show (3 * x + q) / 3 = x by omega, if_pos h1]
      refine hR.2.2.2.2.2.1 x hx ?_ q hq
      rcases rd_kl_z (so := so) (p := p) (ff := ff) (j := 12) (x := x) with e | e
      · rw [e] at h1; exact absurd h1 (by decide)
      · rw [← e]; exact h1
  obtain ⟨le3, xL3, yL3, hM3, X3, Y3⟩ := rd_19 (C := nI (rd_cn (rd_ct so p ff) 12)) (ys := ys1) (pa := pa) (ab := ab) (py := pa) (bl := bl) (dO := dO) (dP := dP) (dS := dS) (dF := dF) (dG := dG) (dR := dR) (dA := dA) (xB := xB) (xR := xR) (xK := xK) (xU := xU) (xH := xH) (xF := xF) (xG := xG) (xT := xT) (xc := xc) (xo := xo) (xl := xl) (gIt := gIt) (gSk := gSk) (gOd := gOd) (gIo := gIo) (gSo := gSo) (gNa := gNa) (gSh := gSh) (gSr := gSr) (gMa := gMa) (gTi := gTi) (gCe := gCe) (yN := yN) (yB := yB) (yR := yR) (yK := yK) (yO := yO) (yA := yA) (yH := yH) (yF := yF) (yG := yG) (yU := yU) (yT := yT) (yk := yk) (yb := yb) (yc := yc) (yl := yl) (yp := yp) (hIt := hIt) (hLi := hLi) (hOp := hOp) (hNa := hNa) (hSh := hSh) (hSr := hSr) (hTi := hTi) (hCe := hCe) (hRe := hRe) hR7 (by omega) hp3 k2 f2.1 12 0 _ xL2 yL x4 (by omega) hM (fun i hi => by rw [Nat.zero_add]; exact f1 i hi)
  have hRf := rd_colR hR7 hp3 f2.1 hM3 k3 k4
  refine ⟨nI (rd_cn (rd_ct so p ff) 12), rd_X pa ab (dO, dP, dS, dF, dG, dR, dA) (xB, xR, xK, xU, xH, xF, xG, xT) (xc, xo, xl) (rd_kl so p ff 12, ho, ce, va, la, gi) (li, nw, xC, xt2, xL3) (gIt, gSk, gOd, gIo, gSo, gNa, gSh, gSr, gMa, gTi, gCe), rd_Y pa bl (dO, dP, dS, dF, dG, dR, dA) (yN, yB, yR, yK, yO, yA, yH, yF, yG, yU, yT) (yk, yb, yc, yl, yp) (rd_kl so p ff 12, ho, ce, va, la, gi) (tm, yC, yt, yL3, ap) ys1 (hIt, hLi, hOp, hNa, hSh, hSr, hTi, hCe, hRe), rd_mkrel hpa hD hC hRf, fun post hp => ?_, fun post hp => ?_⟩
  · unfold wpX_collect rd_X
    dsimp only
    refine xq_place1 hp3 (br_f (by decide) (X1 _ ?_))
    have := X2 post (X3 post hp)
    rw [rd_kl0] at this
    exact this
  · unfold wpY_collect rd_Y
    dsimp only
    refine yq_n1 (n := 3) hp3 (by omega) (br_f (by decide) (Y1 _ ?_))
    exact Y3 post (yq_c84 hp3 k2 hp)
end
section
/-! owed: the beginning -/
theorem rd_f0 {f : rt_F} {x : Int32} : (fun v => if v < 0 then x else f v) = f := by
  funext v
  exact if_neg (by omega)
theorem rd_cn0 {q : Nat → Bool} : ∀ n, (∀ i, i < n → q i = false) → rd_cn q n = 0 := by
  intro n
  induction n with
  | zero => intro _; rfl
  | succ n ih =>
    intro h
    show rd_cn q n + (if q n = true then 1 else 0) = 0
    rw [ih (fun i hi => h i (by omega)), h n (by omega)]
    rfl
theorem rd_ap7 : ∀ p, p < 3 → ∀ q, q < 3 → rd_ap 7 p q = 0 := by decide +kernel
theorem xq_init {post : SX → Prop} (h : post (rd_X (-1) (-1) (fun _ => 0, fun _ => 0, fun _ => 0, fun _ => 0, fun _ => 0, fun _ => 0, (fun v => if v < 3 then -1 else 0)) (fun _ => 0, fun _ => 0, (fun v => if v < 180 then -1 else 0), fun _ => 0, fun _ => 0, fun _ => 0, fun _ => 0, fun _ => 0) (fun _ => 0, fun _ => 0, fun _ => 0) (fun _ => 0, fun _ => 0, fun _ => 0, (fun v => if v < 12 then -1 else 0), (fun v => if v < 12 then -1 else 0), fun _ => 0) (7, 0, fun _ => 0, fun _ => 0, fun _ => 0) (0, fun _ => 0, fun _ => 0, fun _ => 0, fun _ => 0, fun _ => 0, fun _ => 0, fun _ => 0, fun _ => 0, fun _ => 0, fun _ => 0))) : wpX_init post := by
  have h3 : ∃ n, wX_init_363 post 7 0 0 (-1) (-1) n 0 (fun _ => 0) (fun _ => 0) (fun _ => 0) (fun _ => 0) (fun _ => 0) (fun _ => 0) (fun v => if v < 3 then -1 else 0) (fun _ => 0) (fun _ => 0) (fun v => if v < 180 then -1 else 0) (fun _ => 0) (fun _ => 0) (fun _ => 0) (fun _ => 0) (fun _ => 0) (fun _ => 0) (fun _ => 0) (fun _ => 0) (fun _ => 0) (fun _ => 0) (fun _ => 0) (fun _ => 0) (fun _ => 0) (fun _ => 0) (fun _ => 0) (fun _ => 0) (fun _ => 0) (fun _ => 0) (fun _ => 0) (fun _ => 0) (fun _ => 0) (fun _ => 0) (fun _ => 0) (fun _ => 0) (fun _ => 0) (fun _ => 0) (fun _ => 0) := by
    have key := rd_run (fun f j => wX_init_363 post 7 0 0 (-1) (-1) f (nI j) (fun _ => 0) (fun _ => 0) (fun _ => 0) (fun _ => 0) (fun _ => 0) (fun _ => 0) (fun v => if v < 3 then -1 else 0) (fun _ => 0) (fun _ => 0) (fun v => if v < 180 then -1 else 0) (fun _ => 0) (fun _ => 0) (fun _ => 0) (fun _ => 0) (fun _ => 0) (fun _ => 0) (fun _ => 0) (fun _ => 0) (fun _ => 0) (fun _ => 0) (fun _ => 0) (fun _ => 0) (fun _ => 0) (fun _ => 0) (fun v => if v < j then -1 else 0) (fun v => if v < j then -1 else 0) (fun _ => 0) (fun _ => 0) (fun _ => 0) (fun _ => 0) (fun _ => 0) (fun _ => 0) (fun _ => 0) (fun _ => 0) (fun _ => 0) (fun _ => 0) (fun _ => 0)) (i := 0) (k := 12) (by omega) ⟨1, br_t (Int32.le_refl _) h⟩ (fun f j _ hj W => by
      refine br_f (nI_ge (b := 12) hj (by omega)) ⟨rd_in hj, ?_⟩
      rw [rd_cl (by omega), rd_nbm, rd_fill]
      exact nm_e ⟨rd_in hj, nm_e (nm_r (nI_1 j) W)⟩)
    obtain ⟨f, hf⟩ := key
    rw [rd_f0] at hf
    exact ⟨f, hf⟩
  have h2 : ∃ n, wX_init_341 post 7 0 0 (-1) (-1) n 0 (fun _ => 0) (fun _ => 0) (fun _ => 0) (fun _ => 0) (fun _ => 0) (fun _ => 0) (fun v => if v < 3 then -1 else 0) (fun _ => 0) (fun _ => 0) (fun _ => 0) (fun _ => 0) (fun _ => 0) (fun _ => 0) (fun _ => 0) (fun _ => 0) (fun _ => 0) (fun _ => 0) (fun _ => 0) (fun _ => 0) (fun _ => 0) (fun _ => 0) (fun _ => 0) (fun _ => 0) (fun _ => 0) (fun _ => 0) (fun _ => 0) (fun _ => 0) (fun _ => 0) (fun _ => 0) (fun _ => 0) (fun _ => 0) (fun _ => 0) (fun _ => 0) (fun _ => 0) (fun _ => 0) (fun _ => 0) (fun _ => 0) := by
    have key := rd_run (fun f j => wX_init_341 post 7 0 0 (-1) (-1) f (nI j) (fun _ => 0) (fun _ => 0) (fun _ => 0) (fun _ => 0) (fun _ => 0) (fun _ => 0) (fun v => if v < 3 then -1 else 0) (fun _ => 0) (fun _ => 0) (fun v => if v < j then -1 else 0) (fun _ => 0) (fun _ => 0) (fun _ => 0) (fun _ => 0) (fun _ => 0) (fun _ => 0) (fun _ => 0) (fun _ => 0) (fun _ => 0) (fun _ => 0) (fun _ => 0) (fun _ => 0) (fun _ => 0) (fun _ => 0) (fun _ => 0) (fun _ => 0) (fun _ => 0) (fun _ => 0) (fun _ => 0) (fun _ => 0) (fun _ => 0) (fun _ => 0) (fun _ => 0) (fun _ => 0) (fun _ => 0) (fun _ => 0) (fun _ => 0)) (i := 0) (k := 180) (by omega) ⟨1, br_t (Int32.le_refl _) h3⟩ (fun f j _ hj W => by
      refine br_f (nI_ge (b := 180) hj (by omega)) ⟨rd_in hj, ?_⟩
      rw [rd_cl (by omega), rd_nsm, rd_fill]
      exact nm_e (nm_r (nI_1 j) W))
    obtain ⟨f, hf⟩ := key
    rw [rd_f0] at hf
    exact ⟨f, hf⟩
  have h1 : ∃ n, wX_init_321 post 7 0 0 (-1) (-1) n 0 (fun _ => 0) (fun _ => 0) (fun _ => 0) (fun _ => 0) (fun _ => 0) (fun _ => 0) (fun _ => 0) (fun _ => 0) (fun _ => 0) (fun _ => 0) (fun _ => 0) (fun _ => 0) (fun _ => 0) (fun _ => 0) (fun _ => 0) (fun _ => 0) (fun _ => 0) (fun _ => 0) (fun _ => 0) (fun _ => 0) (fun _ => 0) (fun _ => 0) (fun _ => 0) (fun _ => 0) (fun _ => 0) (fun _ => 0) (fun _ => 0) (fun _ => 0) (fun _ => 0) (fun _ => 0) (fun _ => 0) (fun _ => 0) (fun _ => 0) (fun _ => 0) (fun _ => 0) (fun _ => 0) (fun _ => 0) := by
    have key := rd_run (fun f j => wX_init_321 post 7 0 0 (-1) (-1) f (nI j) (fun _ => 0) (fun _ => 0) (fun _ => 0) (fun _ => 0) (fun _ => 0) (fun _ => 0) (fun v => if v < j then -1 else 0) (fun _ => 0) (fun _ => 0) (fun _ => 0) (fun _ => 0) (fun _ => 0) (fun _ => 0) (fun _ => 0) (fun _ => 0) (fun _ => 0) (fun _ => 0) (fun _ => 0) (fun _ => 0) (fun _ => 0) (fun _ => 0) (fun _ => 0) (fun _ => 0) (fun _ => 0) (fun _ => 0) (fun _ => 0) (fun _ => 0) (fun _ => 0) (fun _ => 0) (fun _ => 0) (fun _ => 0) (fun _ => 0) (fun _ => 0) (fun _ => 0) (fun _ => 0) (fun _ => 0) (fun _ => 0)) (i := 0) (k := 3) (by omega) ⟨1, br_t (Int32.le_refl _) h2⟩ (fun f j _ hj W => by
      refine br_f (nI_ge (b := 3) hj (by omega)) ⟨rd_in hj, ?_⟩
      rw [rd_cl (by omega), rd_nbm, rd_fill]
      exact nm_e (nm_r (nI_1 j) W))
    obtain ⟨f, hf⟩ := key
    rw [rd_f0] at hf
    exact ⟨f, hf⟩
  exact h1
theorem yq_init {post : SY → Prop} (h : post (rd_Y (-1) 0 (fun _ => 0, fun _ => 0, fun _ => 0, fun _ => 0, fun _ => 0, fun _ => 0, (fun v => if v < 3 then -1 else 0)) (0, fun _ => 0, fun _ => 0, (fun v => if v < 180 then -1 else 0), fun _ => 0, fun _ => 0, fun _ => 0, fun _ => 0, fun _ => 0, fun _ => 0, fun _ => 0) (0, fun _ => 0, fun _ => 0, fun _ => 0, fun _ => 0) (fun _ => 0, fun _ => 0, fun _ => 0, (fun v => if v < 12 then -1 else 0), (fun v => if v < 12 then -1 else 0), fun _ => 0) (0, fun _ => 0, fun _ => 0, fun _ => 0, fun _ => 0) (fun _ => 0) (0, fun _ => 0, fun _ => 0, fun _ => 0, fun _ => 0, fun _ => 0, fun _ => 0, fun _ => 0, fun _ => 0))) : wpY_init post := by
  have h3 : ∃ n, wY_init_386 post 0 0 0 0 (-1) 0 n 0 (fun _ => 0) (fun _ => 0) (fun _ => 0) (fun _ => 0) (fun _ => 0) (fun _ => 0) (fun _ => 0) (fun _ => 0) (fun _ => 0) (fun v => if v < 180 then -1 else 0) (fun _ => 0) (fun _ => 0) (fun _ => 0) (fun _ => 0) (fun _ => 0) (fun _ => 0) (fun _ => 0) (fun _ => 0) (fun _ => 0) (fun _ => 0) (fun _ => 0) (fun _ => 0) (fun _ => 0) (fun _ => 0) (fun _ => 0) (fun _ => 0) (fun _ => 0) (fun v => if v < 12 then -1 else 0) (fun v => if v < 12 then -1 else 0) (fun _ => 0) (fun _ => 0) (fun _ => 0) (fun _ => 0) (fun _ => 0) (fun _ => 0) (fun _ => 0) (fun _ => 0) (fun _ => 0) (fun _ => 0) (fun _ => 0) := by
    have key := rd_run (fun f j => wY_init_386 post 0 0 0 0 (-1) 0 f (nI j) (fun _ => 0) (fun _ => 0) (fun _ => 0) (fun _ => 0) (fun _ => 0) (fun _ => 0) (fun v => if v < j then -1 else 0) (fun _ => 0) (fun _ => 0) (fun v => if v < 180 then -1 else 0) (fun _ => 0) (fun _ => 0) (fun _ => 0) (fun _ => 0) (fun _ => 0) (fun _ => 0) (fun _ => 0) (fun _ => 0) (fun _ => 0) (fun _ => 0) (fun _ => 0) (fun _ => 0) (fun _ => 0) (fun _ => 0) (fun _ => 0) (fun _ => 0) (fun _ => 0) (fun v => if v < 12 then -1 else 0) (fun v => if v < 12 then -1 else 0) (fun _ => 0) (fun _ => 0) (fun _ => 0) (fun _ => 0) (fun _ => 0) (fun _ => 0) (fun _ => 0) (fun _ => 0) (fun _ => 0) (fun _ => 0) (fun _ => 0)) (i := 0) (k := 3) (by omega) ⟨1, br_t (Int32.le_refl _) h⟩ (fun f j _ hj W => by
      refine br_f (nI_ge (b := 3) hj (by omega)) ⟨rd_in hj, ?_⟩
      rw [rd_cl (by omega), rd_fill]
      exact nm_e (nm_r (nI_1 j) W))
    obtain ⟨f, hf⟩ := key
    rw [rd_f0] at hf
    exact ⟨f, hf⟩
  have h2 : ∃ n, wY_init_358 post 0 0 0 0 (-1) 0 n 0 (fun _ => 0) (fun _ => 0) (fun _ => 0) (fun _ => 0) (fun _ => 0) (fun _ => 0) (fun _ => 0) (fun _ => 0) (fun _ => 0) (fun v => if v < 180 then -1 else 0) (fun _ => 0) (fun _ => 0) (fun _ => 0) (fun _ => 0) (fun _ => 0) (fun _ => 0) (fun _ => 0) (fun _ => 0) (fun _ => 0) (fun _ => 0) (fun _ => 0) (fun _ => 0) (fun _ => 0) (fun _ => 0) (fun _ => 0) (fun _ => 0) (fun _ => 0) (fun _ => 0) (fun _ => 0) (fun _ => 0) (fun _ => 0) (fun _ => 0) (fun _ => 0) (fun _ => 0) (fun _ => 0) (fun _ => 0) (fun _ => 0) (fun _ => 0) (fun _ => 0) (fun _ => 0) := by
    have key := rd_run (fun f j => wY_init_358 post 0 0 0 0 (-1) 0 f (nI j) (fun _ => 0) (fun _ => 0) (fun _ => 0) (fun _ => 0) (fun _ => 0) (fun _ => 0) (fun _ => 0) (fun _ => 0) (fun _ => 0) (fun v => if v < 180 then -1 else 0) (fun _ => 0) (fun _ => 0) (fun _ => 0) (fun _ => 0) (fun _ => 0) (fun _ => 0) (fun _ => 0) (fun _ => 0) (fun _ => 0) (fun _ => 0) (fun _ => 0) (fun _ => 0) (fun _ => 0) (fun _ => 0) (fun _ => 0) (fun _ => 0) (fun _ => 0) (fun v => if v < j then -1 else 0) (fun v => if v < j then -1 else 0) (fun _ => 0) (fun _ => 0) (fun _ => 0) (fun _ => 0) (fun _ => 0) (fun _ => 0) (fun _ => 0) (fun _ => 0) (fun _ => 0) (fun _ => 0) (fun _ => 0)) (i := 0) (k := 12) (by omega) ⟨1, br_t (Int32.le_refl _) h3⟩ (fun f j _ hj W => by
      refine br_f (nI_ge (b := 12) hj (by omega)) ⟨rd_in hj, ?_⟩
      rw [rd_cl (by omega), rd_fill]
      exact nm_e ⟨rd_in hj, nm_e (nm_r (nI_1 j) W)⟩)
    obtain ⟨f, hf⟩ := key
    rw [rd_f0] at hf
    exact ⟨f, hf⟩
  have h1 : ∃ n, wY_init_336 post 0 0 0 0 (-1) 0 n 0 (fun _ => 0) (fun _ => 0) (fun _ => 0) (fun _ => 0) (fun _ => 0) (fun _ => 0) (fun _ => 0) (fun _ => 0) (fun _ => 0) (fun _ => 0) (fun _ => 0) (fun _ => 0) (fun _ => 0) (fun _ => 0) (fun _ => 0) (fun _ => 0) (fun _ => 0) (fun _ => 0) (fun _ => 0) (fun _ => 0) (fun _ => 0) (fun _ => 0) (fun _ => 0) (fun _ => 0) (fun _ => 0) (fun _ => 0) (fun _ => 0) (fun _ => 0) (fun _ => 0) (fun _ => 0) (fun _ => 0) (fun _ => 0) (fun _ => 0) (fun _ => 0) (fun _ => 0) (fun _ => 0) (fun _ => 0) (fun _ => 0) (fun _ => 0) (fun _ => 0) := by
    have key := rd_run (fun f j => wY_init_336 post 0 0 0 0 (-1) 0 f (nI j) (fun _ => 0) (fun _ => 0) (fun _ => 0) (fun _ => 0) (fun _ => 0) (fun _ => 0) (fun _ => 0) (fun _ => 0) (fun _ => 0) (fun v => if v < j then -1 else 0) (fun _ => 0) (fun _ => 0) (fun _ => 0) (fun _ => 0) (fun _ => 0) (fun _ => 0) (fun _ => 0) (fun _ => 0) (fun _ => 0) (fun _ => 0) (fun _ => 0) (fun _ => 0) (fun _ => 0) (fun _ => 0) (fun _ => 0) (fun _ => 0) (fun _ => 0) (fun _ => 0) (fun _ => 0) (fun _ => 0) (fun _ => 0) (fun _ => 0) (fun _ => 0) (fun _ => 0) (fun _ => 0) (fun _ => 0) (fun _ => 0) (fun _ => 0) (fun _ => 0) (fun _ => 0)) (i := 0) (k := 180) (by omega) ⟨1, br_t (Int32.le_refl _) h2⟩ (fun f j _ hj W => by
      refine br_f (nI_ge (b := 180) hj (by omega)) ⟨rd_in hj, ?_⟩
      rw [rd_cl (by omega), rd_fill]
      exact nm_e (nm_r (nI_1 j) W))
    obtain ⟨f, hf⟩ := key
    rw [rd_f0] at hf
    exact ⟨f, hf⟩
  exact h1
theorem i_vc0 : wpX_init (fun u => wpY_init (fun v => i_Rel 0 u v)) := by
  refine xq_init (yq_init ?_)
  have n01 : ¬ (0 : Int32) = 1 := by decide
  have n02 : ¬ (0 : Int32) = 2 := by decide
  refine rd_mkrel (T := (0, fun _ => 0, fun _ => 0, fun _ => 0, fun _ => 0, fun _ => 0, fun _ => none, fun _ => none)) (A := (fun _ => 0, fun _ => 0, fun _ => 0, fun _ => 0, fun _ => 0, 7, 0)) (Or.inl rd_m1n) ?_ ⟨?_, ?_, ?_, ?_⟩ ⟨?_, ?_, ?_⟩
  · exact ⟨fun i hi => ⟨⟨some 0, rfl, fun j e => by cases e; omega⟩, ⟨0, by omega, rfl⟩, ⟨0, by omega, rfl⟩, ⟨0, by omega, rfl⟩⟩, fun i hi => ⟨0, by omega, rfl⟩, fun i hi => ⟨none, if_pos hi, fun j e => nomatch e⟩⟩
  · exact ⟨fun j hj => absurd hj (Nat.not_lt_zero _), fun k hk j e => (nomatch e), fun j hj => absurd hj (Nat.not_lt_zero _), fun p hp => rd_cn0 60 (fun i hi => rfl)⟩
  · exact ⟨fun k hk => if_pos hk, fun j hj => absurd hj (Nat.not_lt_zero _)⟩
  · exact ⟨rfl, fun k hk => if_pos hk, fun j hj => absurd hj (Nat.not_lt_zero _)⟩
  · exact fun p hp l hl => ⟨rfl, rfl⟩
  · refine ⟨⟨by omega, by omega⟩, fun i hi => ⟨Or.inl rfl, rfl, (show (0 : Nat) < 3 by omega), Nat.le_refl _⟩, fun i hi h => absurd h n01, fun i hi h => absurd h n02, fun i hi j hj _ h => absurd h n01, fun i hi p hp => ⟨Nat.zero_le _, fun _ => rfl⟩, fun p hp => ⟨rfl, Nat.le_refl _⟩, fun p hp v hv => ⟨⟨none, if_pos (by omega), fun k e => nomatch e⟩, ⟨none, if_pos (by omega), fun k e => nomatch e⟩⟩, fun i hi h => absurd h n01⟩
  · exact ⟨rfl, rfl, fun i hi h => absurd h n01, fun i hi h => rfl, fun i hi p hp => rfl⟩
  · exact ⟨rfl, fun i hi h => absurd h n01, fun i hi h => rfl, fun i hi h => absurd h n01, fun p hp q hq => by rw [rd_ap7 p hp q hq]; rfl⟩
end
